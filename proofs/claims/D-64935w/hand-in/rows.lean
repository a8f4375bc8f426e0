section
/-- a private method of a class that the tables say can be made, by its rows of tables_1 -/
def lw_okq (q : MethodName × Nat) : Prop := (q.1.cls ≠ "java/lang/invoke/MethodHandle" ∧ q.1.cls ≠ "java/lang/invoke/VarHandle") ∧ Cond.instantiable q.1.cls q.2 ∈ tables_1 ∧ Cond.privateMethod q.1 ∈ tables_1 ∧ Cond.instanceMethod q.1 ∈ tables_1
set_option maxRecDepth 100000
theorem lw_t1 {w : Cond} (h : w ∈ tables_1_1) : w ∈ tables_1 := List.mem_append_left _ h
theorem lw_t2 {w : Cond} (h : w ∈ tables_1_2) : w ∈ tables_1 := List.mem_append_right _ h
theorem lw_p0 : lw_okq (⟨"BoxFilters", "remember", "()V"⟩, 7) := ⟨⟨by decide +kernel, by decide +kernel⟩, lw_t1 (List.mem_of_getElem? (i := 4) rfl), lw_t1 (List.mem_of_getElem? (i := 53) rfl), lw_t1 (List.mem_of_getElem? (i := 54) rfl)⟩
theorem lw_p1 : lw_okq (⟨"BoxFilters", "filter", "(IIZ)V"⟩, 7) := ⟨⟨by decide +kernel, by decide +kernel⟩, lw_t1 (List.mem_of_getElem? (i := 4) rfl), lw_t1 (List.mem_of_getElem? (i := 57) rfl), lw_t1 (List.mem_of_getElem? (i := 58) rfl)⟩
theorem lw_p2 : lw_okq (⟨"BoxFilters", "filterLine", "(IIIZ)V"⟩, 7) := ⟨⟨by decide +kernel, by decide +kernel⟩, lw_t1 (List.mem_of_getElem? (i := 4) rfl), lw_t1 (List.mem_of_getElem? (i := 61) rfl), lw_t1 (List.mem_of_getElem? (i := 62) rfl)⟩
theorem lw_p3 : lw_okq (⟨"BoxFilters", "outdoes", "(IIZ)Z"⟩, 7) := ⟨⟨by decide +kernel, by decide +kernel⟩, lw_t1 (List.mem_of_getElem? (i := 4) rfl), lw_t1 (List.mem_of_getElem? (i := 65) rfl), lw_t1 (List.mem_of_getElem? (i := 66) rfl)⟩
theorem lw_p4 : lw_okq (⟨"BoxFilters", "changed", "()I"⟩, 7) := ⟨⟨by decide +kernel, by decide +kernel⟩, lw_t1 (List.mem_of_getElem? (i := 4) rfl), lw_t1 (List.mem_of_getElem? (i := 69) rfl), lw_t1 (List.mem_of_getElem? (i := 70) rfl)⟩
theorem lw_p5 : lw_okq (⟨"BoxFilters", "fillSums", "()V"⟩, 7) := ⟨⟨by decide +kernel, by decide +kernel⟩, lw_t1 (List.mem_of_getElem? (i := 4) rfl), lw_t1 (List.mem_of_getElem? (i := 89) rfl), lw_t1 (List.mem_of_getElem? (i := 90) rfl)⟩
theorem lw_p6 : lw_okq (⟨"BoxFilters", "meanAt", "(IIII)I"⟩, 7) := ⟨⟨by decide +kernel, by decide +kernel⟩, lw_t1 (List.mem_of_getElem? (i := 4) rfl), lw_t1 (List.mem_of_getElem? (i := 93) rfl), lw_t1 (List.mem_of_getElem? (i := 94) rfl)⟩
theorem lw_p7 : lw_okq (⟨"BoxFilters", "join", "(II)Z"⟩, 7) := ⟨⟨by decide +kernel, by decide +kernel⟩, lw_t1 (List.mem_of_getElem? (i := 4) rfl), lw_t1 (List.mem_of_getElem? (i := 132) rfl), lw_t1 (List.mem_of_getElem? (i := 133) rfl)⟩
theorem lw_p8 : lw_okq (⟨"BoxFilters", "find", "(I)I"⟩, 7) := ⟨⟨by decide +kernel, by decide +kernel⟩, lw_t1 (List.mem_of_getElem? (i := 4) rfl), lw_t1 (List.mem_of_getElem? (i := 136) rfl), lw_t1 (List.mem_of_getElem? (i := 137) rfl)⟩
theorem lw_p9 : lw_okq (⟨"BoxFiltersModel", "isPixel", "(II)Z"⟩, 5) := ⟨⟨by decide +kernel, by decide +kernel⟩, lw_t1 (List.mem_of_getElem? (i := 140) rfl), lw_t1 (List.mem_of_getElem? (i := 166) rfl), lw_t1 (List.mem_of_getElem? (i := 167) rfl)⟩
theorem lw_p10 : lw_okq (⟨"BoxFiltersModel", "filter", "(IIII)I"⟩, 5) := ⟨⟨by decide +kernel, by decide +kernel⟩, lw_t1 (List.mem_of_getElem? (i := 140) rfl), lw_t1 (List.mem_of_getElem? (i := 178) rfl), lw_t1 (List.mem_of_getElem? (i := 179) rfl)⟩
theorem lw_p11 : lw_okq (⟨"BoxFiltersModel", "carryOut", "(III)V"⟩, 5) := ⟨⟨by decide +kernel, by decide +kernel⟩, lw_t1 (List.mem_of_getElem? (i := 140) rfl), lw_t1 (List.mem_of_getElem? (i := 182) rfl), lw_t1 (List.mem_of_getElem? (i := 183) rfl)⟩
theorem lw_p12 : lw_okq (⟨"BoxFiltersModel", "look", "(IIII)I"⟩, 5) := ⟨⟨by decide +kernel, by decide +kernel⟩, lw_t1 (List.mem_of_getElem? (i := 140) rfl), lw_t1 (List.mem_of_getElem? (i := 186) rfl), lw_t1 (List.mem_of_getElem? (i := 187) rfl)⟩
theorem lw_p13 : lw_okq (⟨"BoxFiltersModel", "spread", "(I)Z"⟩, 5) := ⟨⟨by decide +kernel, by decide +kernel⟩, lw_t1 (List.mem_of_getElem? (i := 140) rfl), lw_t1 (List.mem_of_getElem? (i := 238) rfl), lw_t1 (List.mem_of_getElem? (i := 239) rfl)⟩
theorem lw_p14 : lw_okq (⟨"BoxFiltersModel", "take", "(II)Z"⟩, 5) := ⟨⟨by decide +kernel, by decide +kernel⟩, lw_t1 (List.mem_of_getElem? (i := 140) rfl), lw_t2 (List.mem_of_getElem? (i := 2) rfl), lw_t2 (List.mem_of_getElem? (i := 3) rfl)⟩
def lw_privs_1 : List (MethodName × Nat) := [(⟨"BoxFilters", "remember", "()V"⟩, 7), (⟨"BoxFilters", "filter", "(IIZ)V"⟩, 7), (⟨"BoxFilters", "filterLine", "(IIIZ)V"⟩, 7), (⟨"BoxFilters", "outdoes", "(IIZ)Z"⟩, 7), (⟨"BoxFilters", "changed", "()I"⟩, 7), (⟨"BoxFilters", "fillSums", "()V"⟩, 7), (⟨"BoxFilters", "meanAt", "(IIII)I"⟩, 7), (⟨"BoxFilters", "join", "(II)Z"⟩, 7), (⟨"BoxFilters", "find", "(I)I"⟩, 7), (⟨"BoxFiltersModel", "isPixel", "(II)Z"⟩, 5), (⟨"BoxFiltersModel", "filter", "(IIII)I"⟩, 5), (⟨"BoxFiltersModel", "carryOut", "(III)V"⟩, 5), (⟨"BoxFiltersModel", "look", "(IIII)I"⟩, 5), (⟨"BoxFiltersModel", "spread", "(I)Z"⟩, 5), (⟨"BoxFiltersModel", "take", "(II)Z"⟩, 5)]
theorem lw_r1 : ∀ q ∈ lw_privs_1, lw_okq q := List.forall_mem_cons.mpr ⟨lw_p0, List.forall_mem_cons.mpr ⟨lw_p1, List.forall_mem_cons.mpr ⟨lw_p2, List.forall_mem_cons.mpr ⟨lw_p3, List.forall_mem_cons.mpr ⟨lw_p4, List.forall_mem_cons.mpr ⟨lw_p5, List.forall_mem_cons.mpr ⟨lw_p6, List.forall_mem_cons.mpr ⟨lw_p7, List.forall_mem_cons.mpr ⟨lw_p8, List.forall_mem_cons.mpr ⟨lw_p9, List.forall_mem_cons.mpr ⟨lw_p10, List.forall_mem_cons.mpr ⟨lw_p11, List.forall_mem_cons.mpr ⟨lw_p12, List.forall_mem_cons.mpr ⟨lw_p13, List.forall_mem_cons.mpr ⟨lw_p14, fun _ h => absurd h List.not_mem_nil⟩⟩⟩⟩⟩⟩⟩⟩⟩⟩⟩⟩⟩⟩⟩
def lw_privs : List (MethodName × Nat) := lw_privs_1
def lw_tbl : List Cond := k2_sels lw_privs ++ tables_1
theorem lw_privs_ok : ∀ q ∈ lw_privs, lw_okq q := lw_r1
-- ===== ONE list of words for every method: the tables' words that hold all through a run =====
def lw_all : List Cond := lw_tbl.filter goodWord
/-- a word of the tables by its place: claim/WORDS.tsv -/
theorem lw_w {w : Cond} (i : Nat) (h : lw_tbl[i]? = some w) (g : goodWord w = true) : w ∈ lw_all := List.mem_filter.mpr ⟨List.mem_of_getElem? h, g⟩
theorem lw_all_tbl {w : Cond} (h : w ∈ lw_all) : w ∈ lw_tbl := (List.mem_filter.mp h).1
theorem lw_self : GoodIn lw_all lw_all := fun w h => ⟨h, good_of_word (List.mem_filter.mp h).2⟩
/-- a class's field words, by their places -/
theorem lw_in (ws : List Cond) (ps : List Nat) (hp : ws = ps.filterMap (fun i => lw_tbl[i]?)) (hg : ws.all goodWord = true) : ∀ w ∈ ws, w ∈ lw_all := by
  intro w h
  have h1 := List.all_eq_true.mp hg w h
  rw [hp] at h
  obtain ⟨i, -, hi⟩ := List.mem_filterMap.mp h
  exact lw_w i hi h1
/-- the words of a contract for the method y with code b, L locals, answer r -/
abbrev ws_ (y : MethodName) (b : ByteArray) (L : Nat) (r : Option FieldType) : List Cond := Cond.code y b L r :: lw_all
theorem lw_meth {y : MethodName} {b : ByteArray} {L : Nat} {r : Option FieldType} (h : Cond.code y b L r ∈ lw_all) : GoodIn lw_all (ws_ y b L r) := by
  intro w hw
  rcases List.mem_cons.mp hw with e | e
  · rw [e]
    exact lw_self _ h
  · exact lw_self _ e
theorem lw_app {a c : List Cond} (ha : ∀ w ∈ a, w ∈ lw_all) (hc : GoodIn lw_all c) : GoodIn lw_all (a ++ c) := by
  intro w hw
  rcases List.mem_append.mp hw with e | e
  · exact lw_self w (ha w e)
  · exact hc w e
/-- what a call through an object asks: cwV n hts (lw_V ..) -/
theorem lw_V {own : String} {idx : Nat} {C : String} {y : MethodName} {b : ByteArray} {L : Nat} {r : Option FieldType} (h1 : Cond.methodLink own idx y ∈ lw_all) (h2 : Cond.instanceMethod y ∈ lw_all) (h3 : Cond.selects C y y ∈ lw_all) (h4 : Cond.initialized C ∈ lw_all) (h5 : Cond.code y b L r ∈ lw_all) : GoodIn lw_all (wsV own idx C y (ws_ y b L r)) := by
  refine lw_app ?_ (lw_meth h5)
  intro w hw
  simp only [List.mem_cons, List.not_mem_nil, or_false] at hw
  rcases hw with e | e | e | e
  · rw [e]; exact h1
  · rw [e]; exact h2
  · rw [e]; exact h3
  · rw [e]; exact h4
/-- what a static call asks: va_cwS n hts (lw_S ..) -/
theorem lw_S {own : String} {idx : Nat} {y : MethodName} {b : ByteArray} {L : Nat} {r : Option FieldType} (h1 : Cond.methodLink own idx y ∈ lw_all) (h2 : Cond.static y ∈ lw_all) (h3 : Cond.initialized y.cls ∈ lw_all) (h4 : Cond.code y b L r ∈ lw_all) : GoodIn lw_all (va_wsS own idx y (ws_ y b L r)) := by
  refine lw_app ?_ (lw_meth h4)
  intro w hw
  simp only [List.mem_cons, List.not_mem_nil, or_false] at hw
  rcases hw with e | e | e
  · rw [e]; exact h1
  · rw [e]; exact h2
  · rw [e]; exact h3
/-- the words of a contract for a method WITH HANDLERS (hh: its table) -/
abbrev wsW_ (y : MethodName) (b : ByteArray) (L : Nat) (r : Option FieldType) (hh : List (Nat × Nat × Nat × Nat)) : List Cond := Cond.codeWith y b L r hh :: lw_all
theorem lw_methW {y : MethodName} {b : ByteArray} {L : Nat} {r : Option FieldType} {hh : List (Nat × Nat × Nat × Nat)} (h : Cond.codeWith y b L r hh ∈ lw_all) : GoodIn lw_all (wsW_ y b L r hh) := by
  intro w hw
  rcases List.mem_cons.mp hw with e | e
  · rw [e]
    exact lw_self _ h
  · exact lw_self _ e
/-- any list of words by their places (lw_in), good -/
theorem lw_good {ws : List Cond} (h : ∀ w ∈ ws, w ∈ lw_all) : GoodIn lw_all ws := fun w hw => lw_self w (h w hw)
/-- what a call of a method with handlers asks: vx_cwVW n hts (lw_VW ..), vx_cwSW n hts (lw_SW ..) -/
theorem lw_VW {own : String} {idx : Nat} {C : String} {y : MethodName} {b : ByteArray} {L : Nat} {r : Option FieldType} {hh : List (Nat × Nat × Nat × Nat)} (h1 : Cond.methodLink own idx y ∈ lw_all) (h2 : Cond.instanceMethod y ∈ lw_all) (h3 : Cond.selects C y y ∈ lw_all) (h4 : Cond.initialized C ∈ lw_all) (h5 : Cond.codeWith y b L r hh ∈ lw_all) : GoodIn lw_all (wsV own idx C y (wsW_ y b L r hh)) := by
  refine lw_app ?_ (lw_methW h5)
  intro w hw
  simp only [List.mem_cons, List.not_mem_nil, or_false] at hw
  rcases hw with e | e | e | e
  · rw [e]; exact h1
  · rw [e]; exact h2
  · rw [e]; exact h3
  · rw [e]; exact h4
theorem lw_SW {own : String} {idx : Nat} {y : MethodName} {b : ByteArray} {L : Nat} {r : Option FieldType} {hh : List (Nat × Nat × Nat × Nat)} (h1 : Cond.methodLink own idx y ∈ lw_all) (h2 : Cond.static y ∈ lw_all) (h3 : Cond.initialized y.cls ∈ lw_all) (h4 : Cond.codeWith y b L r hh ∈ lw_all) : GoodIn lw_all (va_wsS own idx y (wsW_ y b L r hh)) := by
  refine lw_app ?_ (lw_methW h4)
  intro w hw
  simp only [List.mem_cons, List.not_mem_nil, or_false] at hw
  rcases hw with e | e | e
  · rw [e]; exact h1
  · rw [e]; exact h2
  · rw [e]; exact h3
/-- a word by its place in its run of the tables -/
theorem lw_at {r : List Cond} (hr : ∀ w ∈ r, w ∈ lw_tbl) {w : Cond} (i : Nat) (h : r[i]? = some w) : w ∈ lw_tbl := hr w (List.mem_of_getElem? h)
theorem lw_g {w : Cond} (h : w ∈ lw_tbl) (g : goodWord w = true) : w ∈ lw_all := List.mem_filter.mpr ⟨h, g⟩
theorem lw_ms : ∀ w ∈ k2_sels lw_privs, w ∈ lw_tbl := fun w h => show w ∈ k2_sels lw_privs ++ tables_1 from List.mem_append_left _ h
theorem lw_m1 : ∀ w ∈ tables_1_1, w ∈ lw_tbl := fun w h => show w ∈ k2_sels lw_privs ++ tables_1 from List.mem_append_right (k2_sels lw_privs) (show w ∈ tables_1 from List.mem_append_left _ h)
theorem lw_m2 : ∀ w ∈ tables_1_2, w ∈ lw_tbl := fun w h => show w ∈ k2_sels lw_privs ++ tables_1 from List.mem_append_right (k2_sels lw_privs) (show w ∈ tables_1 from List.mem_append_right _ h)
theorem qs0 : (Cond.selects "BoxFilters" ⟨"BoxFilters", "remember", "()V"⟩ ⟨"BoxFilters", "remember", "()V"⟩) ∈ lw_all := lw_g (lw_at lw_ms 0 rfl) rfl
theorem qs1 : (Cond.selects "BoxFilters" ⟨"BoxFilters", "filter", "(IIZ)V"⟩ ⟨"BoxFilters", "filter", "(IIZ)V"⟩) ∈ lw_all := lw_g (lw_at lw_ms 1 rfl) rfl
theorem qs2 : (Cond.selects "BoxFilters" ⟨"BoxFilters", "filterLine", "(IIIZ)V"⟩ ⟨"BoxFilters", "filterLine", "(IIIZ)V"⟩) ∈ lw_all := lw_g (lw_at lw_ms 2 rfl) rfl
theorem qs3 : (Cond.selects "BoxFilters" ⟨"BoxFilters", "outdoes", "(IIZ)Z"⟩ ⟨"BoxFilters", "outdoes", "(IIZ)Z"⟩) ∈ lw_all := lw_g (lw_at lw_ms 3 rfl) rfl
theorem qs4 : (Cond.selects "BoxFilters" ⟨"BoxFilters", "changed", "()I"⟩ ⟨"BoxFilters", "changed", "()I"⟩) ∈ lw_all := lw_g (lw_at lw_ms 4 rfl) rfl
theorem qs5 : (Cond.selects "BoxFilters" ⟨"BoxFilters", "fillSums", "()V"⟩ ⟨"BoxFilters", "fillSums", "()V"⟩) ∈ lw_all := lw_g (lw_at lw_ms 5 rfl) rfl
theorem qs6 : (Cond.selects "BoxFilters" ⟨"BoxFilters", "meanAt", "(IIII)I"⟩ ⟨"BoxFilters", "meanAt", "(IIII)I"⟩) ∈ lw_all := lw_g (lw_at lw_ms 6 rfl) rfl
theorem qs7 : (Cond.selects "BoxFilters" ⟨"BoxFilters", "join", "(II)Z"⟩ ⟨"BoxFilters", "join", "(II)Z"⟩) ∈ lw_all := lw_g (lw_at lw_ms 7 rfl) rfl
theorem qs8 : (Cond.selects "BoxFilters" ⟨"BoxFilters", "find", "(I)I"⟩ ⟨"BoxFilters", "find", "(I)I"⟩) ∈ lw_all := lw_g (lw_at lw_ms 8 rfl) rfl
theorem qs9 : (Cond.selects "BoxFiltersModel" ⟨"BoxFiltersModel", "isPixel", "(II)Z"⟩ ⟨"BoxFiltersModel", "isPixel", "(II)Z"⟩) ∈ lw_all := lw_g (lw_at lw_ms 9 rfl) rfl
theorem qs10 : (Cond.selects "BoxFiltersModel" ⟨"BoxFiltersModel", "filter", "(IIII)I"⟩ ⟨"BoxFiltersModel", "filter", "(IIII)I"⟩) ∈ lw_all := lw_g (lw_at lw_ms 10 rfl) rfl
theorem qs11 : (Cond.selects "BoxFiltersModel" ⟨"BoxFiltersModel", "carryOut", "(III)V"⟩ ⟨"BoxFiltersModel", "carryOut", "(III)V"⟩) ∈ lw_all := lw_g (lw_at lw_ms 11 rfl) rfl
theorem qs12 : (Cond.selects "BoxFiltersModel" ⟨"BoxFiltersModel", "look", "(IIII)I"⟩ ⟨"BoxFiltersModel", "look", "(IIII)I"⟩) ∈ lw_all := lw_g (lw_at lw_ms 12 rfl) rfl
theorem qs13 : (Cond.selects "BoxFiltersModel" ⟨"BoxFiltersModel", "spread", "(I)Z"⟩ ⟨"BoxFiltersModel", "spread", "(I)Z"⟩) ∈ lw_all := lw_g (lw_at lw_ms 13 rfl) rfl
theorem qs14 : (Cond.selects "BoxFiltersModel" ⟨"BoxFiltersModel", "take", "(II)Z"⟩ ⟨"BoxFiltersModel", "take", "(II)Z"⟩) ∈ lw_all := lw_g (lw_at lw_ms 14 rfl) rfl
end
section
set_option maxRecDepth 100000
/-! BoxFilters -/
def RX0 : String := "BoxFilters"
def TX0 : u_T := fun k => match k with
  | 0 => ("BoxFilters", "raster", "[I", true)
  | 1 => ("BoxFilters", "spare", "[I", true)
  | 2 => ("BoxFilters", "before", "[I", true)
  | 3 => ("BoxFilters", "line", "[I", true)
  | 4 => ("BoxFilters", "queue", "[I", true)
  | 5 => ("BoxFilters", "sums", "[I", true)
  | _ => ("BoxFilters", "label", "[I", true)
def tyX0 : Nat → FieldType := fun k => match k with
  | 0 => .array .int
  | 1 => .array .int
  | 2 => .array .int
  | 3 => .array .int
  | 4 => .array .int
  | 5 => .array .int
  | _ => .array .int
abbrev wsX00 : List Cond := u_ws RX0 TX0 7
theorem nmX0 : ∀ a, a < 7 → ∀ b, b < 7 → a ≠ b → (TX0 a).2.1 ≠ (TX0 b).2.1 := by decide +kernel
theorem tyX0_ok : ∀ k, k < 7 → parseFieldDescriptor (TX0 k).2.2.1 = some (tyX0 k) := by decide +kernel
/-! BoxFiltersModel -/
def RX1 : String := "BoxFiltersModel"
def TX1 : u_T := fun k => match k with
  | 0 => ("BoxFiltersModel", "pixels", "[I", true)
  | 1 => ("BoxFiltersModel", "spare", "[I", true)
  | 2 => ("BoxFiltersModel", "result", "[I", true)
  | 3 => ("BoxFiltersModel", "before", "[I", true)
  | _ => ("BoxFiltersModel", "marks", "[I", true)
def tyX1 : Nat → FieldType := fun k => match k with
  | 0 => .array .int
  | 1 => .array .int
  | 2 => .array .int
  | 3 => .array .int
  | _ => .array .int
abbrev wsX10 : List Cond := u_ws RX1 TX1 5
theorem nmX1 : ∀ a, a < 5 → ∀ b, b < 5 → a ≠ b → (TX1 a).2.1 ≠ (TX1 b).2.1 := by decide +kernel
theorem tyX1_ok : ∀ k, k < 5 → parseFieldDescriptor (TX1 k).2.2.1 = some (tyX1 k) := by decide +kernel
/-! java/lang/Object -/
def RJ0 : String := "java/lang/Object"
abbrev cJ0_init : ByteArray := object_method_1_code
def yJ0_init : MethodName := ⟨RJ0, "<init>", "()V"⟩
theorem dJ0_init_0 : decode cJ0_init 0 = .ok (.return_, 1) := by decide +kernel
abbrev cX0_init : ByteArray := prog_1_method_1_code
def yX0_init : MethodName := ⟨RX0, "<init>", "()V"⟩
abbrev cX0_set : ByteArray := prog_1_method_4_code
def yX0_set : MethodName := ⟨RX0, "set", "(III)I"⟩
abbrev cX0_badPixel : ByteArray := prog_1_method_2_code
def yX0_badPixel : MethodName := ⟨RX0, "badPixel", "(II)Z"⟩
abbrev cX0_pattern : ByteArray := prog_1_method_5_code
def yX0_pattern : MethodName := ⟨RX0, "pattern", "(II)V"⟩
abbrev cX0_dilate : ByteArray := prog_1_method_11_code
def yX0_dilate : MethodName := ⟨RX0, "dilate", "(II)I"⟩
abbrev cX0_badSize : ByteArray := prog_1_method_3_code
def yX0_badSize : MethodName := ⟨RX0, "badSize", "(II)Z"⟩
abbrev cX0_remember : ByteArray := prog_1_method_9_code
def yX0_remember : MethodName := ⟨RX0, "remember", "()V"⟩
abbrev cX0_filter : ByteArray := prog_1_method_8_code
def yX0_filter : MethodName := ⟨RX0, "filter", "(IIZ)V"⟩
abbrev cX0_filterLine : ByteArray := prog_1_method_7_code
def yX0_filterLine : MethodName := ⟨RX0, "filterLine", "(IIIZ)V"⟩
abbrev cX0_outdoes : ByteArray := prog_1_method_6_code
def yX0_outdoes : MethodName := ⟨RX0, "outdoes", "(IIZ)Z"⟩
abbrev cX0_changed : ByteArray := prog_1_method_10_code
def yX0_changed : MethodName := ⟨RX0, "changed", "()I"⟩
abbrev cX0_erode : ByteArray := prog_1_method_12_code
def yX0_erode : MethodName := ⟨RX0, "erode", "(II)I"⟩
abbrev cX0_open : ByteArray := prog_1_method_13_code
def yX0_open : MethodName := ⟨RX0, "open", "(II)I"⟩
abbrev cX0_close : ByteArray := prog_1_method_14_code
def yX0_close : MethodName := ⟨RX0, "close", "(II)I"⟩
abbrev cX0_mean : ByteArray := prog_1_method_18_code
def yX0_mean : MethodName := ⟨RX0, "mean", "(II)I"⟩
abbrev cX0_fillSums : ByteArray := prog_1_method_15_code
def yX0_fillSums : MethodName := ⟨RX0, "fillSums", "()V"⟩
abbrev cX0_meanAt : ByteArray := prog_1_method_17_code
def yX0_meanAt : MethodName := ⟨RX0, "meanAt", "(IIII)I"⟩
abbrev cX0_within : ByteArray := prog_1_method_16_code
def yX0_within : MethodName := ⟨RX0, "within", "(I)I"⟩
abbrev cX0_threshold : ByteArray := prog_1_method_19_code
def yX0_threshold : MethodName := ⟨RX0, "threshold", "(I)I"⟩
abbrev cX0_exchange : ByteArray := prog_1_method_20_code
def yX0_exchange : MethodName := ⟨RX0, "exchange", "()V"⟩
abbrev cX0_keep : ByteArray := prog_1_method_21_code
def yX0_keep : MethodName := ⟨RX0, "keep", "()V"⟩
abbrev cX0_pixel : ByteArray := prog_1_method_22_code
def yX0_pixel : MethodName := ⟨RX0, "pixel", "(II)I"⟩
abbrev cX0_sum : ByteArray := prog_1_method_23_code
def yX0_sum : MethodName := ⟨RX0, "sum", "()I"⟩
abbrev cX0_equal : ByteArray := prog_1_method_24_code
def yX0_equal : MethodName := ⟨RX0, "equal", "()I"⟩
abbrev cX0_above : ByteArray := prog_1_method_25_code
def yX0_above : MethodName := ⟨RX0, "above", "()I"⟩
abbrev cX0_patches : ByteArray := prog_1_method_28_code
def yX0_patches : MethodName := ⟨RX0, "patches", "()I"⟩
abbrev cX0_join : ByteArray := prog_1_method_27_code
def yX0_join : MethodName := ⟨RX0, "join", "(II)Z"⟩
abbrev cX0_find : ByteArray := prog_1_method_26_code
def yX0_find : MethodName := ⟨RX0, "find", "(I)I"⟩
abbrev cX1_init : ByteArray := prog_3_method_1_code
def yX1_init : MethodName := ⟨RX1, "<init>", "()V"⟩
abbrev cX1_set : ByteArray := prog_3_method_3_code
def yX1_set : MethodName := ⟨RX1, "set", "(III)I"⟩
abbrev cX1_isPixel : ByteArray := prog_3_method_2_code
def yX1_isPixel : MethodName := ⟨RX1, "isPixel", "(II)Z"⟩
abbrev cX1_pattern : ByteArray := prog_3_method_4_code
def yX1_pattern : MethodName := ⟨RX1, "pattern", "(II)V"⟩
abbrev cX1_dilate : ByteArray := prog_3_method_8_code
def yX1_dilate : MethodName := ⟨RX1, "dilate", "(II)I"⟩
abbrev cX1_filter : ByteArray := prog_3_method_7_code
def yX1_filter : MethodName := ⟨RX1, "filter", "(IIII)I"⟩
abbrev cX1_carryOut : ByteArray := prog_3_method_6_code
def yX1_carryOut : MethodName := ⟨RX1, "carryOut", "(III)V"⟩
abbrev cX1_look : ByteArray := prog_3_method_5_code
def yX1_look : MethodName := ⟨RX1, "look", "(IIII)I"⟩
abbrev cX1_erode : ByteArray := prog_3_method_9_code
def yX1_erode : MethodName := ⟨RX1, "erode", "(II)I"⟩
abbrev cX1_open : ByteArray := prog_3_method_10_code
def yX1_open : MethodName := ⟨RX1, "open", "(II)I"⟩
abbrev cX1_close : ByteArray := prog_3_method_11_code
def yX1_close : MethodName := ⟨RX1, "close", "(II)I"⟩
abbrev cX1_mean : ByteArray := prog_3_method_12_code
def yX1_mean : MethodName := ⟨RX1, "mean", "(II)I"⟩
abbrev cX1_threshold : ByteArray := prog_3_method_13_code
def yX1_threshold : MethodName := ⟨RX1, "threshold", "(I)I"⟩
abbrev cX1_exchange : ByteArray := prog_3_method_14_code
def yX1_exchange : MethodName := ⟨RX1, "exchange", "()V"⟩
abbrev cX1_keep : ByteArray := prog_3_method_15_code
def yX1_keep : MethodName := ⟨RX1, "keep", "()V"⟩
abbrev cX1_pixel : ByteArray := prog_3_method_16_code
def yX1_pixel : MethodName := ⟨RX1, "pixel", "(II)I"⟩
abbrev cX1_sum : ByteArray := prog_3_method_17_code
def yX1_sum : MethodName := ⟨RX1, "sum", "()I"⟩
abbrev cX1_equal : ByteArray := prog_3_method_18_code
def yX1_equal : MethodName := ⟨RX1, "equal", "()I"⟩
abbrev cX1_above : ByteArray := prog_3_method_19_code
def yX1_above : MethodName := ⟨RX1, "above", "()I"⟩
abbrev cX1_patches : ByteArray := prog_3_method_22_code
def yX1_patches : MethodName := ⟨RX1, "patches", "()I"⟩
abbrev cX1_spread : ByteArray := prog_3_method_21_code
def yX1_spread : MethodName := ⟨RX1, "spread", "(I)Z"⟩
abbrev cX1_take : ByteArray := prog_3_method_20_code
def yX1_take : MethodName := ⟨RX1, "take", "(II)Z"⟩
theorem q24 : (Jvm.Cond.instanceMethod ({ cls := "java/lang/Object", name := "<init>", desc := "()V" } : Jvm.MethodName)) ∈ lw_all := lw_g (lw_at lw_m1 9 rfl) rfl
theorem q25 : (Jvm.Cond.code ({ cls := "java/lang/Object", name := "<init>", desc := "()V" } : Jvm.MethodName) object_method_1_code (1 : Nat) (Option.none : Option Jvm.ClassFile.FieldType)) ∈ lw_all := lw_g (lw_at lw_m1 10 rfl) rfl
theorem q48 : (Jvm.Cond.arrayClass Jvm.ClassFile.FieldType.int) ∈ lw_all := lw_g (lw_at lw_m1 33 rfl) rfl
theorem q15 : (Jvm.Cond.initialized "BoxFiltersLaw") ∈ lw_all := lw_g (lw_at lw_m1 0 rfl) rfl
theorem q18 : (Jvm.Cond.classLink "BoxFiltersLaw" (7 : Nat) "BoxFilters") ∈ lw_all := lw_g (lw_at lw_m1 3 rfl) rfl
theorem q20 : (Jvm.Cond.methodLink "BoxFiltersLaw" (9 : Nat) ({ cls := "BoxFilters", name := "<init>", desc := "()V" } : Jvm.MethodName)) ∈ lw_all := lw_g (lw_at lw_m1 5 rfl) rfl
theorem q49 : (Jvm.Cond.methodLink "BoxFiltersLaw" (13 : Nat) ({ cls := "BoxFilters", name := "set", desc := "(III)I" } : Jvm.MethodName)) ∈ lw_all := lw_g (lw_at lw_m1 34 rfl) rfl
theorem q56 : (Jvm.Cond.methodLink "BoxFiltersLaw" (18 : Nat) ({ cls := "BoxFilters", name := "pattern", desc := "(II)V" } : Jvm.MethodName)) ∈ lw_all := lw_g (lw_at lw_m1 41 rfl) rfl
theorem q60 : (Jvm.Cond.methodLink "BoxFiltersLaw" (23 : Nat) ({ cls := "BoxFilters", name := "dilate", desc := "(II)I" } : Jvm.MethodName)) ∈ lw_all := lw_g (lw_at lw_m1 45 rfl) rfl
theorem q87 : (Jvm.Cond.methodLink "BoxFiltersLaw" (28 : Nat) ({ cls := "BoxFilters", name := "erode", desc := "(II)I" } : Jvm.MethodName)) ∈ lw_all := lw_g (lw_at lw_m1 72 rfl) rfl
theorem q91 : (Jvm.Cond.methodLink "BoxFiltersLaw" (32 : Nat) ({ cls := "BoxFilters", name := "open", desc := "(II)I" } : Jvm.MethodName)) ∈ lw_all := lw_g (lw_at lw_m1 76 rfl) rfl
theorem q95 : (Jvm.Cond.methodLink "BoxFiltersLaw" (36 : Nat) ({ cls := "BoxFilters", name := "close", desc := "(II)I" } : Jvm.MethodName)) ∈ lw_all := lw_g (lw_at lw_m1 80 rfl) rfl
theorem q99 : (Jvm.Cond.methodLink "BoxFiltersLaw" (40 : Nat) ({ cls := "BoxFilters", name := "mean", desc := "(II)I" } : Jvm.MethodName)) ∈ lw_all := lw_g (lw_at lw_m1 84 rfl) rfl
theorem q114 : (Jvm.Cond.methodLink "BoxFiltersLaw" (44 : Nat) ({ cls := "BoxFilters", name := "threshold", desc := "(I)I" } : Jvm.MethodName)) ∈ lw_all := lw_g (lw_at lw_m1 99 rfl) rfl
theorem q118 : (Jvm.Cond.methodLink "BoxFiltersLaw" (49 : Nat) ({ cls := "BoxFilters", name := "exchange", desc := "()V" } : Jvm.MethodName)) ∈ lw_all := lw_g (lw_at lw_m1 103 rfl) rfl
theorem q122 : (Jvm.Cond.methodLink "BoxFiltersLaw" (53 : Nat) ({ cls := "BoxFilters", name := "keep", desc := "()V" } : Jvm.MethodName)) ∈ lw_all := lw_g (lw_at lw_m1 107 rfl) rfl
theorem q126 : (Jvm.Cond.methodLink "BoxFiltersLaw" (57 : Nat) ({ cls := "BoxFilters", name := "pixel", desc := "(II)I" } : Jvm.MethodName)) ∈ lw_all := lw_g (lw_at lw_m1 111 rfl) rfl
theorem q130 : (Jvm.Cond.methodLink "BoxFiltersLaw" (61 : Nat) ({ cls := "BoxFilters", name := "sum", desc := "()I" } : Jvm.MethodName)) ∈ lw_all := lw_g (lw_at lw_m1 115 rfl) rfl
theorem q134 : (Jvm.Cond.methodLink "BoxFiltersLaw" (66 : Nat) ({ cls := "BoxFilters", name := "equal", desc := "()I" } : Jvm.MethodName)) ∈ lw_all := lw_g (lw_at lw_m1 119 rfl) rfl
theorem q138 : (Jvm.Cond.methodLink "BoxFiltersLaw" (70 : Nat) ({ cls := "BoxFilters", name := "above", desc := "()I" } : Jvm.MethodName)) ∈ lw_all := lw_g (lw_at lw_m1 123 rfl) rfl
theorem q142 : (Jvm.Cond.methodLink "BoxFiltersLaw" (74 : Nat) ({ cls := "BoxFilters", name := "patches", desc := "()I" } : Jvm.MethodName)) ∈ lw_all := lw_g (lw_at lw_m1 127 rfl) rfl
theorem q154 : (Jvm.Cond.classLink "BoxFiltersLaw" (10 : Nat) "BoxFiltersModel") ∈ lw_all := lw_g (lw_at lw_m1 139 rfl) rfl
theorem q156 : (Jvm.Cond.methodLink "BoxFiltersLaw" (12 : Nat) ({ cls := "BoxFiltersModel", name := "<init>", desc := "()V" } : Jvm.MethodName)) ∈ lw_all := lw_g (lw_at lw_m1 141 rfl) rfl
theorem q176 : (Jvm.Cond.methodLink "BoxFiltersLaw" (17 : Nat) ({ cls := "BoxFiltersModel", name := "set", desc := "(III)I" } : Jvm.MethodName)) ∈ lw_all := lw_g (lw_at lw_m1 161 rfl) rfl
theorem q184 : (Jvm.Cond.methodLink "BoxFiltersLaw" (22 : Nat) ({ cls := "BoxFiltersModel", name := "pattern", desc := "(II)V" } : Jvm.MethodName)) ∈ lw_all := lw_g (lw_at lw_m1 169 rfl) rfl
theorem q188 : (Jvm.Cond.methodLink "BoxFiltersLaw" (27 : Nat) ({ cls := "BoxFiltersModel", name := "dilate", desc := "(II)I" } : Jvm.MethodName)) ∈ lw_all := lw_g (lw_at lw_m1 173 rfl) rfl
theorem q204 : (Jvm.Cond.methodLink "BoxFiltersLaw" (31 : Nat) ({ cls := "BoxFiltersModel", name := "erode", desc := "(II)I" } : Jvm.MethodName)) ∈ lw_all := lw_g (lw_at lw_m1 189 rfl) rfl
theorem q208 : (Jvm.Cond.methodLink "BoxFiltersLaw" (35 : Nat) ({ cls := "BoxFiltersModel", name := "open", desc := "(II)I" } : Jvm.MethodName)) ∈ lw_all := lw_g (lw_at lw_m1 193 rfl) rfl
theorem q212 : (Jvm.Cond.methodLink "BoxFiltersLaw" (39 : Nat) ({ cls := "BoxFiltersModel", name := "close", desc := "(II)I" } : Jvm.MethodName)) ∈ lw_all := lw_g (lw_at lw_m1 197 rfl) rfl
theorem q216 : (Jvm.Cond.methodLink "BoxFiltersLaw" (43 : Nat) ({ cls := "BoxFiltersModel", name := "mean", desc := "(II)I" } : Jvm.MethodName)) ∈ lw_all := lw_g (lw_at lw_m1 201 rfl) rfl
theorem q220 : (Jvm.Cond.methodLink "BoxFiltersLaw" (48 : Nat) ({ cls := "BoxFiltersModel", name := "threshold", desc := "(I)I" } : Jvm.MethodName)) ∈ lw_all := lw_g (lw_at lw_m1 205 rfl) rfl
theorem q224 : (Jvm.Cond.methodLink "BoxFiltersLaw" (52 : Nat) ({ cls := "BoxFiltersModel", name := "exchange", desc := "()V" } : Jvm.MethodName)) ∈ lw_all := lw_g (lw_at lw_m1 209 rfl) rfl
theorem q228 : (Jvm.Cond.methodLink "BoxFiltersLaw" (56 : Nat) ({ cls := "BoxFiltersModel", name := "keep", desc := "()V" } : Jvm.MethodName)) ∈ lw_all := lw_g (lw_at lw_m1 213 rfl) rfl
theorem q232 : (Jvm.Cond.methodLink "BoxFiltersLaw" (60 : Nat) ({ cls := "BoxFiltersModel", name := "pixel", desc := "(II)I" } : Jvm.MethodName)) ∈ lw_all := lw_g (lw_at lw_m1 217 rfl) rfl
theorem q236 : (Jvm.Cond.methodLink "BoxFiltersLaw" (65 : Nat) ({ cls := "BoxFiltersModel", name := "sum", desc := "()I" } : Jvm.MethodName)) ∈ lw_all := lw_g (lw_at lw_m1 221 rfl) rfl
theorem q240 : (Jvm.Cond.methodLink "BoxFiltersLaw" (69 : Nat) ({ cls := "BoxFiltersModel", name := "equal", desc := "()I" } : Jvm.MethodName)) ∈ lw_all := lw_g (lw_at lw_m1 225 rfl) rfl
theorem q244 : (Jvm.Cond.methodLink "BoxFiltersLaw" (73 : Nat) ({ cls := "BoxFiltersModel", name := "above", desc := "()I" } : Jvm.MethodName)) ∈ lw_all := lw_g (lw_at lw_m1 229 rfl) rfl
theorem q248 : (Jvm.Cond.methodLink "BoxFiltersLaw" (77 : Nat) ({ cls := "BoxFiltersModel", name := "patches", desc := "()I" } : Jvm.MethodName)) ∈ lw_all := lw_g (lw_at lw_m1 233 rfl) rfl
theorem q16 : (Jvm.Cond.initialized "BoxFilters") ∈ lw_all := lw_g (lw_at lw_m1 1 rfl) rfl
theorem q19 : (Jvm.Cond.instantiable "BoxFilters" (7 : Nat)) ∈ lw_all := lw_g (lw_at lw_m1 4 rfl) rfl
theorem q21 : (Jvm.Cond.instanceMethod ({ cls := "BoxFilters", name := "<init>", desc := "()V" } : Jvm.MethodName)) ∈ lw_all := lw_g (lw_at lw_m1 6 rfl) rfl
theorem q22 : (Jvm.Cond.code ({ cls := "BoxFilters", name := "<init>", desc := "()V" } : Jvm.MethodName) prog_1_method_1_code (1 : Nat) (Option.none : Option Jvm.ClassFile.FieldType)) ∈ lw_all := lw_g (lw_at lw_m1 7 rfl) rfl
theorem q23 : (Jvm.Cond.methodLink "BoxFilters" (1 : Nat) ({ cls := "java/lang/Object", name := "<init>", desc := "()V" } : Jvm.MethodName)) ∈ lw_all := lw_g (lw_at lw_m1 8 rfl) rfl
theorem q26 : (Jvm.Cond.fieldLink "BoxFilters" (7 : Nat) "BoxFilters" "raster" "[I") ∈ lw_all := lw_g (lw_at lw_m1 11 rfl) rfl
theorem q27 : (Jvm.Cond.fieldLink "BoxFilters" (13 : Nat) "BoxFilters" "spare" "[I") ∈ lw_all := lw_g (lw_at lw_m1 12 rfl) rfl
theorem q28 : (Jvm.Cond.fieldLink "BoxFilters" (16 : Nat) "BoxFilters" "before" "[I") ∈ lw_all := lw_g (lw_at lw_m1 13 rfl) rfl
theorem q29 : (Jvm.Cond.fieldLink "BoxFilters" (19 : Nat) "BoxFilters" "line" "[I") ∈ lw_all := lw_g (lw_at lw_m1 14 rfl) rfl
theorem q30 : (Jvm.Cond.fieldLink "BoxFilters" (22 : Nat) "BoxFilters" "queue" "[I") ∈ lw_all := lw_g (lw_at lw_m1 15 rfl) rfl
theorem q31 : (Jvm.Cond.fieldLink "BoxFilters" (25 : Nat) "BoxFilters" "sums" "[I") ∈ lw_all := lw_g (lw_at lw_m1 16 rfl) rfl
theorem q32 : (Jvm.Cond.fieldLink "BoxFilters" (28 : Nat) "BoxFilters" "label" "[I") ∈ lw_all := lw_g (lw_at lw_m1 17 rfl) rfl
theorem q33 : (Jvm.Cond.laysFinal "BoxFilters" "BoxFilters" "raster" "[I") ∈ lw_all := lw_g (lw_at lw_m1 18 rfl) rfl
theorem q34 : (Jvm.Cond.soleField "BoxFilters" "raster") ∈ lw_all := lw_g (lw_at lw_m1 19 rfl) rfl
theorem q35 : (Jvm.Cond.laysFinal "BoxFilters" "BoxFilters" "spare" "[I") ∈ lw_all := lw_g (lw_at lw_m1 20 rfl) rfl
theorem q36 : (Jvm.Cond.soleField "BoxFilters" "spare") ∈ lw_all := lw_g (lw_at lw_m1 21 rfl) rfl
theorem q37 : (Jvm.Cond.laysFinal "BoxFilters" "BoxFilters" "before" "[I") ∈ lw_all := lw_g (lw_at lw_m1 22 rfl) rfl
theorem q38 : (Jvm.Cond.soleField "BoxFilters" "before") ∈ lw_all := lw_g (lw_at lw_m1 23 rfl) rfl
theorem q39 : (Jvm.Cond.laysFinal "BoxFilters" "BoxFilters" "line" "[I") ∈ lw_all := lw_g (lw_at lw_m1 24 rfl) rfl
theorem q40 : (Jvm.Cond.soleField "BoxFilters" "line") ∈ lw_all := lw_g (lw_at lw_m1 25 rfl) rfl
theorem q41 : (Jvm.Cond.laysFinal "BoxFilters" "BoxFilters" "queue" "[I") ∈ lw_all := lw_g (lw_at lw_m1 26 rfl) rfl
theorem q42 : (Jvm.Cond.soleField "BoxFilters" "queue") ∈ lw_all := lw_g (lw_at lw_m1 27 rfl) rfl
theorem q43 : (Jvm.Cond.laysFinal "BoxFilters" "BoxFilters" "sums" "[I") ∈ lw_all := lw_g (lw_at lw_m1 28 rfl) rfl
theorem q44 : (Jvm.Cond.soleField "BoxFilters" "sums") ∈ lw_all := lw_g (lw_at lw_m1 29 rfl) rfl
theorem q45 : (Jvm.Cond.laysFinal "BoxFilters" "BoxFilters" "label" "[I") ∈ lw_all := lw_g (lw_at lw_m1 30 rfl) rfl
theorem q46 : (Jvm.Cond.soleField "BoxFilters" "label") ∈ lw_all := lw_g (lw_at lw_m1 31 rfl) rfl
theorem q47 : (Jvm.Cond.superclass "BoxFilters" "java/lang/Object") ∈ lw_all := lw_g (lw_at lw_m1 32 rfl) rfl
theorem q50 : (Jvm.Cond.instanceMethod ({ cls := "BoxFilters", name := "set", desc := "(III)I" } : Jvm.MethodName)) ∈ lw_all := lw_g (lw_at lw_m1 35 rfl) rfl
theorem q51 : (Jvm.Cond.selects "BoxFilters" ({ cls := "BoxFilters", name := "set", desc := "(III)I" } : Jvm.MethodName) ({ cls := "BoxFilters", name := "set", desc := "(III)I" } : Jvm.MethodName)) ∈ lw_all := lw_g (lw_at lw_m1 36 rfl) rfl
theorem q52 : (Jvm.Cond.code ({ cls := "BoxFilters", name := "set", desc := "(III)I" } : Jvm.MethodName) prog_1_method_4_code (5 : Nat) (Option.some Jvm.ClassFile.FieldType.int)) ∈ lw_all := lw_g (lw_at lw_m1 37 rfl) rfl
theorem q53 : (Jvm.Cond.methodLink "BoxFilters" (31 : Nat) ({ cls := "BoxFilters", name := "badPixel", desc := "(II)Z" } : Jvm.MethodName)) ∈ lw_all := lw_g (lw_at lw_m1 38 rfl) rfl
theorem q54 : (Jvm.Cond.static ({ cls := "BoxFilters", name := "badPixel", desc := "(II)Z" } : Jvm.MethodName)) ∈ lw_all := lw_g (lw_at lw_m1 39 rfl) rfl
theorem q55 : (Jvm.Cond.code ({ cls := "BoxFilters", name := "badPixel", desc := "(II)Z" } : Jvm.MethodName) prog_1_method_2_code (2 : Nat) (Option.some Jvm.ClassFile.FieldType.boolean)) ∈ lw_all := lw_g (lw_at lw_m1 40 rfl) rfl
theorem q57 : (Jvm.Cond.instanceMethod ({ cls := "BoxFilters", name := "pattern", desc := "(II)V" } : Jvm.MethodName)) ∈ lw_all := lw_g (lw_at lw_m1 42 rfl) rfl
theorem q58 : (Jvm.Cond.selects "BoxFilters" ({ cls := "BoxFilters", name := "pattern", desc := "(II)V" } : Jvm.MethodName) ({ cls := "BoxFilters", name := "pattern", desc := "(II)V" } : Jvm.MethodName)) ∈ lw_all := lw_g (lw_at lw_m1 43 rfl) rfl
theorem q59 : (Jvm.Cond.code ({ cls := "BoxFilters", name := "pattern", desc := "(II)V" } : Jvm.MethodName) prog_1_method_5_code (6 : Nat) (Option.none : Option Jvm.ClassFile.FieldType)) ∈ lw_all := lw_g (lw_at lw_m1 44 rfl) rfl
theorem q61 : (Jvm.Cond.instanceMethod ({ cls := "BoxFilters", name := "dilate", desc := "(II)I" } : Jvm.MethodName)) ∈ lw_all := lw_g (lw_at lw_m1 46 rfl) rfl
theorem q62 : (Jvm.Cond.selects "BoxFilters" ({ cls := "BoxFilters", name := "dilate", desc := "(II)I" } : Jvm.MethodName) ({ cls := "BoxFilters", name := "dilate", desc := "(II)I" } : Jvm.MethodName)) ∈ lw_all := lw_g (lw_at lw_m1 47 rfl) rfl
theorem q63 : (Jvm.Cond.code ({ cls := "BoxFilters", name := "dilate", desc := "(II)I" } : Jvm.MethodName) prog_1_method_11_code (3 : Nat) (Option.some Jvm.ClassFile.FieldType.int)) ∈ lw_all := lw_g (lw_at lw_m1 48 rfl) rfl
theorem q64 : (Jvm.Cond.methodLink "BoxFilters" (43 : Nat) ({ cls := "BoxFilters", name := "badSize", desc := "(II)Z" } : Jvm.MethodName)) ∈ lw_all := lw_g (lw_at lw_m1 49 rfl) rfl
theorem q65 : (Jvm.Cond.static ({ cls := "BoxFilters", name := "badSize", desc := "(II)Z" } : Jvm.MethodName)) ∈ lw_all := lw_g (lw_at lw_m1 50 rfl) rfl
theorem q66 : (Jvm.Cond.code ({ cls := "BoxFilters", name := "badSize", desc := "(II)Z" } : Jvm.MethodName) prog_1_method_3_code (2 : Nat) (Option.some Jvm.ClassFile.FieldType.boolean)) ∈ lw_all := lw_g (lw_at lw_m1 51 rfl) rfl
theorem q67 : (Jvm.Cond.methodLink "BoxFilters" (46 : Nat) ({ cls := "BoxFilters", name := "remember", desc := "()V" } : Jvm.MethodName)) ∈ lw_all := lw_g (lw_at lw_m1 52 rfl) rfl
theorem q68 : (Jvm.Cond.privateMethod ({ cls := "BoxFilters", name := "remember", desc := "()V" } : Jvm.MethodName)) ∈ lw_tbl := lw_at lw_m1 53 rfl
theorem q69 : (Jvm.Cond.instanceMethod ({ cls := "BoxFilters", name := "remember", desc := "()V" } : Jvm.MethodName)) ∈ lw_all := lw_g (lw_at lw_m1 54 rfl) rfl
theorem q70 : (Jvm.Cond.code ({ cls := "BoxFilters", name := "remember", desc := "()V" } : Jvm.MethodName) prog_1_method_9_code (2 : Nat) (Option.none : Option Jvm.ClassFile.FieldType)) ∈ lw_all := lw_g (lw_at lw_m1 55 rfl) rfl
theorem q71 : (Jvm.Cond.methodLink "BoxFilters" (49 : Nat) ({ cls := "BoxFilters", name := "filter", desc := "(IIZ)V" } : Jvm.MethodName)) ∈ lw_all := lw_g (lw_at lw_m1 56 rfl) rfl
theorem q72 : (Jvm.Cond.privateMethod ({ cls := "BoxFilters", name := "filter", desc := "(IIZ)V" } : Jvm.MethodName)) ∈ lw_tbl := lw_at lw_m1 57 rfl
theorem q73 : (Jvm.Cond.instanceMethod ({ cls := "BoxFilters", name := "filter", desc := "(IIZ)V" } : Jvm.MethodName)) ∈ lw_all := lw_g (lw_at lw_m1 58 rfl) rfl
theorem q74 : (Jvm.Cond.code ({ cls := "BoxFilters", name := "filter", desc := "(IIZ)V" } : Jvm.MethodName) prog_1_method_8_code (5 : Nat) (Option.none : Option Jvm.ClassFile.FieldType)) ∈ lw_all := lw_g (lw_at lw_m1 59 rfl) rfl
theorem q75 : (Jvm.Cond.methodLink "BoxFilters" (39 : Nat) ({ cls := "BoxFilters", name := "filterLine", desc := "(IIIZ)V" } : Jvm.MethodName)) ∈ lw_all := lw_g (lw_at lw_m1 60 rfl) rfl
theorem q76 : (Jvm.Cond.privateMethod ({ cls := "BoxFilters", name := "filterLine", desc := "(IIIZ)V" } : Jvm.MethodName)) ∈ lw_tbl := lw_at lw_m1 61 rfl
theorem q77 : (Jvm.Cond.instanceMethod ({ cls := "BoxFilters", name := "filterLine", desc := "(IIIZ)V" } : Jvm.MethodName)) ∈ lw_all := lw_g (lw_at lw_m1 62 rfl) rfl
theorem q78 : (Jvm.Cond.code ({ cls := "BoxFilters", name := "filterLine", desc := "(IIIZ)V" } : Jvm.MethodName) prog_1_method_7_code (9 : Nat) (Option.none : Option Jvm.ClassFile.FieldType)) ∈ lw_all := lw_g (lw_at lw_m1 63 rfl) rfl
theorem q79 : (Jvm.Cond.methodLink "BoxFilters" (35 : Nat) ({ cls := "BoxFilters", name := "outdoes", desc := "(IIZ)Z" } : Jvm.MethodName)) ∈ lw_all := lw_g (lw_at lw_m1 64 rfl) rfl
theorem q80 : (Jvm.Cond.privateMethod ({ cls := "BoxFilters", name := "outdoes", desc := "(IIZ)Z" } : Jvm.MethodName)) ∈ lw_tbl := lw_at lw_m1 65 rfl
theorem q81 : (Jvm.Cond.instanceMethod ({ cls := "BoxFilters", name := "outdoes", desc := "(IIZ)Z" } : Jvm.MethodName)) ∈ lw_all := lw_g (lw_at lw_m1 66 rfl) rfl
theorem q82 : (Jvm.Cond.code ({ cls := "BoxFilters", name := "outdoes", desc := "(IIZ)Z" } : Jvm.MethodName) prog_1_method_6_code (4 : Nat) (Option.some Jvm.ClassFile.FieldType.boolean)) ∈ lw_all := lw_g (lw_at lw_m1 67 rfl) rfl
theorem q83 : (Jvm.Cond.methodLink "BoxFilters" (53 : Nat) ({ cls := "BoxFilters", name := "changed", desc := "()I" } : Jvm.MethodName)) ∈ lw_all := lw_g (lw_at lw_m1 68 rfl) rfl
theorem q84 : (Jvm.Cond.privateMethod ({ cls := "BoxFilters", name := "changed", desc := "()I" } : Jvm.MethodName)) ∈ lw_tbl := lw_at lw_m1 69 rfl
theorem q85 : (Jvm.Cond.instanceMethod ({ cls := "BoxFilters", name := "changed", desc := "()I" } : Jvm.MethodName)) ∈ lw_all := lw_g (lw_at lw_m1 70 rfl) rfl
theorem q86 : (Jvm.Cond.code ({ cls := "BoxFilters", name := "changed", desc := "()I" } : Jvm.MethodName) prog_1_method_10_code (3 : Nat) (Option.some Jvm.ClassFile.FieldType.int)) ∈ lw_all := lw_g (lw_at lw_m1 71 rfl) rfl
theorem q88 : (Jvm.Cond.instanceMethod ({ cls := "BoxFilters", name := "erode", desc := "(II)I" } : Jvm.MethodName)) ∈ lw_all := lw_g (lw_at lw_m1 73 rfl) rfl
theorem q89 : (Jvm.Cond.selects "BoxFilters" ({ cls := "BoxFilters", name := "erode", desc := "(II)I" } : Jvm.MethodName) ({ cls := "BoxFilters", name := "erode", desc := "(II)I" } : Jvm.MethodName)) ∈ lw_all := lw_g (lw_at lw_m1 74 rfl) rfl
theorem q90 : (Jvm.Cond.code ({ cls := "BoxFilters", name := "erode", desc := "(II)I" } : Jvm.MethodName) prog_1_method_12_code (3 : Nat) (Option.some Jvm.ClassFile.FieldType.int)) ∈ lw_all := lw_g (lw_at lw_m1 75 rfl) rfl
theorem q92 : (Jvm.Cond.instanceMethod ({ cls := "BoxFilters", name := "open", desc := "(II)I" } : Jvm.MethodName)) ∈ lw_all := lw_g (lw_at lw_m1 77 rfl) rfl
theorem q93 : (Jvm.Cond.selects "BoxFilters" ({ cls := "BoxFilters", name := "open", desc := "(II)I" } : Jvm.MethodName) ({ cls := "BoxFilters", name := "open", desc := "(II)I" } : Jvm.MethodName)) ∈ lw_all := lw_g (lw_at lw_m1 78 rfl) rfl
theorem q94 : (Jvm.Cond.code ({ cls := "BoxFilters", name := "open", desc := "(II)I" } : Jvm.MethodName) prog_1_method_13_code (3 : Nat) (Option.some Jvm.ClassFile.FieldType.int)) ∈ lw_all := lw_g (lw_at lw_m1 79 rfl) rfl
theorem q96 : (Jvm.Cond.instanceMethod ({ cls := "BoxFilters", name := "close", desc := "(II)I" } : Jvm.MethodName)) ∈ lw_all := lw_g (lw_at lw_m1 81 rfl) rfl
theorem q97 : (Jvm.Cond.selects "BoxFilters" ({ cls := "BoxFilters", name := "close", desc := "(II)I" } : Jvm.MethodName) ({ cls := "BoxFilters", name := "close", desc := "(II)I" } : Jvm.MethodName)) ∈ lw_all := lw_g (lw_at lw_m1 82 rfl) rfl
theorem q98 : (Jvm.Cond.code ({ cls := "BoxFilters", name := "close", desc := "(II)I" } : Jvm.MethodName) prog_1_method_14_code (3 : Nat) (Option.some Jvm.ClassFile.FieldType.int)) ∈ lw_all := lw_g (lw_at lw_m1 83 rfl) rfl
theorem q100 : (Jvm.Cond.instanceMethod ({ cls := "BoxFilters", name := "mean", desc := "(II)I" } : Jvm.MethodName)) ∈ lw_all := lw_g (lw_at lw_m1 85 rfl) rfl
theorem q101 : (Jvm.Cond.selects "BoxFilters" ({ cls := "BoxFilters", name := "mean", desc := "(II)I" } : Jvm.MethodName) ({ cls := "BoxFilters", name := "mean", desc := "(II)I" } : Jvm.MethodName)) ∈ lw_all := lw_g (lw_at lw_m1 86 rfl) rfl
theorem q102 : (Jvm.Cond.code ({ cls := "BoxFilters", name := "mean", desc := "(II)I" } : Jvm.MethodName) prog_1_method_18_code (4 : Nat) (Option.some Jvm.ClassFile.FieldType.int)) ∈ lw_all := lw_g (lw_at lw_m1 87 rfl) rfl
theorem q103 : (Jvm.Cond.methodLink "BoxFilters" (61 : Nat) ({ cls := "BoxFilters", name := "fillSums", desc := "()V" } : Jvm.MethodName)) ∈ lw_all := lw_g (lw_at lw_m1 88 rfl) rfl
theorem q104 : (Jvm.Cond.privateMethod ({ cls := "BoxFilters", name := "fillSums", desc := "()V" } : Jvm.MethodName)) ∈ lw_tbl := lw_at lw_m1 89 rfl
theorem q105 : (Jvm.Cond.instanceMethod ({ cls := "BoxFilters", name := "fillSums", desc := "()V" } : Jvm.MethodName)) ∈ lw_all := lw_g (lw_at lw_m1 90 rfl) rfl
theorem q106 : (Jvm.Cond.code ({ cls := "BoxFilters", name := "fillSums", desc := "()V" } : Jvm.MethodName) prog_1_method_15_code (4 : Nat) (Option.none : Option Jvm.ClassFile.FieldType)) ∈ lw_all := lw_g (lw_at lw_m1 91 rfl) rfl
theorem q107 : (Jvm.Cond.methodLink "BoxFilters" (64 : Nat) ({ cls := "BoxFilters", name := "meanAt", desc := "(IIII)I" } : Jvm.MethodName)) ∈ lw_all := lw_g (lw_at lw_m1 92 rfl) rfl
theorem q108 : (Jvm.Cond.privateMethod ({ cls := "BoxFilters", name := "meanAt", desc := "(IIII)I" } : Jvm.MethodName)) ∈ lw_tbl := lw_at lw_m1 93 rfl
theorem q109 : (Jvm.Cond.instanceMethod ({ cls := "BoxFilters", name := "meanAt", desc := "(IIII)I" } : Jvm.MethodName)) ∈ lw_all := lw_g (lw_at lw_m1 94 rfl) rfl
theorem q110 : (Jvm.Cond.code ({ cls := "BoxFilters", name := "meanAt", desc := "(IIII)I" } : Jvm.MethodName) prog_1_method_17_code (11 : Nat) (Option.some Jvm.ClassFile.FieldType.int)) ∈ lw_all := lw_g (lw_at lw_m1 95 rfl) rfl
theorem q111 : (Jvm.Cond.methodLink "BoxFilters" (57 : Nat) ({ cls := "BoxFilters", name := "within", desc := "(I)I" } : Jvm.MethodName)) ∈ lw_all := lw_g (lw_at lw_m1 96 rfl) rfl
theorem q112 : (Jvm.Cond.static ({ cls := "BoxFilters", name := "within", desc := "(I)I" } : Jvm.MethodName)) ∈ lw_all := lw_g (lw_at lw_m1 97 rfl) rfl
theorem q113 : (Jvm.Cond.code ({ cls := "BoxFilters", name := "within", desc := "(I)I" } : Jvm.MethodName) prog_1_method_16_code (1 : Nat) (Option.some Jvm.ClassFile.FieldType.int)) ∈ lw_all := lw_g (lw_at lw_m1 98 rfl) rfl
theorem q115 : (Jvm.Cond.instanceMethod ({ cls := "BoxFilters", name := "threshold", desc := "(I)I" } : Jvm.MethodName)) ∈ lw_all := lw_g (lw_at lw_m1 100 rfl) rfl
theorem q116 : (Jvm.Cond.selects "BoxFilters" ({ cls := "BoxFilters", name := "threshold", desc := "(I)I" } : Jvm.MethodName) ({ cls := "BoxFilters", name := "threshold", desc := "(I)I" } : Jvm.MethodName)) ∈ lw_all := lw_g (lw_at lw_m1 101 rfl) rfl
theorem q117 : (Jvm.Cond.code ({ cls := "BoxFilters", name := "threshold", desc := "(I)I" } : Jvm.MethodName) prog_1_method_19_code (5 : Nat) (Option.some Jvm.ClassFile.FieldType.int)) ∈ lw_all := lw_g (lw_at lw_m1 102 rfl) rfl
theorem q119 : (Jvm.Cond.instanceMethod ({ cls := "BoxFilters", name := "exchange", desc := "()V" } : Jvm.MethodName)) ∈ lw_all := lw_g (lw_at lw_m1 104 rfl) rfl
theorem q120 : (Jvm.Cond.selects "BoxFilters" ({ cls := "BoxFilters", name := "exchange", desc := "()V" } : Jvm.MethodName) ({ cls := "BoxFilters", name := "exchange", desc := "()V" } : Jvm.MethodName)) ∈ lw_all := lw_g (lw_at lw_m1 105 rfl) rfl
theorem q121 : (Jvm.Cond.code ({ cls := "BoxFilters", name := "exchange", desc := "()V" } : Jvm.MethodName) prog_1_method_20_code (3 : Nat) (Option.none : Option Jvm.ClassFile.FieldType)) ∈ lw_all := lw_g (lw_at lw_m1 106 rfl) rfl
theorem q123 : (Jvm.Cond.instanceMethod ({ cls := "BoxFilters", name := "keep", desc := "()V" } : Jvm.MethodName)) ∈ lw_all := lw_g (lw_at lw_m1 108 rfl) rfl
theorem q124 : (Jvm.Cond.selects "BoxFilters" ({ cls := "BoxFilters", name := "keep", desc := "()V" } : Jvm.MethodName) ({ cls := "BoxFilters", name := "keep", desc := "()V" } : Jvm.MethodName)) ∈ lw_all := lw_g (lw_at lw_m1 109 rfl) rfl
theorem q125 : (Jvm.Cond.code ({ cls := "BoxFilters", name := "keep", desc := "()V" } : Jvm.MethodName) prog_1_method_21_code (2 : Nat) (Option.none : Option Jvm.ClassFile.FieldType)) ∈ lw_all := lw_g (lw_at lw_m1 110 rfl) rfl
theorem q127 : (Jvm.Cond.instanceMethod ({ cls := "BoxFilters", name := "pixel", desc := "(II)I" } : Jvm.MethodName)) ∈ lw_all := lw_g (lw_at lw_m1 112 rfl) rfl
theorem q128 : (Jvm.Cond.selects "BoxFilters" ({ cls := "BoxFilters", name := "pixel", desc := "(II)I" } : Jvm.MethodName) ({ cls := "BoxFilters", name := "pixel", desc := "(II)I" } : Jvm.MethodName)) ∈ lw_all := lw_g (lw_at lw_m1 113 rfl) rfl
theorem q129 : (Jvm.Cond.code ({ cls := "BoxFilters", name := "pixel", desc := "(II)I" } : Jvm.MethodName) prog_1_method_22_code (3 : Nat) (Option.some Jvm.ClassFile.FieldType.int)) ∈ lw_all := lw_g (lw_at lw_m1 114 rfl) rfl
theorem q131 : (Jvm.Cond.instanceMethod ({ cls := "BoxFilters", name := "sum", desc := "()I" } : Jvm.MethodName)) ∈ lw_all := lw_g (lw_at lw_m1 116 rfl) rfl
theorem q132 : (Jvm.Cond.selects "BoxFilters" ({ cls := "BoxFilters", name := "sum", desc := "()I" } : Jvm.MethodName) ({ cls := "BoxFilters", name := "sum", desc := "()I" } : Jvm.MethodName)) ∈ lw_all := lw_g (lw_at lw_m1 117 rfl) rfl
theorem q133 : (Jvm.Cond.code ({ cls := "BoxFilters", name := "sum", desc := "()I" } : Jvm.MethodName) prog_1_method_23_code (3 : Nat) (Option.some Jvm.ClassFile.FieldType.int)) ∈ lw_all := lw_g (lw_at lw_m1 118 rfl) rfl
theorem q135 : (Jvm.Cond.instanceMethod ({ cls := "BoxFilters", name := "equal", desc := "()I" } : Jvm.MethodName)) ∈ lw_all := lw_g (lw_at lw_m1 120 rfl) rfl
theorem q136 : (Jvm.Cond.selects "BoxFilters" ({ cls := "BoxFilters", name := "equal", desc := "()I" } : Jvm.MethodName) ({ cls := "BoxFilters", name := "equal", desc := "()I" } : Jvm.MethodName)) ∈ lw_all := lw_g (lw_at lw_m1 121 rfl) rfl
theorem q137 : (Jvm.Cond.code ({ cls := "BoxFilters", name := "equal", desc := "()I" } : Jvm.MethodName) prog_1_method_24_code (3 : Nat) (Option.some Jvm.ClassFile.FieldType.int)) ∈ lw_all := lw_g (lw_at lw_m1 122 rfl) rfl
theorem q139 : (Jvm.Cond.instanceMethod ({ cls := "BoxFilters", name := "above", desc := "()I" } : Jvm.MethodName)) ∈ lw_all := lw_g (lw_at lw_m1 124 rfl) rfl
theorem q140 : (Jvm.Cond.selects "BoxFilters" ({ cls := "BoxFilters", name := "above", desc := "()I" } : Jvm.MethodName) ({ cls := "BoxFilters", name := "above", desc := "()I" } : Jvm.MethodName)) ∈ lw_all := lw_g (lw_at lw_m1 125 rfl) rfl
theorem q141 : (Jvm.Cond.code ({ cls := "BoxFilters", name := "above", desc := "()I" } : Jvm.MethodName) prog_1_method_25_code (3 : Nat) (Option.some Jvm.ClassFile.FieldType.int)) ∈ lw_all := lw_g (lw_at lw_m1 126 rfl) rfl
theorem q143 : (Jvm.Cond.instanceMethod ({ cls := "BoxFilters", name := "patches", desc := "()I" } : Jvm.MethodName)) ∈ lw_all := lw_g (lw_at lw_m1 128 rfl) rfl
theorem q144 : (Jvm.Cond.selects "BoxFilters" ({ cls := "BoxFilters", name := "patches", desc := "()I" } : Jvm.MethodName) ({ cls := "BoxFilters", name := "patches", desc := "()I" } : Jvm.MethodName)) ∈ lw_all := lw_g (lw_at lw_m1 129 rfl) rfl
theorem q145 : (Jvm.Cond.code ({ cls := "BoxFilters", name := "patches", desc := "()I" } : Jvm.MethodName) prog_1_method_28_code (3 : Nat) (Option.some Jvm.ClassFile.FieldType.int)) ∈ lw_all := lw_g (lw_at lw_m1 130 rfl) rfl
theorem q146 : (Jvm.Cond.methodLink "BoxFilters" (71 : Nat) ({ cls := "BoxFilters", name := "join", desc := "(II)Z" } : Jvm.MethodName)) ∈ lw_all := lw_g (lw_at lw_m1 131 rfl) rfl
theorem q147 : (Jvm.Cond.privateMethod ({ cls := "BoxFilters", name := "join", desc := "(II)Z" } : Jvm.MethodName)) ∈ lw_tbl := lw_at lw_m1 132 rfl
theorem q148 : (Jvm.Cond.instanceMethod ({ cls := "BoxFilters", name := "join", desc := "(II)Z" } : Jvm.MethodName)) ∈ lw_all := lw_g (lw_at lw_m1 133 rfl) rfl
theorem q149 : (Jvm.Cond.code ({ cls := "BoxFilters", name := "join", desc := "(II)Z" } : Jvm.MethodName) prog_1_method_27_code (5 : Nat) (Option.some Jvm.ClassFile.FieldType.boolean)) ∈ lw_all := lw_g (lw_at lw_m1 134 rfl) rfl
theorem q150 : (Jvm.Cond.methodLink "BoxFilters" (68 : Nat) ({ cls := "BoxFilters", name := "find", desc := "(I)I" } : Jvm.MethodName)) ∈ lw_all := lw_g (lw_at lw_m1 135 rfl) rfl
theorem q151 : (Jvm.Cond.privateMethod ({ cls := "BoxFilters", name := "find", desc := "(I)I" } : Jvm.MethodName)) ∈ lw_tbl := lw_at lw_m1 136 rfl
theorem q152 : (Jvm.Cond.instanceMethod ({ cls := "BoxFilters", name := "find", desc := "(I)I" } : Jvm.MethodName)) ∈ lw_all := lw_g (lw_at lw_m1 137 rfl) rfl
theorem q153 : (Jvm.Cond.code ({ cls := "BoxFilters", name := "find", desc := "(I)I" } : Jvm.MethodName) prog_1_method_26_code (3 : Nat) (Option.some Jvm.ClassFile.FieldType.int)) ∈ lw_all := lw_g (lw_at lw_m1 138 rfl) rfl
theorem in_X0 : ∀ w ∈ wsX00, w ∈ lw_all := lw_in wsX00 [33, 35, 37, 39, 41, 43, 45] (by decide +kernel) (by decide +kernel)
theorem q17 : (Jvm.Cond.initialized "BoxFiltersModel") ∈ lw_all := lw_g (lw_at lw_m1 2 rfl) rfl
theorem q155 : (Jvm.Cond.instantiable "BoxFiltersModel" (5 : Nat)) ∈ lw_all := lw_g (lw_at lw_m1 140 rfl) rfl
theorem q157 : (Jvm.Cond.instanceMethod ({ cls := "BoxFiltersModel", name := "<init>", desc := "()V" } : Jvm.MethodName)) ∈ lw_all := lw_g (lw_at lw_m1 142 rfl) rfl
theorem q158 : (Jvm.Cond.code ({ cls := "BoxFiltersModel", name := "<init>", desc := "()V" } : Jvm.MethodName) prog_3_method_1_code (1 : Nat) (Option.none : Option Jvm.ClassFile.FieldType)) ∈ lw_all := lw_g (lw_at lw_m1 143 rfl) rfl
theorem q159 : (Jvm.Cond.methodLink "BoxFiltersModel" (1 : Nat) ({ cls := "java/lang/Object", name := "<init>", desc := "()V" } : Jvm.MethodName)) ∈ lw_all := lw_g (lw_at lw_m1 144 rfl) rfl
theorem q160 : (Jvm.Cond.fieldLink "BoxFiltersModel" (7 : Nat) "BoxFiltersModel" "pixels" "[I") ∈ lw_all := lw_g (lw_at lw_m1 145 rfl) rfl
theorem q161 : (Jvm.Cond.fieldLink "BoxFiltersModel" (13 : Nat) "BoxFiltersModel" "spare" "[I") ∈ lw_all := lw_g (lw_at lw_m1 146 rfl) rfl
theorem q162 : (Jvm.Cond.fieldLink "BoxFiltersModel" (16 : Nat) "BoxFiltersModel" "result" "[I") ∈ lw_all := lw_g (lw_at lw_m1 147 rfl) rfl
theorem q163 : (Jvm.Cond.fieldLink "BoxFiltersModel" (19 : Nat) "BoxFiltersModel" "before" "[I") ∈ lw_all := lw_g (lw_at lw_m1 148 rfl) rfl
theorem q164 : (Jvm.Cond.fieldLink "BoxFiltersModel" (22 : Nat) "BoxFiltersModel" "marks" "[I") ∈ lw_all := lw_g (lw_at lw_m1 149 rfl) rfl
theorem q165 : (Jvm.Cond.laysFinal "BoxFiltersModel" "BoxFiltersModel" "pixels" "[I") ∈ lw_all := lw_g (lw_at lw_m1 150 rfl) rfl
theorem q166 : (Jvm.Cond.soleField "BoxFiltersModel" "pixels") ∈ lw_all := lw_g (lw_at lw_m1 151 rfl) rfl
theorem q167 : (Jvm.Cond.laysFinal "BoxFiltersModel" "BoxFiltersModel" "spare" "[I") ∈ lw_all := lw_g (lw_at lw_m1 152 rfl) rfl
theorem q168 : (Jvm.Cond.soleField "BoxFiltersModel" "spare") ∈ lw_all := lw_g (lw_at lw_m1 153 rfl) rfl
theorem q169 : (Jvm.Cond.laysFinal "BoxFiltersModel" "BoxFiltersModel" "result" "[I") ∈ lw_all := lw_g (lw_at lw_m1 154 rfl) rfl
theorem q170 : (Jvm.Cond.soleField "BoxFiltersModel" "result") ∈ lw_all := lw_g (lw_at lw_m1 155 rfl) rfl
theorem q171 : (Jvm.Cond.laysFinal "BoxFiltersModel" "BoxFiltersModel" "before" "[I") ∈ lw_all := lw_g (lw_at lw_m1 156 rfl) rfl
theorem q172 : (Jvm.Cond.soleField "BoxFiltersModel" "before") ∈ lw_all := lw_g (lw_at lw_m1 157 rfl) rfl
theorem q173 : (Jvm.Cond.laysFinal "BoxFiltersModel" "BoxFiltersModel" "marks" "[I") ∈ lw_all := lw_g (lw_at lw_m1 158 rfl) rfl
theorem q174 : (Jvm.Cond.soleField "BoxFiltersModel" "marks") ∈ lw_all := lw_g (lw_at lw_m1 159 rfl) rfl
theorem q175 : (Jvm.Cond.superclass "BoxFiltersModel" "java/lang/Object") ∈ lw_all := lw_g (lw_at lw_m1 160 rfl) rfl
theorem q177 : (Jvm.Cond.instanceMethod ({ cls := "BoxFiltersModel", name := "set", desc := "(III)I" } : Jvm.MethodName)) ∈ lw_all := lw_g (lw_at lw_m1 162 rfl) rfl
theorem q178 : (Jvm.Cond.selects "BoxFiltersModel" ({ cls := "BoxFiltersModel", name := "set", desc := "(III)I" } : Jvm.MethodName) ({ cls := "BoxFiltersModel", name := "set", desc := "(III)I" } : Jvm.MethodName)) ∈ lw_all := lw_g (lw_at lw_m1 163 rfl) rfl
theorem q179 : (Jvm.Cond.code ({ cls := "BoxFiltersModel", name := "set", desc := "(III)I" } : Jvm.MethodName) prog_3_method_3_code (5 : Nat) (Option.some Jvm.ClassFile.FieldType.int)) ∈ lw_all := lw_g (lw_at lw_m1 164 rfl) rfl
theorem q180 : (Jvm.Cond.methodLink "BoxFiltersModel" (25 : Nat) ({ cls := "BoxFiltersModel", name := "isPixel", desc := "(II)Z" } : Jvm.MethodName)) ∈ lw_all := lw_g (lw_at lw_m1 165 rfl) rfl
theorem q181 : (Jvm.Cond.privateMethod ({ cls := "BoxFiltersModel", name := "isPixel", desc := "(II)Z" } : Jvm.MethodName)) ∈ lw_tbl := lw_at lw_m1 166 rfl
theorem q182 : (Jvm.Cond.instanceMethod ({ cls := "BoxFiltersModel", name := "isPixel", desc := "(II)Z" } : Jvm.MethodName)) ∈ lw_all := lw_g (lw_at lw_m1 167 rfl) rfl
theorem q183 : (Jvm.Cond.code ({ cls := "BoxFiltersModel", name := "isPixel", desc := "(II)Z" } : Jvm.MethodName) prog_3_method_2_code (3 : Nat) (Option.some Jvm.ClassFile.FieldType.boolean)) ∈ lw_all := lw_g (lw_at lw_m1 168 rfl) rfl
theorem q185 : (Jvm.Cond.instanceMethod ({ cls := "BoxFiltersModel", name := "pattern", desc := "(II)V" } : Jvm.MethodName)) ∈ lw_all := lw_g (lw_at lw_m1 170 rfl) rfl
theorem q186 : (Jvm.Cond.selects "BoxFiltersModel" ({ cls := "BoxFiltersModel", name := "pattern", desc := "(II)V" } : Jvm.MethodName) ({ cls := "BoxFiltersModel", name := "pattern", desc := "(II)V" } : Jvm.MethodName)) ∈ lw_all := lw_g (lw_at lw_m1 171 rfl) rfl
theorem q187 : (Jvm.Cond.code ({ cls := "BoxFiltersModel", name := "pattern", desc := "(II)V" } : Jvm.MethodName) prog_3_method_4_code (4 : Nat) (Option.none : Option Jvm.ClassFile.FieldType)) ∈ lw_all := lw_g (lw_at lw_m1 172 rfl) rfl
theorem q189 : (Jvm.Cond.instanceMethod ({ cls := "BoxFiltersModel", name := "dilate", desc := "(II)I" } : Jvm.MethodName)) ∈ lw_all := lw_g (lw_at lw_m1 174 rfl) rfl
theorem q190 : (Jvm.Cond.selects "BoxFiltersModel" ({ cls := "BoxFiltersModel", name := "dilate", desc := "(II)I" } : Jvm.MethodName) ({ cls := "BoxFiltersModel", name := "dilate", desc := "(II)I" } : Jvm.MethodName)) ∈ lw_all := lw_g (lw_at lw_m1 175 rfl) rfl
theorem q191 : (Jvm.Cond.code ({ cls := "BoxFiltersModel", name := "dilate", desc := "(II)I" } : Jvm.MethodName) prog_3_method_8_code (3 : Nat) (Option.some Jvm.ClassFile.FieldType.int)) ∈ lw_all := lw_g (lw_at lw_m1 176 rfl) rfl
theorem q192 : (Jvm.Cond.methodLink "BoxFiltersModel" (37 : Nat) ({ cls := "BoxFiltersModel", name := "filter", desc := "(IIII)I" } : Jvm.MethodName)) ∈ lw_all := lw_g (lw_at lw_m1 177 rfl) rfl
theorem q193 : (Jvm.Cond.privateMethod ({ cls := "BoxFiltersModel", name := "filter", desc := "(IIII)I" } : Jvm.MethodName)) ∈ lw_tbl := lw_at lw_m1 178 rfl
theorem q194 : (Jvm.Cond.instanceMethod ({ cls := "BoxFiltersModel", name := "filter", desc := "(IIII)I" } : Jvm.MethodName)) ∈ lw_all := lw_g (lw_at lw_m1 179 rfl) rfl
theorem q195 : (Jvm.Cond.code ({ cls := "BoxFiltersModel", name := "filter", desc := "(IIII)I" } : Jvm.MethodName) prog_3_method_7_code (7 : Nat) (Option.some Jvm.ClassFile.FieldType.int)) ∈ lw_all := lw_g (lw_at lw_m1 180 rfl) rfl
theorem q196 : (Jvm.Cond.methodLink "BoxFiltersModel" (33 : Nat) ({ cls := "BoxFiltersModel", name := "carryOut", desc := "(III)V" } : Jvm.MethodName)) ∈ lw_all := lw_g (lw_at lw_m1 181 rfl) rfl
theorem q197 : (Jvm.Cond.privateMethod ({ cls := "BoxFiltersModel", name := "carryOut", desc := "(III)V" } : Jvm.MethodName)) ∈ lw_tbl := lw_at lw_m1 182 rfl
theorem q198 : (Jvm.Cond.instanceMethod ({ cls := "BoxFiltersModel", name := "carryOut", desc := "(III)V" } : Jvm.MethodName)) ∈ lw_all := lw_g (lw_at lw_m1 183 rfl) rfl
theorem q199 : (Jvm.Cond.code ({ cls := "BoxFiltersModel", name := "carryOut", desc := "(III)V" } : Jvm.MethodName) prog_3_method_6_code (5 : Nat) (Option.none : Option Jvm.ClassFile.FieldType)) ∈ lw_all := lw_g (lw_at lw_m1 184 rfl) rfl
theorem q200 : (Jvm.Cond.methodLink "BoxFiltersModel" (29 : Nat) ({ cls := "BoxFiltersModel", name := "look", desc := "(IIII)I" } : Jvm.MethodName)) ∈ lw_all := lw_g (lw_at lw_m1 185 rfl) rfl
theorem q201 : (Jvm.Cond.privateMethod ({ cls := "BoxFiltersModel", name := "look", desc := "(IIII)I" } : Jvm.MethodName)) ∈ lw_tbl := lw_at lw_m1 186 rfl
theorem q202 : (Jvm.Cond.instanceMethod ({ cls := "BoxFiltersModel", name := "look", desc := "(IIII)I" } : Jvm.MethodName)) ∈ lw_all := lw_g (lw_at lw_m1 187 rfl) rfl
theorem q203 : (Jvm.Cond.code ({ cls := "BoxFiltersModel", name := "look", desc := "(IIII)I" } : Jvm.MethodName) prog_3_method_5_code (12 : Nat) (Option.some Jvm.ClassFile.FieldType.int)) ∈ lw_all := lw_g (lw_at lw_m1 188 rfl) rfl
theorem q205 : (Jvm.Cond.instanceMethod ({ cls := "BoxFiltersModel", name := "erode", desc := "(II)I" } : Jvm.MethodName)) ∈ lw_all := lw_g (lw_at lw_m1 190 rfl) rfl
theorem q206 : (Jvm.Cond.selects "BoxFiltersModel" ({ cls := "BoxFiltersModel", name := "erode", desc := "(II)I" } : Jvm.MethodName) ({ cls := "BoxFiltersModel", name := "erode", desc := "(II)I" } : Jvm.MethodName)) ∈ lw_all := lw_g (lw_at lw_m1 191 rfl) rfl
theorem q207 : (Jvm.Cond.code ({ cls := "BoxFiltersModel", name := "erode", desc := "(II)I" } : Jvm.MethodName) prog_3_method_9_code (3 : Nat) (Option.some Jvm.ClassFile.FieldType.int)) ∈ lw_all := lw_g (lw_at lw_m1 192 rfl) rfl
theorem q209 : (Jvm.Cond.instanceMethod ({ cls := "BoxFiltersModel", name := "open", desc := "(II)I" } : Jvm.MethodName)) ∈ lw_all := lw_g (lw_at lw_m1 194 rfl) rfl
theorem q210 : (Jvm.Cond.selects "BoxFiltersModel" ({ cls := "BoxFiltersModel", name := "open", desc := "(II)I" } : Jvm.MethodName) ({ cls := "BoxFiltersModel", name := "open", desc := "(II)I" } : Jvm.MethodName)) ∈ lw_all := lw_g (lw_at lw_m1 195 rfl) rfl
theorem q211 : (Jvm.Cond.code ({ cls := "BoxFiltersModel", name := "open", desc := "(II)I" } : Jvm.MethodName) prog_3_method_10_code (3 : Nat) (Option.some Jvm.ClassFile.FieldType.int)) ∈ lw_all := lw_g (lw_at lw_m1 196 rfl) rfl
theorem q213 : (Jvm.Cond.instanceMethod ({ cls := "BoxFiltersModel", name := "close", desc := "(II)I" } : Jvm.MethodName)) ∈ lw_all := lw_g (lw_at lw_m1 198 rfl) rfl
theorem q214 : (Jvm.Cond.selects "BoxFiltersModel" ({ cls := "BoxFiltersModel", name := "close", desc := "(II)I" } : Jvm.MethodName) ({ cls := "BoxFiltersModel", name := "close", desc := "(II)I" } : Jvm.MethodName)) ∈ lw_all := lw_g (lw_at lw_m1 199 rfl) rfl
theorem q215 : (Jvm.Cond.code ({ cls := "BoxFiltersModel", name := "close", desc := "(II)I" } : Jvm.MethodName) prog_3_method_11_code (3 : Nat) (Option.some Jvm.ClassFile.FieldType.int)) ∈ lw_all := lw_g (lw_at lw_m1 200 rfl) rfl
theorem q217 : (Jvm.Cond.instanceMethod ({ cls := "BoxFiltersModel", name := "mean", desc := "(II)I" } : Jvm.MethodName)) ∈ lw_all := lw_g (lw_at lw_m1 202 rfl) rfl
theorem q218 : (Jvm.Cond.selects "BoxFiltersModel" ({ cls := "BoxFiltersModel", name := "mean", desc := "(II)I" } : Jvm.MethodName) ({ cls := "BoxFiltersModel", name := "mean", desc := "(II)I" } : Jvm.MethodName)) ∈ lw_all := lw_g (lw_at lw_m1 203 rfl) rfl
theorem q219 : (Jvm.Cond.code ({ cls := "BoxFiltersModel", name := "mean", desc := "(II)I" } : Jvm.MethodName) prog_3_method_12_code (3 : Nat) (Option.some Jvm.ClassFile.FieldType.int)) ∈ lw_all := lw_g (lw_at lw_m1 204 rfl) rfl
theorem q221 : (Jvm.Cond.instanceMethod ({ cls := "BoxFiltersModel", name := "threshold", desc := "(I)I" } : Jvm.MethodName)) ∈ lw_all := lw_g (lw_at lw_m1 206 rfl) rfl
theorem q222 : (Jvm.Cond.selects "BoxFiltersModel" ({ cls := "BoxFiltersModel", name := "threshold", desc := "(I)I" } : Jvm.MethodName) ({ cls := "BoxFiltersModel", name := "threshold", desc := "(I)I" } : Jvm.MethodName)) ∈ lw_all := lw_g (lw_at lw_m1 207 rfl) rfl
theorem q223 : (Jvm.Cond.code ({ cls := "BoxFiltersModel", name := "threshold", desc := "(I)I" } : Jvm.MethodName) prog_3_method_13_code (4 : Nat) (Option.some Jvm.ClassFile.FieldType.int)) ∈ lw_all := lw_g (lw_at lw_m1 208 rfl) rfl
theorem q225 : (Jvm.Cond.instanceMethod ({ cls := "BoxFiltersModel", name := "exchange", desc := "()V" } : Jvm.MethodName)) ∈ lw_all := lw_g (lw_at lw_m1 210 rfl) rfl
theorem q226 : (Jvm.Cond.selects "BoxFiltersModel" ({ cls := "BoxFiltersModel", name := "exchange", desc := "()V" } : Jvm.MethodName) ({ cls := "BoxFiltersModel", name := "exchange", desc := "()V" } : Jvm.MethodName)) ∈ lw_all := lw_g (lw_at lw_m1 211 rfl) rfl
theorem q227 : (Jvm.Cond.code ({ cls := "BoxFiltersModel", name := "exchange", desc := "()V" } : Jvm.MethodName) prog_3_method_14_code (3 : Nat) (Option.none : Option Jvm.ClassFile.FieldType)) ∈ lw_all := lw_g (lw_at lw_m1 212 rfl) rfl
theorem q229 : (Jvm.Cond.instanceMethod ({ cls := "BoxFiltersModel", name := "keep", desc := "()V" } : Jvm.MethodName)) ∈ lw_all := lw_g (lw_at lw_m1 214 rfl) rfl
theorem q230 : (Jvm.Cond.selects "BoxFiltersModel" ({ cls := "BoxFiltersModel", name := "keep", desc := "()V" } : Jvm.MethodName) ({ cls := "BoxFiltersModel", name := "keep", desc := "()V" } : Jvm.MethodName)) ∈ lw_all := lw_g (lw_at lw_m1 215 rfl) rfl
theorem q231 : (Jvm.Cond.code ({ cls := "BoxFiltersModel", name := "keep", desc := "()V" } : Jvm.MethodName) prog_3_method_15_code (2 : Nat) (Option.none : Option Jvm.ClassFile.FieldType)) ∈ lw_all := lw_g (lw_at lw_m1 216 rfl) rfl
theorem q233 : (Jvm.Cond.instanceMethod ({ cls := "BoxFiltersModel", name := "pixel", desc := "(II)I" } : Jvm.MethodName)) ∈ lw_all := lw_g (lw_at lw_m1 218 rfl) rfl
theorem q234 : (Jvm.Cond.selects "BoxFiltersModel" ({ cls := "BoxFiltersModel", name := "pixel", desc := "(II)I" } : Jvm.MethodName) ({ cls := "BoxFiltersModel", name := "pixel", desc := "(II)I" } : Jvm.MethodName)) ∈ lw_all := lw_g (lw_at lw_m1 219 rfl) rfl
theorem q235 : (Jvm.Cond.code ({ cls := "BoxFiltersModel", name := "pixel", desc := "(II)I" } : Jvm.MethodName) prog_3_method_16_code (3 : Nat) (Option.some Jvm.ClassFile.FieldType.int)) ∈ lw_all := lw_g (lw_at lw_m1 220 rfl) rfl
theorem q237 : (Jvm.Cond.instanceMethod ({ cls := "BoxFiltersModel", name := "sum", desc := "()I" } : Jvm.MethodName)) ∈ lw_all := lw_g (lw_at lw_m1 222 rfl) rfl
theorem q238 : (Jvm.Cond.selects "BoxFiltersModel" ({ cls := "BoxFiltersModel", name := "sum", desc := "()I" } : Jvm.MethodName) ({ cls := "BoxFiltersModel", name := "sum", desc := "()I" } : Jvm.MethodName)) ∈ lw_all := lw_g (lw_at lw_m1 223 rfl) rfl
theorem q239 : (Jvm.Cond.code ({ cls := "BoxFiltersModel", name := "sum", desc := "()I" } : Jvm.MethodName) prog_3_method_17_code (3 : Nat) (Option.some Jvm.ClassFile.FieldType.int)) ∈ lw_all := lw_g (lw_at lw_m1 224 rfl) rfl
theorem q241 : (Jvm.Cond.instanceMethod ({ cls := "BoxFiltersModel", name := "equal", desc := "()I" } : Jvm.MethodName)) ∈ lw_all := lw_g (lw_at lw_m1 226 rfl) rfl
theorem q242 : (Jvm.Cond.selects "BoxFiltersModel" ({ cls := "BoxFiltersModel", name := "equal", desc := "()I" } : Jvm.MethodName) ({ cls := "BoxFiltersModel", name := "equal", desc := "()I" } : Jvm.MethodName)) ∈ lw_all := lw_g (lw_at lw_m1 227 rfl) rfl
theorem q243 : (Jvm.Cond.code ({ cls := "BoxFiltersModel", name := "equal", desc := "()I" } : Jvm.MethodName) prog_3_method_18_code (3 : Nat) (Option.some Jvm.ClassFile.FieldType.int)) ∈ lw_all := lw_g (lw_at lw_m1 228 rfl) rfl
theorem q245 : (Jvm.Cond.instanceMethod ({ cls := "BoxFiltersModel", name := "above", desc := "()I" } : Jvm.MethodName)) ∈ lw_all := lw_g (lw_at lw_m1 230 rfl) rfl
theorem q246 : (Jvm.Cond.selects "BoxFiltersModel" ({ cls := "BoxFiltersModel", name := "above", desc := "()I" } : Jvm.MethodName) ({ cls := "BoxFiltersModel", name := "above", desc := "()I" } : Jvm.MethodName)) ∈ lw_all := lw_g (lw_at lw_m1 231 rfl) rfl
theorem q247 : (Jvm.Cond.code ({ cls := "BoxFiltersModel", name := "above", desc := "()I" } : Jvm.MethodName) prog_3_method_19_code (3 : Nat) (Option.some Jvm.ClassFile.FieldType.int)) ∈ lw_all := lw_g (lw_at lw_m1 232 rfl) rfl
theorem q249 : (Jvm.Cond.instanceMethod ({ cls := "BoxFiltersModel", name := "patches", desc := "()I" } : Jvm.MethodName)) ∈ lw_all := lw_g (lw_at lw_m1 234 rfl) rfl
theorem q250 : (Jvm.Cond.selects "BoxFiltersModel" ({ cls := "BoxFiltersModel", name := "patches", desc := "()I" } : Jvm.MethodName) ({ cls := "BoxFiltersModel", name := "patches", desc := "()I" } : Jvm.MethodName)) ∈ lw_all := lw_g (lw_at lw_m1 235 rfl) rfl
theorem q251 : (Jvm.Cond.code ({ cls := "BoxFiltersModel", name := "patches", desc := "()I" } : Jvm.MethodName) prog_3_method_22_code (4 : Nat) (Option.some Jvm.ClassFile.FieldType.int)) ∈ lw_all := lw_g (lw_at lw_m1 236 rfl) rfl
theorem q252 : (Jvm.Cond.methodLink "BoxFiltersModel" (43 : Nat) ({ cls := "BoxFiltersModel", name := "spread", desc := "(I)Z" } : Jvm.MethodName)) ∈ lw_all := lw_g (lw_at lw_m1 237 rfl) rfl
theorem q253 : (Jvm.Cond.privateMethod ({ cls := "BoxFiltersModel", name := "spread", desc := "(I)Z" } : Jvm.MethodName)) ∈ lw_tbl := lw_at lw_m1 238 rfl
theorem q254 : (Jvm.Cond.instanceMethod ({ cls := "BoxFiltersModel", name := "spread", desc := "(I)Z" } : Jvm.MethodName)) ∈ lw_all := lw_g (lw_at lw_m1 239 rfl) rfl
theorem q255 : (Jvm.Cond.code ({ cls := "BoxFiltersModel", name := "spread", desc := "(I)Z" } : Jvm.MethodName) prog_3_method_21_code (3 : Nat) (Option.some Jvm.ClassFile.FieldType.boolean)) ∈ lw_all := lw_g (lw_at lw_m2 0 rfl) rfl
theorem q256 : (Jvm.Cond.methodLink "BoxFiltersModel" (40 : Nat) ({ cls := "BoxFiltersModel", name := "take", desc := "(II)Z" } : Jvm.MethodName)) ∈ lw_all := lw_g (lw_at lw_m2 1 rfl) rfl
theorem q257 : (Jvm.Cond.privateMethod ({ cls := "BoxFiltersModel", name := "take", desc := "(II)Z" } : Jvm.MethodName)) ∈ lw_tbl := lw_at lw_m2 2 rfl
theorem q258 : (Jvm.Cond.instanceMethod ({ cls := "BoxFiltersModel", name := "take", desc := "(II)Z" } : Jvm.MethodName)) ∈ lw_all := lw_g (lw_at lw_m2 3 rfl) rfl
theorem q259 : (Jvm.Cond.code ({ cls := "BoxFiltersModel", name := "take", desc := "(II)Z" } : Jvm.MethodName) prog_3_method_20_code (3 : Nat) (Option.some Jvm.ClassFile.FieldType.boolean)) ∈ lw_all := lw_g (lw_at lw_m2 4 rfl) rfl
theorem in_X1 : ∀ w ∈ wsX10, w ∈ lw_all := lw_in wsX10 [165, 167, 169, 171, 173] (by decide +kernel) (by decide +kernel)
end
section
set_option maxRecDepth 100000
theorem dX0_init_0 : decode cX0_init 0 = .ok (.aload_n 0, 1) := by decide +kernel
theorem dX0_init_1 : decode cX0_init 1 = .ok (.invokespecial 1, 3) := by decide +kernel
theorem dX0_init_4 : decode cX0_init 4 = .ok (.aload_n 0, 1) := by decide +kernel
theorem dX0_init_5 : decode cX0_init 5 = .ok (.sipush 256, 3) := by decide +kernel
theorem dX0_init_8 : decode cX0_init 8 = .ok (.newarray .int, 2) := by decide +kernel
theorem dX0_init_10 : decode cX0_init 10 = .ok (.putfield 7, 3) := by decide +kernel
theorem dX0_init_13 : decode cX0_init 13 = .ok (.aload_n 0, 1) := by decide +kernel
theorem dX0_init_14 : decode cX0_init 14 = .ok (.sipush 256, 3) := by decide +kernel
theorem dX0_init_17 : decode cX0_init 17 = .ok (.newarray .int, 2) := by decide +kernel
theorem dX0_init_19 : decode cX0_init 19 = .ok (.putfield 13, 3) := by decide +kernel
theorem dX0_init_22 : decode cX0_init 22 = .ok (.aload_n 0, 1) := by decide +kernel
theorem dX0_init_23 : decode cX0_init 23 = .ok (.sipush 256, 3) := by decide +kernel
theorem dX0_init_26 : decode cX0_init 26 = .ok (.newarray .int, 2) := by decide +kernel
theorem dX0_init_28 : decode cX0_init 28 = .ok (.putfield 16, 3) := by decide +kernel
theorem dX0_init_31 : decode cX0_init 31 = .ok (.aload_n 0, 1) := by decide +kernel
theorem dX0_init_32 : decode cX0_init 32 = .ok (.bipush 16, 2) := by decide +kernel
theorem dX0_init_34 : decode cX0_init 34 = .ok (.newarray .int, 2) := by decide +kernel
theorem dX0_init_36 : decode cX0_init 36 = .ok (.putfield 19, 3) := by decide +kernel
theorem dX0_init_39 : decode cX0_init 39 = .ok (.aload_n 0, 1) := by decide +kernel
theorem dX0_init_40 : decode cX0_init 40 = .ok (.bipush 16, 2) := by decide +kernel
theorem dX0_init_42 : decode cX0_init 42 = .ok (.newarray .int, 2) := by decide +kernel
theorem dX0_init_44 : decode cX0_init 44 = .ok (.putfield 22, 3) := by decide +kernel
theorem dX0_init_47 : decode cX0_init 47 = .ok (.aload_n 0, 1) := by decide +kernel
theorem dX0_init_48 : decode cX0_init 48 = .ok (.sipush 289, 3) := by decide +kernel
theorem dX0_init_51 : decode cX0_init 51 = .ok (.newarray .int, 2) := by decide +kernel
theorem dX0_init_53 : decode cX0_init 53 = .ok (.putfield 25, 3) := by decide +kernel
theorem dX0_init_56 : decode cX0_init 56 = .ok (.aload_n 0, 1) := by decide +kernel
theorem dX0_init_57 : decode cX0_init 57 = .ok (.sipush 256, 3) := by decide +kernel
theorem dX0_init_60 : decode cX0_init 60 = .ok (.newarray .int, 2) := by decide +kernel
theorem dX0_init_62 : decode cX0_init 62 = .ok (.putfield 28, 3) := by decide +kernel
theorem dX0_init_65 : decode cX0_init 65 = .ok (.aload_n 0, 1) := by decide +kernel
theorem dX0_init_66 : decode cX0_init 66 = .ok (.getfield 7, 3) := by decide +kernel
theorem dX0_init_69 : decode cX0_init 69 = .ok (.iconst 0, 1) := by decide +kernel
theorem dX0_init_70 : decode cX0_init 70 = .ok (.iconst 0, 1) := by decide +kernel
theorem dX0_init_71 : decode cX0_init 71 = .ok (.iastore, 1) := by decide +kernel
theorem dX0_init_72 : decode cX0_init 72 = .ok (.return_, 1) := by decide +kernel
theorem dX0_set_0 : decode cX0_set 0 = .ok (.iload_n 1, 1) := by decide +kernel
theorem dX0_set_1 : decode cX0_set 1 = .ok (.iload_n 2, 1) := by decide +kernel
theorem dX0_set_2 : decode cX0_set 2 = .ok (.invokestatic 31, 3) := by decide +kernel
theorem dX0_set_5 : decode cX0_set 5 = .ok (.ifCond .eq 5, 3) := by decide +kernel
theorem dX0_set_8 : decode cX0_set 8 = .ok (.iconst (-1), 1) := by decide +kernel
theorem dX0_set_9 : decode cX0_set 9 = .ok (.ireturn, 1) := by decide +kernel
theorem dX0_set_10 : decode cX0_set 10 = .ok (.iload_n 3, 1) := by decide +kernel
theorem dX0_set_11 : decode cX0_set 11 = .ok (.ifCond .lt 10, 3) := by decide +kernel
theorem dX0_set_14 : decode cX0_set 14 = .ok (.iload_n 3, 1) := by decide +kernel
theorem dX0_set_15 : decode cX0_set 15 = .ok (.sipush 255, 3) := by decide +kernel
theorem dX0_set_18 : decode cX0_set 18 = .ok (.if_icmp .le 6, 3) := by decide +kernel
theorem dX0_set_21 : decode cX0_set 21 = .ok (.bipush (-2), 2) := by decide +kernel
theorem dX0_set_23 : decode cX0_set 23 = .ok (.ireturn, 1) := by decide +kernel
theorem dX0_set_24 : decode cX0_set 24 = .ok (.aload_n 0, 1) := by decide +kernel
theorem dX0_set_25 : decode cX0_set 25 = .ok (.getfield 7, 3) := by decide +kernel
theorem dX0_set_28 : decode cX0_set 28 = .ok (.iload_n 1, 1) := by decide +kernel
theorem dX0_set_29 : decode cX0_set 29 = .ok (.bipush 16, 2) := by decide +kernel
theorem dX0_set_31 : decode cX0_set 31 = .ok (.imul, 1) := by decide +kernel
theorem dX0_set_32 : decode cX0_set 32 = .ok (.iload_n 2, 1) := by decide +kernel
theorem dX0_set_33 : decode cX0_set 33 = .ok (.iadd, 1) := by decide +kernel
theorem dX0_set_34 : decode cX0_set 34 = .ok (.iaload, 1) := by decide +kernel
theorem dX0_set_35 : decode cX0_set 35 = .ok (.istore 4, 2) := by decide +kernel
theorem dX0_set_37 : decode cX0_set 37 = .ok (.aload_n 0, 1) := by decide +kernel
theorem dX0_set_38 : decode cX0_set 38 = .ok (.getfield 7, 3) := by decide +kernel
theorem dX0_set_41 : decode cX0_set 41 = .ok (.iload_n 1, 1) := by decide +kernel
theorem dX0_set_42 : decode cX0_set 42 = .ok (.bipush 16, 2) := by decide +kernel
theorem dX0_set_44 : decode cX0_set 44 = .ok (.imul, 1) := by decide +kernel
theorem dX0_set_45 : decode cX0_set 45 = .ok (.iload_n 2, 1) := by decide +kernel
theorem dX0_set_46 : decode cX0_set 46 = .ok (.iadd, 1) := by decide +kernel
theorem dX0_set_47 : decode cX0_set 47 = .ok (.iload_n 3, 1) := by decide +kernel
theorem dX0_set_48 : decode cX0_set 48 = .ok (.iastore, 1) := by decide +kernel
theorem dX0_set_49 : decode cX0_set 49 = .ok (.iload 4, 2) := by decide +kernel
theorem dX0_set_51 : decode cX0_set 51 = .ok (.ireturn, 1) := by decide +kernel
theorem dX0_badPixel_0 : decode cX0_badPixel 0 = .ok (.iload_n 0, 1) := by decide +kernel
theorem dX0_badPixel_1 : decode cX0_badPixel 1 = .ok (.ifCond .lt 19, 3) := by decide +kernel
theorem dX0_badPixel_4 : decode cX0_badPixel 4 = .ok (.iload_n 0, 1) := by decide +kernel
theorem dX0_badPixel_5 : decode cX0_badPixel 5 = .ok (.bipush 16, 2) := by decide +kernel
theorem dX0_badPixel_7 : decode cX0_badPixel 7 = .ok (.if_icmp .ge 13, 3) := by decide +kernel
theorem dX0_badPixel_10 : decode cX0_badPixel 10 = .ok (.iload_n 1, 1) := by decide +kernel
theorem dX0_badPixel_11 : decode cX0_badPixel 11 = .ok (.ifCond .lt 9, 3) := by decide +kernel
theorem dX0_badPixel_14 : decode cX0_badPixel 14 = .ok (.iload_n 1, 1) := by decide +kernel
theorem dX0_badPixel_15 : decode cX0_badPixel 15 = .ok (.bipush 16, 2) := by decide +kernel
theorem dX0_badPixel_17 : decode cX0_badPixel 17 = .ok (.if_icmp .lt 7, 3) := by decide +kernel
theorem dX0_badPixel_20 : decode cX0_badPixel 20 = .ok (.iconst 1, 1) := by decide +kernel
theorem dX0_badPixel_21 : decode cX0_badPixel 21 = .ok (.goto 4, 3) := by decide +kernel
theorem dX0_badPixel_24 : decode cX0_badPixel 24 = .ok (.iconst 0, 1) := by decide +kernel
theorem dX0_badPixel_25 : decode cX0_badPixel 25 = .ok (.ireturn, 1) := by decide +kernel
theorem dX0_pattern_0 : decode cX0_pattern 0 = .ok (.iconst 0, 1) := by decide +kernel
theorem dX0_pattern_1 : decode cX0_pattern 1 = .ok (.istore_n 3, 1) := by decide +kernel
theorem dX0_pattern_2 : decode cX0_pattern 2 = .ok (.iload_n 3, 1) := by decide +kernel
theorem dX0_pattern_3 : decode cX0_pattern 3 = .ok (.sipush 256, 3) := by decide +kernel
theorem dX0_pattern_6 : decode cX0_pattern 6 = .ok (.if_icmp .ge 46, 3) := by decide +kernel
theorem dX0_pattern_9 : decode cX0_pattern 9 = .ok (.iload_n 3, 1) := by decide +kernel
theorem dX0_pattern_10 : decode cX0_pattern 10 = .ok (.bipush 16, 2) := by decide +kernel
theorem dX0_pattern_12 : decode cX0_pattern 12 = .ok (.idiv, 1) := by decide +kernel
theorem dX0_pattern_13 : decode cX0_pattern 13 = .ok (.istore 4, 2) := by decide +kernel
theorem dX0_pattern_15 : decode cX0_pattern 15 = .ok (.iload_n 3, 1) := by decide +kernel
theorem dX0_pattern_16 : decode cX0_pattern 16 = .ok (.bipush 16, 2) := by decide +kernel
theorem dX0_pattern_18 : decode cX0_pattern 18 = .ok (.irem, 1) := by decide +kernel
theorem dX0_pattern_19 : decode cX0_pattern 19 = .ok (.istore 5, 2) := by decide +kernel
theorem dX0_pattern_21 : decode cX0_pattern 21 = .ok (.aload_n 0, 1) := by decide +kernel
theorem dX0_pattern_22 : decode cX0_pattern 22 = .ok (.getfield 7, 3) := by decide +kernel
theorem dX0_pattern_25 : decode cX0_pattern 25 = .ok (.iload_n 3, 1) := by decide +kernel
theorem dX0_pattern_26 : decode cX0_pattern 26 = .ok (.iload 4, 2) := by decide +kernel
theorem dX0_pattern_28 : decode cX0_pattern 28 = .ok (.iload_n 1, 1) := by decide +kernel
theorem dX0_pattern_29 : decode cX0_pattern 29 = .ok (.imul, 1) := by decide +kernel
theorem dX0_pattern_30 : decode cX0_pattern 30 = .ok (.iload 5, 2) := by decide +kernel
theorem dX0_pattern_32 : decode cX0_pattern 32 = .ok (.iload_n 2, 1) := by decide +kernel
theorem dX0_pattern_33 : decode cX0_pattern 33 = .ok (.imul, 1) := by decide +kernel
theorem dX0_pattern_34 : decode cX0_pattern 34 = .ok (.iadd, 1) := by decide +kernel
theorem dX0_pattern_35 : decode cX0_pattern 35 = .ok (.iload 4, 2) := by decide +kernel
theorem dX0_pattern_37 : decode cX0_pattern 37 = .ok (.iload 5, 2) := by decide +kernel
theorem dX0_pattern_39 : decode cX0_pattern 39 = .ok (.imul, 1) := by decide +kernel
theorem dX0_pattern_40 : decode cX0_pattern 40 = .ok (.iadd, 1) := by decide +kernel
theorem dX0_pattern_41 : decode cX0_pattern 41 = .ok (.sipush 255, 3) := by decide +kernel
theorem dX0_pattern_44 : decode cX0_pattern 44 = .ok (.iand, 1) := by decide +kernel
theorem dX0_pattern_45 : decode cX0_pattern 45 = .ok (.iastore, 1) := by decide +kernel
theorem dX0_pattern_46 : decode cX0_pattern 46 = .ok (.iinc 3 1, 3) := by decide +kernel
theorem dX0_pattern_49 : decode cX0_pattern 49 = .ok (.goto (-47), 3) := by decide +kernel
theorem dX0_pattern_52 : decode cX0_pattern 52 = .ok (.return_, 1) := by decide +kernel
theorem dX0_dilate_0 : decode cX0_dilate 0 = .ok (.iload_n 1, 1) := by decide +kernel
theorem dX0_dilate_1 : decode cX0_dilate 1 = .ok (.iload_n 2, 1) := by decide +kernel
theorem dX0_dilate_2 : decode cX0_dilate 2 = .ok (.invokestatic 43, 3) := by decide +kernel
theorem dX0_dilate_5 : decode cX0_dilate 5 = .ok (.ifCond .eq 6, 3) := by decide +kernel
theorem dX0_dilate_8 : decode cX0_dilate 8 = .ok (.bipush (-3), 2) := by decide +kernel
theorem dX0_dilate_10 : decode cX0_dilate 10 = .ok (.ireturn, 1) := by decide +kernel
theorem dX0_dilate_11 : decode cX0_dilate 11 = .ok (.aload_n 0, 1) := by decide +kernel
theorem dX0_dilate_12 : decode cX0_dilate 12 = .ok (.invokevirtual 46, 3) := by decide +kernel
theorem dX0_dilate_15 : decode cX0_dilate 15 = .ok (.aload_n 0, 1) := by decide +kernel
theorem dX0_dilate_16 : decode cX0_dilate 16 = .ok (.iload_n 1, 1) := by decide +kernel
theorem dX0_dilate_17 : decode cX0_dilate 17 = .ok (.iload_n 2, 1) := by decide +kernel
theorem dX0_dilate_18 : decode cX0_dilate 18 = .ok (.iconst 1, 1) := by decide +kernel
theorem dX0_dilate_19 : decode cX0_dilate 19 = .ok (.invokevirtual 49, 3) := by decide +kernel
theorem dX0_dilate_22 : decode cX0_dilate 22 = .ok (.aload_n 0, 1) := by decide +kernel
theorem dX0_dilate_23 : decode cX0_dilate 23 = .ok (.invokevirtual 53, 3) := by decide +kernel
theorem dX0_dilate_26 : decode cX0_dilate 26 = .ok (.ireturn, 1) := by decide +kernel
theorem dX0_badSize_0 : decode cX0_badSize 0 = .ok (.iload_n 0, 1) := by decide +kernel
theorem dX0_badSize_1 : decode cX0_badSize 1 = .ok (.ifCond .lt 19, 3) := by decide +kernel
theorem dX0_badSize_4 : decode cX0_badSize 4 = .ok (.iload_n 0, 1) := by decide +kernel
theorem dX0_badSize_5 : decode cX0_badSize 5 = .ok (.bipush 7, 2) := by decide +kernel
theorem dX0_badSize_7 : decode cX0_badSize 7 = .ok (.if_icmp .gt 13, 3) := by decide +kernel
theorem dX0_badSize_10 : decode cX0_badSize 10 = .ok (.iload_n 1, 1) := by decide +kernel
theorem dX0_badSize_11 : decode cX0_badSize 11 = .ok (.ifCond .lt 9, 3) := by decide +kernel
theorem dX0_badSize_14 : decode cX0_badSize 14 = .ok (.iload_n 1, 1) := by decide +kernel
theorem dX0_badSize_15 : decode cX0_badSize 15 = .ok (.bipush 7, 2) := by decide +kernel
theorem dX0_badSize_17 : decode cX0_badSize 17 = .ok (.if_icmp .le 7, 3) := by decide +kernel
theorem dX0_badSize_20 : decode cX0_badSize 20 = .ok (.iconst 1, 1) := by decide +kernel
theorem dX0_badSize_21 : decode cX0_badSize 21 = .ok (.goto 4, 3) := by decide +kernel
theorem dX0_badSize_24 : decode cX0_badSize 24 = .ok (.iconst 0, 1) := by decide +kernel
theorem dX0_badSize_25 : decode cX0_badSize 25 = .ok (.ireturn, 1) := by decide +kernel
theorem dX0_remember_0 : decode cX0_remember 0 = .ok (.iconst 0, 1) := by decide +kernel
theorem dX0_remember_1 : decode cX0_remember 1 = .ok (.istore_n 1, 1) := by decide +kernel
theorem dX0_remember_2 : decode cX0_remember 2 = .ok (.iload_n 1, 1) := by decide +kernel
theorem dX0_remember_3 : decode cX0_remember 3 = .ok (.sipush 256, 3) := by decide +kernel
theorem dX0_remember_6 : decode cX0_remember 6 = .ok (.if_icmp .ge 21, 3) := by decide +kernel
theorem dX0_remember_9 : decode cX0_remember 9 = .ok (.aload_n 0, 1) := by decide +kernel
theorem dX0_remember_10 : decode cX0_remember 10 = .ok (.getfield 16, 3) := by decide +kernel
theorem dX0_remember_13 : decode cX0_remember 13 = .ok (.iload_n 1, 1) := by decide +kernel
theorem dX0_remember_14 : decode cX0_remember 14 = .ok (.aload_n 0, 1) := by decide +kernel
theorem dX0_remember_15 : decode cX0_remember 15 = .ok (.getfield 7, 3) := by decide +kernel
theorem dX0_remember_18 : decode cX0_remember 18 = .ok (.iload_n 1, 1) := by decide +kernel
theorem dX0_remember_19 : decode cX0_remember 19 = .ok (.iaload, 1) := by decide +kernel
theorem dX0_remember_20 : decode cX0_remember 20 = .ok (.iastore, 1) := by decide +kernel
theorem dX0_remember_21 : decode cX0_remember 21 = .ok (.iinc 1 1, 3) := by decide +kernel
theorem dX0_remember_24 : decode cX0_remember 24 = .ok (.goto (-22), 3) := by decide +kernel
theorem dX0_remember_27 : decode cX0_remember 27 = .ok (.return_, 1) := by decide +kernel
theorem dX0_filter_0 : decode cX0_filter 0 = .ok (.iconst 0, 1) := by decide +kernel
theorem dX0_filter_1 : decode cX0_filter 1 = .ok (.istore 4, 2) := by decide +kernel
theorem dX0_filter_3 : decode cX0_filter 3 = .ok (.iload 4, 2) := by decide +kernel
theorem dX0_filter_5 : decode cX0_filter 5 = .ok (.bipush 16, 2) := by decide +kernel
theorem dX0_filter_7 : decode cX0_filter 7 = .ok (.if_icmp .ge 21, 3) := by decide +kernel
theorem dX0_filter_10 : decode cX0_filter 10 = .ok (.aload_n 0, 1) := by decide +kernel
theorem dX0_filter_11 : decode cX0_filter 11 = .ok (.iload 4, 2) := by decide +kernel
theorem dX0_filter_13 : decode cX0_filter 13 = .ok (.bipush 16, 2) := by decide +kernel
theorem dX0_filter_15 : decode cX0_filter 15 = .ok (.imul, 1) := by decide +kernel
theorem dX0_filter_16 : decode cX0_filter 16 = .ok (.iconst 1, 1) := by decide +kernel
theorem dX0_filter_17 : decode cX0_filter 17 = .ok (.iload_n 1, 1) := by decide +kernel
theorem dX0_filter_18 : decode cX0_filter 18 = .ok (.iload_n 3, 1) := by decide +kernel
theorem dX0_filter_19 : decode cX0_filter 19 = .ok (.invokevirtual 39, 3) := by decide +kernel
theorem dX0_filter_22 : decode cX0_filter 22 = .ok (.iinc 4 1, 3) := by decide +kernel
theorem dX0_filter_25 : decode cX0_filter 25 = .ok (.goto (-22), 3) := by decide +kernel
theorem dX0_filter_28 : decode cX0_filter 28 = .ok (.iconst 0, 1) := by decide +kernel
theorem dX0_filter_29 : decode cX0_filter 29 = .ok (.istore 4, 2) := by decide +kernel
theorem dX0_filter_31 : decode cX0_filter 31 = .ok (.iload 4, 2) := by decide +kernel
theorem dX0_filter_33 : decode cX0_filter 33 = .ok (.bipush 16, 2) := by decide +kernel
theorem dX0_filter_35 : decode cX0_filter 35 = .ok (.if_icmp .ge 19, 3) := by decide +kernel
theorem dX0_filter_38 : decode cX0_filter 38 = .ok (.aload_n 0, 1) := by decide +kernel
theorem dX0_filter_39 : decode cX0_filter 39 = .ok (.iload 4, 2) := by decide +kernel
theorem dX0_filter_41 : decode cX0_filter 41 = .ok (.bipush 16, 2) := by decide +kernel
theorem dX0_filter_43 : decode cX0_filter 43 = .ok (.iload_n 2, 1) := by decide +kernel
theorem dX0_filter_44 : decode cX0_filter 44 = .ok (.iload_n 3, 1) := by decide +kernel
theorem dX0_filter_45 : decode cX0_filter 45 = .ok (.invokevirtual 39, 3) := by decide +kernel
theorem dX0_filter_48 : decode cX0_filter 48 = .ok (.iinc 4 1, 3) := by decide +kernel
theorem dX0_filter_51 : decode cX0_filter 51 = .ok (.goto (-20), 3) := by decide +kernel
theorem dX0_filter_54 : decode cX0_filter 54 = .ok (.return_, 1) := by decide +kernel
theorem dX0_filterLine_0 : decode cX0_filterLine 0 = .ok (.iconst 0, 1) := by decide +kernel
theorem dX0_filterLine_1 : decode cX0_filterLine 1 = .ok (.istore 5, 2) := by decide +kernel
theorem dX0_filterLine_3 : decode cX0_filterLine 3 = .ok (.iload 5, 2) := by decide +kernel
theorem dX0_filterLine_5 : decode cX0_filterLine 5 = .ok (.bipush 16, 2) := by decide +kernel
theorem dX0_filterLine_7 : decode cX0_filterLine 7 = .ok (.if_icmp .ge 27, 3) := by decide +kernel
theorem dX0_filterLine_10 : decode cX0_filterLine 10 = .ok (.aload_n 0, 1) := by decide +kernel
theorem dX0_filterLine_11 : decode cX0_filterLine 11 = .ok (.getfield 19, 3) := by decide +kernel
theorem dX0_filterLine_14 : decode cX0_filterLine 14 = .ok (.iload 5, 2) := by decide +kernel
theorem dX0_filterLine_16 : decode cX0_filterLine 16 = .ok (.aload_n 0, 1) := by decide +kernel
theorem dX0_filterLine_17 : decode cX0_filterLine 17 = .ok (.getfield 7, 3) := by decide +kernel
theorem dX0_filterLine_20 : decode cX0_filterLine 20 = .ok (.iload_n 1, 1) := by decide +kernel
theorem dX0_filterLine_21 : decode cX0_filterLine 21 = .ok (.iload 5, 2) := by decide +kernel
theorem dX0_filterLine_23 : decode cX0_filterLine 23 = .ok (.iload_n 2, 1) := by decide +kernel
theorem dX0_filterLine_24 : decode cX0_filterLine 24 = .ok (.imul, 1) := by decide +kernel
theorem dX0_filterLine_25 : decode cX0_filterLine 25 = .ok (.iadd, 1) := by decide +kernel
theorem dX0_filterLine_26 : decode cX0_filterLine 26 = .ok (.iaload, 1) := by decide +kernel
theorem dX0_filterLine_27 : decode cX0_filterLine 27 = .ok (.iastore, 1) := by decide +kernel
theorem dX0_filterLine_28 : decode cX0_filterLine 28 = .ok (.iinc 5 1, 3) := by decide +kernel
theorem dX0_filterLine_31 : decode cX0_filterLine 31 = .ok (.goto (-28), 3) := by decide +kernel
theorem dX0_filterLine_34 : decode cX0_filterLine 34 = .ok (.iconst 0, 1) := by decide +kernel
theorem dX0_filterLine_35 : decode cX0_filterLine 35 = .ok (.istore 5, 2) := by decide +kernel
theorem dX0_filterLine_37 : decode cX0_filterLine 37 = .ok (.iconst 0, 1) := by decide +kernel
theorem dX0_filterLine_38 : decode cX0_filterLine 38 = .ok (.istore 6, 2) := by decide +kernel
theorem dX0_filterLine_40 : decode cX0_filterLine 40 = .ok (.iconst 0, 1) := by decide +kernel
theorem dX0_filterLine_41 : decode cX0_filterLine 41 = .ok (.istore 7, 2) := by decide +kernel
theorem dX0_filterLine_43 : decode cX0_filterLine 43 = .ok (.iload 7, 2) := by decide +kernel
theorem dX0_filterLine_45 : decode cX0_filterLine 45 = .ok (.bipush 16, 2) := by decide +kernel
theorem dX0_filterLine_47 : decode cX0_filterLine 47 = .ok (.iload_n 3, 1) := by decide +kernel
theorem dX0_filterLine_48 : decode cX0_filterLine 48 = .ok (.iadd, 1) := by decide +kernel
theorem dX0_filterLine_49 : decode cX0_filterLine 49 = .ok (.if_icmp .ge 112, 3) := by decide +kernel
theorem dX0_filterLine_52 : decode cX0_filterLine 52 = .ok (.iload 7, 2) := by decide +kernel
theorem dX0_filterLine_54 : decode cX0_filterLine 54 = .ok (.bipush 16, 2) := by decide +kernel
theorem dX0_filterLine_56 : decode cX0_filterLine 56 = .ok (.if_icmp .ge 48, 3) := by decide +kernel
theorem dX0_filterLine_59 : decode cX0_filterLine 59 = .ok (.iload 6, 2) := by decide +kernel
theorem dX0_filterLine_61 : decode cX0_filterLine 61 = .ok (.iload 5, 2) := by decide +kernel
theorem dX0_filterLine_63 : decode cX0_filterLine 63 = .ok (.if_icmp .le 29, 3) := by decide +kernel
theorem dX0_filterLine_66 : decode cX0_filterLine 66 = .ok (.aload_n 0, 1) := by decide +kernel
theorem dX0_filterLine_67 : decode cX0_filterLine 67 = .ok (.iload 7, 2) := by decide +kernel
theorem dX0_filterLine_69 : decode cX0_filterLine 69 = .ok (.aload_n 0, 1) := by decide +kernel
theorem dX0_filterLine_70 : decode cX0_filterLine 70 = .ok (.getfield 22, 3) := by decide +kernel
theorem dX0_filterLine_73 : decode cX0_filterLine 73 = .ok (.iload 6, 2) := by decide +kernel
theorem dX0_filterLine_75 : decode cX0_filterLine 75 = .ok (.iconst 1, 1) := by decide +kernel
theorem dX0_filterLine_76 : decode cX0_filterLine 76 = .ok (.isub, 1) := by decide +kernel
theorem dX0_filterLine_77 : decode cX0_filterLine 77 = .ok (.iaload, 1) := by decide +kernel
theorem dX0_filterLine_78 : decode cX0_filterLine 78 = .ok (.iload 4, 2) := by decide +kernel
theorem dX0_filterLine_80 : decode cX0_filterLine 80 = .ok (.invokevirtual 35, 3) := by decide +kernel
theorem dX0_filterLine_83 : decode cX0_filterLine 83 = .ok (.ifCond .eq 9, 3) := by decide +kernel
theorem dX0_filterLine_86 : decode cX0_filterLine 86 = .ok (.iinc 6 (-1), 3) := by decide +kernel
theorem dX0_filterLine_89 : decode cX0_filterLine 89 = .ok (.goto (-30), 3) := by decide +kernel
theorem dX0_filterLine_92 : decode cX0_filterLine 92 = .ok (.aload_n 0, 1) := by decide +kernel
theorem dX0_filterLine_93 : decode cX0_filterLine 93 = .ok (.getfield 22, 3) := by decide +kernel
theorem dX0_filterLine_96 : decode cX0_filterLine 96 = .ok (.iload 6, 2) := by decide +kernel
theorem dX0_filterLine_98 : decode cX0_filterLine 98 = .ok (.iload 7, 2) := by decide +kernel
theorem dX0_filterLine_100 : decode cX0_filterLine 100 = .ok (.iastore, 1) := by decide +kernel
theorem dX0_filterLine_101 : decode cX0_filterLine 101 = .ok (.iinc 6 1, 3) := by decide +kernel
theorem dX0_filterLine_104 : decode cX0_filterLine 104 = .ok (.iload 7, 2) := by decide +kernel
theorem dX0_filterLine_106 : decode cX0_filterLine 106 = .ok (.iload_n 3, 1) := by decide +kernel
theorem dX0_filterLine_107 : decode cX0_filterLine 107 = .ok (.isub, 1) := by decide +kernel
theorem dX0_filterLine_108 : decode cX0_filterLine 108 = .ok (.istore 8, 2) := by decide +kernel
theorem dX0_filterLine_110 : decode cX0_filterLine 110 = .ok (.iload 8, 2) := by decide +kernel
theorem dX0_filterLine_112 : decode cX0_filterLine 112 = .ok (.ifCond .lt 43, 3) := by decide +kernel
theorem dX0_filterLine_115 : decode cX0_filterLine 115 = .ok (.aload_n 0, 1) := by decide +kernel
theorem dX0_filterLine_116 : decode cX0_filterLine 116 = .ok (.getfield 22, 3) := by decide +kernel
theorem dX0_filterLine_119 : decode cX0_filterLine 119 = .ok (.iload 5, 2) := by decide +kernel
theorem dX0_filterLine_121 : decode cX0_filterLine 121 = .ok (.iaload, 1) := by decide +kernel
theorem dX0_filterLine_122 : decode cX0_filterLine 122 = .ok (.iload 8, 2) := by decide +kernel
theorem dX0_filterLine_124 : decode cX0_filterLine 124 = .ok (.iload_n 3, 1) := by decide +kernel
theorem dX0_filterLine_125 : decode cX0_filterLine 125 = .ok (.isub, 1) := by decide +kernel
theorem dX0_filterLine_126 : decode cX0_filterLine 126 = .ok (.if_icmp .ge 6, 3) := by decide +kernel
theorem dX0_filterLine_129 : decode cX0_filterLine 129 = .ok (.iinc 5 1, 3) := by decide +kernel
theorem dX0_filterLine_132 : decode cX0_filterLine 132 = .ok (.aload_n 0, 1) := by decide +kernel
theorem dX0_filterLine_133 : decode cX0_filterLine 133 = .ok (.getfield 7, 3) := by decide +kernel
theorem dX0_filterLine_136 : decode cX0_filterLine 136 = .ok (.iload_n 1, 1) := by decide +kernel
theorem dX0_filterLine_137 : decode cX0_filterLine 137 = .ok (.iload 8, 2) := by decide +kernel
theorem dX0_filterLine_139 : decode cX0_filterLine 139 = .ok (.iload_n 2, 1) := by decide +kernel
theorem dX0_filterLine_140 : decode cX0_filterLine 140 = .ok (.imul, 1) := by decide +kernel
theorem dX0_filterLine_141 : decode cX0_filterLine 141 = .ok (.iadd, 1) := by decide +kernel
theorem dX0_filterLine_142 : decode cX0_filterLine 142 = .ok (.aload_n 0, 1) := by decide +kernel
theorem dX0_filterLine_143 : decode cX0_filterLine 143 = .ok (.getfield 19, 3) := by decide +kernel
theorem dX0_filterLine_146 : decode cX0_filterLine 146 = .ok (.aload_n 0, 1) := by decide +kernel
theorem dX0_filterLine_147 : decode cX0_filterLine 147 = .ok (.getfield 22, 3) := by decide +kernel
theorem dX0_filterLine_150 : decode cX0_filterLine 150 = .ok (.iload 5, 2) := by decide +kernel
theorem dX0_filterLine_152 : decode cX0_filterLine 152 = .ok (.iaload, 1) := by decide +kernel
theorem dX0_filterLine_153 : decode cX0_filterLine 153 = .ok (.iaload, 1) := by decide +kernel
theorem dX0_filterLine_154 : decode cX0_filterLine 154 = .ok (.iastore, 1) := by decide +kernel
theorem dX0_filterLine_155 : decode cX0_filterLine 155 = .ok (.iinc 7 1, 3) := by decide +kernel
theorem dX0_filterLine_158 : decode cX0_filterLine 158 = .ok (.goto (-115), 3) := by decide +kernel
theorem dX0_filterLine_161 : decode cX0_filterLine 161 = .ok (.return_, 1) := by decide +kernel
end
section
set_option maxRecDepth 100000
theorem dX0_outdoes_0 : decode cX0_outdoes 0 = .ok (.iload_n 3, 1) := by decide +kernel
theorem dX0_outdoes_1 : decode cX0_outdoes 1 = .ok (.ifCond .eq 26, 3) := by decide +kernel
theorem dX0_outdoes_4 : decode cX0_outdoes 4 = .ok (.aload_n 0, 1) := by decide +kernel
theorem dX0_outdoes_5 : decode cX0_outdoes 5 = .ok (.getfield 19, 3) := by decide +kernel
theorem dX0_outdoes_8 : decode cX0_outdoes 8 = .ok (.iload_n 1, 1) := by decide +kernel
theorem dX0_outdoes_9 : decode cX0_outdoes 9 = .ok (.iaload, 1) := by decide +kernel
theorem dX0_outdoes_10 : decode cX0_outdoes 10 = .ok (.aload_n 0, 1) := by decide +kernel
theorem dX0_outdoes_11 : decode cX0_outdoes 11 = .ok (.getfield 19, 3) := by decide +kernel
theorem dX0_outdoes_14 : decode cX0_outdoes 14 = .ok (.iload_n 2, 1) := by decide +kernel
theorem dX0_outdoes_15 : decode cX0_outdoes 15 = .ok (.iaload, 1) := by decide +kernel
theorem dX0_outdoes_16 : decode cX0_outdoes 16 = .ok (.if_icmp .lt 7, 3) := by decide +kernel
theorem dX0_outdoes_19 : decode cX0_outdoes 19 = .ok (.iconst 1, 1) := by decide +kernel
theorem dX0_outdoes_20 : decode cX0_outdoes 20 = .ok (.goto 27, 3) := by decide +kernel
theorem dX0_outdoes_23 : decode cX0_outdoes 23 = .ok (.iconst 0, 1) := by decide +kernel
theorem dX0_outdoes_24 : decode cX0_outdoes 24 = .ok (.goto 23, 3) := by decide +kernel
theorem dX0_outdoes_27 : decode cX0_outdoes 27 = .ok (.aload_n 0, 1) := by decide +kernel
theorem dX0_outdoes_28 : decode cX0_outdoes 28 = .ok (.getfield 19, 3) := by decide +kernel
theorem dX0_outdoes_31 : decode cX0_outdoes 31 = .ok (.iload_n 1, 1) := by decide +kernel
theorem dX0_outdoes_32 : decode cX0_outdoes 32 = .ok (.iaload, 1) := by decide +kernel
theorem dX0_outdoes_33 : decode cX0_outdoes 33 = .ok (.aload_n 0, 1) := by decide +kernel
theorem dX0_outdoes_34 : decode cX0_outdoes 34 = .ok (.getfield 19, 3) := by decide +kernel
theorem dX0_outdoes_37 : decode cX0_outdoes 37 = .ok (.iload_n 2, 1) := by decide +kernel
theorem dX0_outdoes_38 : decode cX0_outdoes 38 = .ok (.iaload, 1) := by decide +kernel
theorem dX0_outdoes_39 : decode cX0_outdoes 39 = .ok (.if_icmp .gt 7, 3) := by decide +kernel
theorem dX0_outdoes_42 : decode cX0_outdoes 42 = .ok (.iconst 1, 1) := by decide +kernel
theorem dX0_outdoes_43 : decode cX0_outdoes 43 = .ok (.goto 4, 3) := by decide +kernel
theorem dX0_outdoes_46 : decode cX0_outdoes 46 = .ok (.iconst 0, 1) := by decide +kernel
theorem dX0_outdoes_47 : decode cX0_outdoes 47 = .ok (.ireturn, 1) := by decide +kernel
theorem dX0_changed_0 : decode cX0_changed 0 = .ok (.iconst 0, 1) := by decide +kernel
theorem dX0_changed_1 : decode cX0_changed 1 = .ok (.istore_n 1, 1) := by decide +kernel
theorem dX0_changed_2 : decode cX0_changed 2 = .ok (.iconst 0, 1) := by decide +kernel
theorem dX0_changed_3 : decode cX0_changed 3 = .ok (.istore_n 2, 1) := by decide +kernel
theorem dX0_changed_4 : decode cX0_changed 4 = .ok (.iload_n 2, 1) := by decide +kernel
theorem dX0_changed_5 : decode cX0_changed 5 = .ok (.sipush 256, 3) := by decide +kernel
theorem dX0_changed_8 : decode cX0_changed 8 = .ok (.if_icmp .ge 27, 3) := by decide +kernel
theorem dX0_changed_11 : decode cX0_changed 11 = .ok (.aload_n 0, 1) := by decide +kernel
theorem dX0_changed_12 : decode cX0_changed 12 = .ok (.getfield 7, 3) := by decide +kernel
theorem dX0_changed_15 : decode cX0_changed 15 = .ok (.iload_n 2, 1) := by decide +kernel
theorem dX0_changed_16 : decode cX0_changed 16 = .ok (.iaload, 1) := by decide +kernel
theorem dX0_changed_17 : decode cX0_changed 17 = .ok (.aload_n 0, 1) := by decide +kernel
theorem dX0_changed_18 : decode cX0_changed 18 = .ok (.getfield 16, 3) := by decide +kernel
theorem dX0_changed_21 : decode cX0_changed 21 = .ok (.iload_n 2, 1) := by decide +kernel
theorem dX0_changed_22 : decode cX0_changed 22 = .ok (.iaload, 1) := by decide +kernel
theorem dX0_changed_23 : decode cX0_changed 23 = .ok (.if_icmp .eq 6, 3) := by decide +kernel
theorem dX0_changed_26 : decode cX0_changed 26 = .ok (.iinc 1 1, 3) := by decide +kernel
theorem dX0_changed_29 : decode cX0_changed 29 = .ok (.iinc 2 1, 3) := by decide +kernel
theorem dX0_changed_32 : decode cX0_changed 32 = .ok (.goto (-28), 3) := by decide +kernel
theorem dX0_changed_35 : decode cX0_changed 35 = .ok (.iload_n 1, 1) := by decide +kernel
theorem dX0_changed_36 : decode cX0_changed 36 = .ok (.ireturn, 1) := by decide +kernel
theorem dX0_erode_0 : decode cX0_erode 0 = .ok (.iload_n 1, 1) := by decide +kernel
theorem dX0_erode_1 : decode cX0_erode 1 = .ok (.iload_n 2, 1) := by decide +kernel
theorem dX0_erode_2 : decode cX0_erode 2 = .ok (.invokestatic 43, 3) := by decide +kernel
theorem dX0_erode_5 : decode cX0_erode 5 = .ok (.ifCond .eq 6, 3) := by decide +kernel
theorem dX0_erode_8 : decode cX0_erode 8 = .ok (.bipush (-3), 2) := by decide +kernel
theorem dX0_erode_10 : decode cX0_erode 10 = .ok (.ireturn, 1) := by decide +kernel
theorem dX0_erode_11 : decode cX0_erode 11 = .ok (.aload_n 0, 1) := by decide +kernel
theorem dX0_erode_12 : decode cX0_erode 12 = .ok (.invokevirtual 46, 3) := by decide +kernel
theorem dX0_erode_15 : decode cX0_erode 15 = .ok (.aload_n 0, 1) := by decide +kernel
theorem dX0_erode_16 : decode cX0_erode 16 = .ok (.iload_n 1, 1) := by decide +kernel
theorem dX0_erode_17 : decode cX0_erode 17 = .ok (.iload_n 2, 1) := by decide +kernel
theorem dX0_erode_18 : decode cX0_erode 18 = .ok (.iconst 0, 1) := by decide +kernel
theorem dX0_erode_19 : decode cX0_erode 19 = .ok (.invokevirtual 49, 3) := by decide +kernel
theorem dX0_erode_22 : decode cX0_erode 22 = .ok (.aload_n 0, 1) := by decide +kernel
theorem dX0_erode_23 : decode cX0_erode 23 = .ok (.invokevirtual 53, 3) := by decide +kernel
theorem dX0_erode_26 : decode cX0_erode 26 = .ok (.ireturn, 1) := by decide +kernel
theorem dX0_open_0 : decode cX0_open 0 = .ok (.iload_n 1, 1) := by decide +kernel
theorem dX0_open_1 : decode cX0_open 1 = .ok (.iload_n 2, 1) := by decide +kernel
theorem dX0_open_2 : decode cX0_open 2 = .ok (.invokestatic 43, 3) := by decide +kernel
theorem dX0_open_5 : decode cX0_open 5 = .ok (.ifCond .eq 6, 3) := by decide +kernel
theorem dX0_open_8 : decode cX0_open 8 = .ok (.bipush (-3), 2) := by decide +kernel
theorem dX0_open_10 : decode cX0_open 10 = .ok (.ireturn, 1) := by decide +kernel
theorem dX0_open_11 : decode cX0_open 11 = .ok (.aload_n 0, 1) := by decide +kernel
theorem dX0_open_12 : decode cX0_open 12 = .ok (.invokevirtual 46, 3) := by decide +kernel
theorem dX0_open_15 : decode cX0_open 15 = .ok (.aload_n 0, 1) := by decide +kernel
theorem dX0_open_16 : decode cX0_open 16 = .ok (.iload_n 1, 1) := by decide +kernel
theorem dX0_open_17 : decode cX0_open 17 = .ok (.iload_n 2, 1) := by decide +kernel
theorem dX0_open_18 : decode cX0_open 18 = .ok (.iconst 0, 1) := by decide +kernel
theorem dX0_open_19 : decode cX0_open 19 = .ok (.invokevirtual 49, 3) := by decide +kernel
theorem dX0_open_22 : decode cX0_open 22 = .ok (.aload_n 0, 1) := by decide +kernel
theorem dX0_open_23 : decode cX0_open 23 = .ok (.iload_n 1, 1) := by decide +kernel
theorem dX0_open_24 : decode cX0_open 24 = .ok (.iload_n 2, 1) := by decide +kernel
theorem dX0_open_25 : decode cX0_open 25 = .ok (.iconst 1, 1) := by decide +kernel
theorem dX0_open_26 : decode cX0_open 26 = .ok (.invokevirtual 49, 3) := by decide +kernel
theorem dX0_open_29 : decode cX0_open 29 = .ok (.aload_n 0, 1) := by decide +kernel
theorem dX0_open_30 : decode cX0_open 30 = .ok (.invokevirtual 53, 3) := by decide +kernel
theorem dX0_open_33 : decode cX0_open 33 = .ok (.ireturn, 1) := by decide +kernel
theorem dX0_close_0 : decode cX0_close 0 = .ok (.iload_n 1, 1) := by decide +kernel
theorem dX0_close_1 : decode cX0_close 1 = .ok (.iload_n 2, 1) := by decide +kernel
theorem dX0_close_2 : decode cX0_close 2 = .ok (.invokestatic 43, 3) := by decide +kernel
theorem dX0_close_5 : decode cX0_close 5 = .ok (.ifCond .eq 6, 3) := by decide +kernel
theorem dX0_close_8 : decode cX0_close 8 = .ok (.bipush (-3), 2) := by decide +kernel
theorem dX0_close_10 : decode cX0_close 10 = .ok (.ireturn, 1) := by decide +kernel
theorem dX0_close_11 : decode cX0_close 11 = .ok (.aload_n 0, 1) := by decide +kernel
theorem dX0_close_12 : decode cX0_close 12 = .ok (.invokevirtual 46, 3) := by decide +kernel
theorem dX0_close_15 : decode cX0_close 15 = .ok (.aload_n 0, 1) := by decide +kernel
theorem dX0_close_16 : decode cX0_close 16 = .ok (.iload_n 1, 1) := by decide +kernel
theorem dX0_close_17 : decode cX0_close 17 = .ok (.iload_n 2, 1) := by decide +kernel
theorem dX0_close_18 : decode cX0_close 18 = .ok (.iconst 1, 1) := by decide +kernel
theorem dX0_close_19 : decode cX0_close 19 = .ok (.invokevirtual 49, 3) := by decide +kernel
theorem dX0_close_22 : decode cX0_close 22 = .ok (.aload_n 0, 1) := by decide +kernel
theorem dX0_close_23 : decode cX0_close 23 = .ok (.iload_n 1, 1) := by decide +kernel
theorem dX0_close_24 : decode cX0_close 24 = .ok (.iload_n 2, 1) := by decide +kernel
theorem dX0_close_25 : decode cX0_close 25 = .ok (.iconst 0, 1) := by decide +kernel
theorem dX0_close_26 : decode cX0_close 26 = .ok (.invokevirtual 49, 3) := by decide +kernel
theorem dX0_close_29 : decode cX0_close 29 = .ok (.aload_n 0, 1) := by decide +kernel
theorem dX0_close_30 : decode cX0_close 30 = .ok (.invokevirtual 53, 3) := by decide +kernel
theorem dX0_close_33 : decode cX0_close 33 = .ok (.ireturn, 1) := by decide +kernel
theorem dX0_mean_0 : decode cX0_mean 0 = .ok (.iload_n 1, 1) := by decide +kernel
theorem dX0_mean_1 : decode cX0_mean 1 = .ok (.iload_n 2, 1) := by decide +kernel
theorem dX0_mean_2 : decode cX0_mean 2 = .ok (.invokestatic 43, 3) := by decide +kernel
theorem dX0_mean_5 : decode cX0_mean 5 = .ok (.ifCond .eq 6, 3) := by decide +kernel
theorem dX0_mean_8 : decode cX0_mean 8 = .ok (.bipush (-3), 2) := by decide +kernel
theorem dX0_mean_10 : decode cX0_mean 10 = .ok (.ireturn, 1) := by decide +kernel
theorem dX0_mean_11 : decode cX0_mean 11 = .ok (.aload_n 0, 1) := by decide +kernel
theorem dX0_mean_12 : decode cX0_mean 12 = .ok (.invokevirtual 46, 3) := by decide +kernel
theorem dX0_mean_15 : decode cX0_mean 15 = .ok (.aload_n 0, 1) := by decide +kernel
theorem dX0_mean_16 : decode cX0_mean 16 = .ok (.invokevirtual 61, 3) := by decide +kernel
theorem dX0_mean_19 : decode cX0_mean 19 = .ok (.iconst 0, 1) := by decide +kernel
theorem dX0_mean_20 : decode cX0_mean 20 = .ok (.istore_n 3, 1) := by decide +kernel
theorem dX0_mean_21 : decode cX0_mean 21 = .ok (.iload_n 3, 1) := by decide +kernel
theorem dX0_mean_22 : decode cX0_mean 22 = .ok (.sipush 256, 3) := by decide +kernel
theorem dX0_mean_25 : decode cX0_mean 25 = .ok (.if_icmp .ge 29, 3) := by decide +kernel
theorem dX0_mean_28 : decode cX0_mean 28 = .ok (.aload_n 0, 1) := by decide +kernel
theorem dX0_mean_29 : decode cX0_mean 29 = .ok (.getfield 7, 3) := by decide +kernel
theorem dX0_mean_32 : decode cX0_mean 32 = .ok (.iload_n 3, 1) := by decide +kernel
theorem dX0_mean_33 : decode cX0_mean 33 = .ok (.aload_n 0, 1) := by decide +kernel
theorem dX0_mean_34 : decode cX0_mean 34 = .ok (.iload_n 3, 1) := by decide +kernel
theorem dX0_mean_35 : decode cX0_mean 35 = .ok (.bipush 16, 2) := by decide +kernel
theorem dX0_mean_37 : decode cX0_mean 37 = .ok (.idiv, 1) := by decide +kernel
theorem dX0_mean_38 : decode cX0_mean 38 = .ok (.iload_n 3, 1) := by decide +kernel
theorem dX0_mean_39 : decode cX0_mean 39 = .ok (.bipush 16, 2) := by decide +kernel
theorem dX0_mean_41 : decode cX0_mean 41 = .ok (.irem, 1) := by decide +kernel
theorem dX0_mean_42 : decode cX0_mean 42 = .ok (.iload_n 1, 1) := by decide +kernel
theorem dX0_mean_43 : decode cX0_mean 43 = .ok (.iload_n 2, 1) := by decide +kernel
theorem dX0_mean_44 : decode cX0_mean 44 = .ok (.invokevirtual 64, 3) := by decide +kernel
theorem dX0_mean_47 : decode cX0_mean 47 = .ok (.iastore, 1) := by decide +kernel
theorem dX0_mean_48 : decode cX0_mean 48 = .ok (.iinc 3 1, 3) := by decide +kernel
theorem dX0_mean_51 : decode cX0_mean 51 = .ok (.goto (-30), 3) := by decide +kernel
theorem dX0_mean_54 : decode cX0_mean 54 = .ok (.aload_n 0, 1) := by decide +kernel
theorem dX0_mean_55 : decode cX0_mean 55 = .ok (.invokevirtual 53, 3) := by decide +kernel
theorem dX0_mean_58 : decode cX0_mean 58 = .ok (.ireturn, 1) := by decide +kernel
theorem dX0_fillSums_0 : decode cX0_fillSums 0 = .ok (.iconst 0, 1) := by decide +kernel
theorem dX0_fillSums_1 : decode cX0_fillSums 1 = .ok (.istore_n 1, 1) := by decide +kernel
theorem dX0_fillSums_2 : decode cX0_fillSums 2 = .ok (.iload_n 1, 1) := by decide +kernel
theorem dX0_fillSums_3 : decode cX0_fillSums 3 = .ok (.bipush 16, 2) := by decide +kernel
theorem dX0_fillSums_5 : decode cX0_fillSums 5 = .ok (.if_icmp .ge 69, 3) := by decide +kernel
theorem dX0_fillSums_8 : decode cX0_fillSums 8 = .ok (.iconst 0, 1) := by decide +kernel
theorem dX0_fillSums_9 : decode cX0_fillSums 9 = .ok (.istore_n 2, 1) := by decide +kernel
theorem dX0_fillSums_10 : decode cX0_fillSums 10 = .ok (.iconst 0, 1) := by decide +kernel
theorem dX0_fillSums_11 : decode cX0_fillSums 11 = .ok (.istore_n 3, 1) := by decide +kernel
theorem dX0_fillSums_12 : decode cX0_fillSums 12 = .ok (.iload_n 3, 1) := by decide +kernel
theorem dX0_fillSums_13 : decode cX0_fillSums 13 = .ok (.bipush 16, 2) := by decide +kernel
theorem dX0_fillSums_15 : decode cX0_fillSums 15 = .ok (.if_icmp .ge 53, 3) := by decide +kernel
theorem dX0_fillSums_18 : decode cX0_fillSums 18 = .ok (.iload_n 2, 1) := by decide +kernel
theorem dX0_fillSums_19 : decode cX0_fillSums 19 = .ok (.aload_n 0, 1) := by decide +kernel
theorem dX0_fillSums_20 : decode cX0_fillSums 20 = .ok (.getfield 7, 3) := by decide +kernel
theorem dX0_fillSums_23 : decode cX0_fillSums 23 = .ok (.iload_n 1, 1) := by decide +kernel
theorem dX0_fillSums_24 : decode cX0_fillSums 24 = .ok (.bipush 16, 2) := by decide +kernel
theorem dX0_fillSums_26 : decode cX0_fillSums 26 = .ok (.imul, 1) := by decide +kernel
theorem dX0_fillSums_27 : decode cX0_fillSums 27 = .ok (.iload_n 3, 1) := by decide +kernel
theorem dX0_fillSums_28 : decode cX0_fillSums 28 = .ok (.iadd, 1) := by decide +kernel
theorem dX0_fillSums_29 : decode cX0_fillSums 29 = .ok (.iaload, 1) := by decide +kernel
theorem dX0_fillSums_30 : decode cX0_fillSums 30 = .ok (.iadd, 1) := by decide +kernel
theorem dX0_fillSums_31 : decode cX0_fillSums 31 = .ok (.istore_n 2, 1) := by decide +kernel
theorem dX0_fillSums_32 : decode cX0_fillSums 32 = .ok (.aload_n 0, 1) := by decide +kernel
theorem dX0_fillSums_33 : decode cX0_fillSums 33 = .ok (.getfield 25, 3) := by decide +kernel
theorem dX0_fillSums_36 : decode cX0_fillSums 36 = .ok (.iload_n 1, 1) := by decide +kernel
theorem dX0_fillSums_37 : decode cX0_fillSums 37 = .ok (.iconst 1, 1) := by decide +kernel
theorem dX0_fillSums_38 : decode cX0_fillSums 38 = .ok (.iadd, 1) := by decide +kernel
theorem dX0_fillSums_39 : decode cX0_fillSums 39 = .ok (.bipush 17, 2) := by decide +kernel
theorem dX0_fillSums_41 : decode cX0_fillSums 41 = .ok (.imul, 1) := by decide +kernel
theorem dX0_fillSums_42 : decode cX0_fillSums 42 = .ok (.iload_n 3, 1) := by decide +kernel
theorem dX0_fillSums_43 : decode cX0_fillSums 43 = .ok (.iadd, 1) := by decide +kernel
theorem dX0_fillSums_44 : decode cX0_fillSums 44 = .ok (.iconst 1, 1) := by decide +kernel
theorem dX0_fillSums_45 : decode cX0_fillSums 45 = .ok (.iadd, 1) := by decide +kernel
theorem dX0_fillSums_46 : decode cX0_fillSums 46 = .ok (.aload_n 0, 1) := by decide +kernel
theorem dX0_fillSums_47 : decode cX0_fillSums 47 = .ok (.getfield 25, 3) := by decide +kernel
theorem dX0_fillSums_50 : decode cX0_fillSums 50 = .ok (.iload_n 1, 1) := by decide +kernel
theorem dX0_fillSums_51 : decode cX0_fillSums 51 = .ok (.bipush 17, 2) := by decide +kernel
theorem dX0_fillSums_53 : decode cX0_fillSums 53 = .ok (.imul, 1) := by decide +kernel
theorem dX0_fillSums_54 : decode cX0_fillSums 54 = .ok (.iload_n 3, 1) := by decide +kernel
theorem dX0_fillSums_55 : decode cX0_fillSums 55 = .ok (.iadd, 1) := by decide +kernel
theorem dX0_fillSums_56 : decode cX0_fillSums 56 = .ok (.iconst 1, 1) := by decide +kernel
theorem dX0_fillSums_57 : decode cX0_fillSums 57 = .ok (.iadd, 1) := by decide +kernel
theorem dX0_fillSums_58 : decode cX0_fillSums 58 = .ok (.iaload, 1) := by decide +kernel
theorem dX0_fillSums_59 : decode cX0_fillSums 59 = .ok (.iload_n 2, 1) := by decide +kernel
theorem dX0_fillSums_60 : decode cX0_fillSums 60 = .ok (.iadd, 1) := by decide +kernel
theorem dX0_fillSums_61 : decode cX0_fillSums 61 = .ok (.iastore, 1) := by decide +kernel
theorem dX0_fillSums_62 : decode cX0_fillSums 62 = .ok (.iinc 3 1, 3) := by decide +kernel
theorem dX0_fillSums_65 : decode cX0_fillSums 65 = .ok (.goto (-53), 3) := by decide +kernel
theorem dX0_fillSums_68 : decode cX0_fillSums 68 = .ok (.iinc 1 1, 3) := by decide +kernel
theorem dX0_fillSums_71 : decode cX0_fillSums 71 = .ok (.goto (-69), 3) := by decide +kernel
theorem dX0_fillSums_74 : decode cX0_fillSums 74 = .ok (.return_, 1) := by decide +kernel
theorem dX0_meanAt_0 : decode cX0_meanAt 0 = .ok (.iload_n 1, 1) := by decide +kernel
theorem dX0_meanAt_1 : decode cX0_meanAt 1 = .ok (.iload 4, 2) := by decide +kernel
theorem dX0_meanAt_3 : decode cX0_meanAt 3 = .ok (.isub, 1) := by decide +kernel
theorem dX0_meanAt_4 : decode cX0_meanAt 4 = .ok (.invokestatic 57, 3) := by decide +kernel
theorem dX0_meanAt_7 : decode cX0_meanAt 7 = .ok (.istore 5, 2) := by decide +kernel
theorem dX0_meanAt_9 : decode cX0_meanAt 9 = .ok (.iload_n 1, 1) := by decide +kernel
theorem dX0_meanAt_10 : decode cX0_meanAt 10 = .ok (.iload 4, 2) := by decide +kernel
theorem dX0_meanAt_12 : decode cX0_meanAt 12 = .ok (.iadd, 1) := by decide +kernel
theorem dX0_meanAt_13 : decode cX0_meanAt 13 = .ok (.iconst 1, 1) := by decide +kernel
theorem dX0_meanAt_14 : decode cX0_meanAt 14 = .ok (.iadd, 1) := by decide +kernel
theorem dX0_meanAt_15 : decode cX0_meanAt 15 = .ok (.invokestatic 57, 3) := by decide +kernel
theorem dX0_meanAt_18 : decode cX0_meanAt 18 = .ok (.istore 6, 2) := by decide +kernel
theorem dX0_meanAt_20 : decode cX0_meanAt 20 = .ok (.iload_n 2, 1) := by decide +kernel
theorem dX0_meanAt_21 : decode cX0_meanAt 21 = .ok (.iload_n 3, 1) := by decide +kernel
theorem dX0_meanAt_22 : decode cX0_meanAt 22 = .ok (.isub, 1) := by decide +kernel
theorem dX0_meanAt_23 : decode cX0_meanAt 23 = .ok (.invokestatic 57, 3) := by decide +kernel
theorem dX0_meanAt_26 : decode cX0_meanAt 26 = .ok (.istore 7, 2) := by decide +kernel
theorem dX0_meanAt_28 : decode cX0_meanAt 28 = .ok (.iload_n 2, 1) := by decide +kernel
theorem dX0_meanAt_29 : decode cX0_meanAt 29 = .ok (.iload_n 3, 1) := by decide +kernel
theorem dX0_meanAt_30 : decode cX0_meanAt 30 = .ok (.iadd, 1) := by decide +kernel
theorem dX0_meanAt_31 : decode cX0_meanAt 31 = .ok (.iconst 1, 1) := by decide +kernel
theorem dX0_meanAt_32 : decode cX0_meanAt 32 = .ok (.iadd, 1) := by decide +kernel
theorem dX0_meanAt_33 : decode cX0_meanAt 33 = .ok (.invokestatic 57, 3) := by decide +kernel
theorem dX0_meanAt_36 : decode cX0_meanAt 36 = .ok (.istore 8, 2) := by decide +kernel
theorem dX0_meanAt_38 : decode cX0_meanAt 38 = .ok (.iload 6, 2) := by decide +kernel
theorem dX0_meanAt_40 : decode cX0_meanAt 40 = .ok (.iload 5, 2) := by decide +kernel
theorem dX0_meanAt_42 : decode cX0_meanAt 42 = .ok (.isub, 1) := by decide +kernel
theorem dX0_meanAt_43 : decode cX0_meanAt 43 = .ok (.iload 8, 2) := by decide +kernel
theorem dX0_meanAt_45 : decode cX0_meanAt 45 = .ok (.iload 7, 2) := by decide +kernel
theorem dX0_meanAt_47 : decode cX0_meanAt 47 = .ok (.isub, 1) := by decide +kernel
theorem dX0_meanAt_48 : decode cX0_meanAt 48 = .ok (.imul, 1) := by decide +kernel
theorem dX0_meanAt_49 : decode cX0_meanAt 49 = .ok (.istore 9, 2) := by decide +kernel
theorem dX0_meanAt_51 : decode cX0_meanAt 51 = .ok (.aload_n 0, 1) := by decide +kernel
theorem dX0_meanAt_52 : decode cX0_meanAt 52 = .ok (.getfield 25, 3) := by decide +kernel
theorem dX0_meanAt_55 : decode cX0_meanAt 55 = .ok (.iload 6, 2) := by decide +kernel
theorem dX0_meanAt_57 : decode cX0_meanAt 57 = .ok (.bipush 17, 2) := by decide +kernel
theorem dX0_meanAt_59 : decode cX0_meanAt 59 = .ok (.imul, 1) := by decide +kernel
theorem dX0_meanAt_60 : decode cX0_meanAt 60 = .ok (.iload 8, 2) := by decide +kernel
theorem dX0_meanAt_62 : decode cX0_meanAt 62 = .ok (.iadd, 1) := by decide +kernel
theorem dX0_meanAt_63 : decode cX0_meanAt 63 = .ok (.iaload, 1) := by decide +kernel
theorem dX0_meanAt_64 : decode cX0_meanAt 64 = .ok (.aload_n 0, 1) := by decide +kernel
theorem dX0_meanAt_65 : decode cX0_meanAt 65 = .ok (.getfield 25, 3) := by decide +kernel
theorem dX0_meanAt_68 : decode cX0_meanAt 68 = .ok (.iload 5, 2) := by decide +kernel
theorem dX0_meanAt_70 : decode cX0_meanAt 70 = .ok (.bipush 17, 2) := by decide +kernel
theorem dX0_meanAt_72 : decode cX0_meanAt 72 = .ok (.imul, 1) := by decide +kernel
theorem dX0_meanAt_73 : decode cX0_meanAt 73 = .ok (.iload 8, 2) := by decide +kernel
theorem dX0_meanAt_75 : decode cX0_meanAt 75 = .ok (.iadd, 1) := by decide +kernel
theorem dX0_meanAt_76 : decode cX0_meanAt 76 = .ok (.iaload, 1) := by decide +kernel
theorem dX0_meanAt_77 : decode cX0_meanAt 77 = .ok (.isub, 1) := by decide +kernel
theorem dX0_meanAt_78 : decode cX0_meanAt 78 = .ok (.aload_n 0, 1) := by decide +kernel
theorem dX0_meanAt_79 : decode cX0_meanAt 79 = .ok (.getfield 25, 3) := by decide +kernel
theorem dX0_meanAt_82 : decode cX0_meanAt 82 = .ok (.iload 6, 2) := by decide +kernel
theorem dX0_meanAt_84 : decode cX0_meanAt 84 = .ok (.bipush 17, 2) := by decide +kernel
theorem dX0_meanAt_86 : decode cX0_meanAt 86 = .ok (.imul, 1) := by decide +kernel
theorem dX0_meanAt_87 : decode cX0_meanAt 87 = .ok (.iload 7, 2) := by decide +kernel
theorem dX0_meanAt_89 : decode cX0_meanAt 89 = .ok (.iadd, 1) := by decide +kernel
theorem dX0_meanAt_90 : decode cX0_meanAt 90 = .ok (.iaload, 1) := by decide +kernel
theorem dX0_meanAt_91 : decode cX0_meanAt 91 = .ok (.isub, 1) := by decide +kernel
theorem dX0_meanAt_92 : decode cX0_meanAt 92 = .ok (.aload_n 0, 1) := by decide +kernel
theorem dX0_meanAt_93 : decode cX0_meanAt 93 = .ok (.getfield 25, 3) := by decide +kernel
theorem dX0_meanAt_96 : decode cX0_meanAt 96 = .ok (.iload 5, 2) := by decide +kernel
theorem dX0_meanAt_98 : decode cX0_meanAt 98 = .ok (.bipush 17, 2) := by decide +kernel
theorem dX0_meanAt_100 : decode cX0_meanAt 100 = .ok (.imul, 1) := by decide +kernel
theorem dX0_meanAt_101 : decode cX0_meanAt 101 = .ok (.iload 7, 2) := by decide +kernel
theorem dX0_meanAt_103 : decode cX0_meanAt 103 = .ok (.iadd, 1) := by decide +kernel
theorem dX0_meanAt_104 : decode cX0_meanAt 104 = .ok (.iaload, 1) := by decide +kernel
theorem dX0_meanAt_105 : decode cX0_meanAt 105 = .ok (.iadd, 1) := by decide +kernel
theorem dX0_meanAt_106 : decode cX0_meanAt 106 = .ok (.istore 10, 2) := by decide +kernel
theorem dX0_meanAt_108 : decode cX0_meanAt 108 = .ok (.iload 9, 2) := by decide +kernel
theorem dX0_meanAt_110 : decode cX0_meanAt 110 = .ok (.ifCond .le 11, 3) := by decide +kernel
theorem dX0_meanAt_113 : decode cX0_meanAt 113 = .ok (.iload 10, 2) := by decide +kernel
theorem dX0_meanAt_115 : decode cX0_meanAt 115 = .ok (.iload 9, 2) := by decide +kernel
theorem dX0_meanAt_117 : decode cX0_meanAt 117 = .ok (.idiv, 1) := by decide +kernel
theorem dX0_meanAt_118 : decode cX0_meanAt 118 = .ok (.goto 4, 3) := by decide +kernel
theorem dX0_meanAt_121 : decode cX0_meanAt 121 = .ok (.iconst 0, 1) := by decide +kernel
theorem dX0_meanAt_122 : decode cX0_meanAt 122 = .ok (.ireturn, 1) := by decide +kernel
theorem dX0_within_0 : decode cX0_within 0 = .ok (.iload_n 0, 1) := by decide +kernel
theorem dX0_within_1 : decode cX0_within 1 = .ok (.ifCond .ge 5, 3) := by decide +kernel
theorem dX0_within_4 : decode cX0_within 4 = .ok (.iconst 0, 1) := by decide +kernel
theorem dX0_within_5 : decode cX0_within 5 = .ok (.ireturn, 1) := by decide +kernel
theorem dX0_within_6 : decode cX0_within 6 = .ok (.iload_n 0, 1) := by decide +kernel
theorem dX0_within_7 : decode cX0_within 7 = .ok (.bipush 16, 2) := by decide +kernel
theorem dX0_within_9 : decode cX0_within 9 = .ok (.if_icmp .le 8, 3) := by decide +kernel
theorem dX0_within_12 : decode cX0_within 12 = .ok (.bipush 16, 2) := by decide +kernel
theorem dX0_within_14 : decode cX0_within 14 = .ok (.goto 4, 3) := by decide +kernel
theorem dX0_within_17 : decode cX0_within 17 = .ok (.iload_n 0, 1) := by decide +kernel
theorem dX0_within_18 : decode cX0_within 18 = .ok (.ireturn, 1) := by decide +kernel
end
section
set_option maxRecDepth 100000
theorem dX0_threshold_0 : decode cX0_threshold 0 = .ok (.iconst 0, 1) := by decide +kernel
theorem dX0_threshold_1 : decode cX0_threshold 1 = .ok (.istore_n 2, 1) := by decide +kernel
theorem dX0_threshold_2 : decode cX0_threshold 2 = .ok (.iconst 0, 1) := by decide +kernel
theorem dX0_threshold_3 : decode cX0_threshold 3 = .ok (.istore_n 3, 1) := by decide +kernel
theorem dX0_threshold_4 : decode cX0_threshold 4 = .ok (.iload_n 3, 1) := by decide +kernel
theorem dX0_threshold_5 : decode cX0_threshold 5 = .ok (.sipush 256, 3) := by decide +kernel
theorem dX0_threshold_8 : decode cX0_threshold 8 = .ok (.if_icmp .ge 52, 3) := by decide +kernel
theorem dX0_threshold_11 : decode cX0_threshold 11 = .ok (.aload_n 0, 1) := by decide +kernel
theorem dX0_threshold_12 : decode cX0_threshold 12 = .ok (.getfield 7, 3) := by decide +kernel
theorem dX0_threshold_15 : decode cX0_threshold 15 = .ok (.iload_n 3, 1) := by decide +kernel
theorem dX0_threshold_16 : decode cX0_threshold 16 = .ok (.iaload, 1) := by decide +kernel
theorem dX0_threshold_17 : decode cX0_threshold 17 = .ok (.iload_n 1, 1) := by decide +kernel
theorem dX0_threshold_18 : decode cX0_threshold 18 = .ok (.if_icmp .lt 7, 3) := by decide +kernel
theorem dX0_threshold_21 : decode cX0_threshold 21 = .ok (.iconst 1, 1) := by decide +kernel
theorem dX0_threshold_22 : decode cX0_threshold 22 = .ok (.goto 4, 3) := by decide +kernel
theorem dX0_threshold_25 : decode cX0_threshold 25 = .ok (.iconst 0, 1) := by decide +kernel
theorem dX0_threshold_26 : decode cX0_threshold 26 = .ok (.istore 4, 2) := by decide +kernel
theorem dX0_threshold_28 : decode cX0_threshold 28 = .ok (.aload_n 0, 1) := by decide +kernel
theorem dX0_threshold_29 : decode cX0_threshold 29 = .ok (.getfield 7, 3) := by decide +kernel
theorem dX0_threshold_32 : decode cX0_threshold 32 = .ok (.iload_n 3, 1) := by decide +kernel
theorem dX0_threshold_33 : decode cX0_threshold 33 = .ok (.iload 4, 2) := by decide +kernel
theorem dX0_threshold_35 : decode cX0_threshold 35 = .ok (.ifCond .eq 9, 3) := by decide +kernel
theorem dX0_threshold_38 : decode cX0_threshold 38 = .ok (.sipush 255, 3) := by decide +kernel
theorem dX0_threshold_41 : decode cX0_threshold 41 = .ok (.goto 4, 3) := by decide +kernel
theorem dX0_threshold_44 : decode cX0_threshold 44 = .ok (.iconst 0, 1) := by decide +kernel
theorem dX0_threshold_45 : decode cX0_threshold 45 = .ok (.iastore, 1) := by decide +kernel
theorem dX0_threshold_46 : decode cX0_threshold 46 = .ok (.iload 4, 2) := by decide +kernel
theorem dX0_threshold_48 : decode cX0_threshold 48 = .ok (.ifCond .eq 6, 3) := by decide +kernel
theorem dX0_threshold_51 : decode cX0_threshold 51 = .ok (.iinc 2 1, 3) := by decide +kernel
theorem dX0_threshold_54 : decode cX0_threshold 54 = .ok (.iinc 3 1, 3) := by decide +kernel
theorem dX0_threshold_57 : decode cX0_threshold 57 = .ok (.goto (-53), 3) := by decide +kernel
theorem dX0_threshold_60 : decode cX0_threshold 60 = .ok (.iload_n 2, 1) := by decide +kernel
theorem dX0_threshold_61 : decode cX0_threshold 61 = .ok (.ireturn, 1) := by decide +kernel
theorem dX0_exchange_0 : decode cX0_exchange 0 = .ok (.iconst 0, 1) := by decide +kernel
theorem dX0_exchange_1 : decode cX0_exchange 1 = .ok (.istore_n 1, 1) := by decide +kernel
theorem dX0_exchange_2 : decode cX0_exchange 2 = .ok (.iload_n 1, 1) := by decide +kernel
theorem dX0_exchange_3 : decode cX0_exchange 3 = .ok (.sipush 256, 3) := by decide +kernel
theorem dX0_exchange_6 : decode cX0_exchange 6 = .ok (.if_icmp .ge 35, 3) := by decide +kernel
theorem dX0_exchange_9 : decode cX0_exchange 9 = .ok (.aload_n 0, 1) := by decide +kernel
theorem dX0_exchange_10 : decode cX0_exchange 10 = .ok (.getfield 7, 3) := by decide +kernel
theorem dX0_exchange_13 : decode cX0_exchange 13 = .ok (.iload_n 1, 1) := by decide +kernel
theorem dX0_exchange_14 : decode cX0_exchange 14 = .ok (.iaload, 1) := by decide +kernel
theorem dX0_exchange_15 : decode cX0_exchange 15 = .ok (.istore_n 2, 1) := by decide +kernel
theorem dX0_exchange_16 : decode cX0_exchange 16 = .ok (.aload_n 0, 1) := by decide +kernel
theorem dX0_exchange_17 : decode cX0_exchange 17 = .ok (.getfield 7, 3) := by decide +kernel
theorem dX0_exchange_20 : decode cX0_exchange 20 = .ok (.iload_n 1, 1) := by decide +kernel
theorem dX0_exchange_21 : decode cX0_exchange 21 = .ok (.aload_n 0, 1) := by decide +kernel
theorem dX0_exchange_22 : decode cX0_exchange 22 = .ok (.getfield 13, 3) := by decide +kernel
theorem dX0_exchange_25 : decode cX0_exchange 25 = .ok (.iload_n 1, 1) := by decide +kernel
theorem dX0_exchange_26 : decode cX0_exchange 26 = .ok (.iaload, 1) := by decide +kernel
theorem dX0_exchange_27 : decode cX0_exchange 27 = .ok (.iastore, 1) := by decide +kernel
theorem dX0_exchange_28 : decode cX0_exchange 28 = .ok (.aload_n 0, 1) := by decide +kernel
theorem dX0_exchange_29 : decode cX0_exchange 29 = .ok (.getfield 13, 3) := by decide +kernel
theorem dX0_exchange_32 : decode cX0_exchange 32 = .ok (.iload_n 1, 1) := by decide +kernel
theorem dX0_exchange_33 : decode cX0_exchange 33 = .ok (.iload_n 2, 1) := by decide +kernel
theorem dX0_exchange_34 : decode cX0_exchange 34 = .ok (.iastore, 1) := by decide +kernel
theorem dX0_exchange_35 : decode cX0_exchange 35 = .ok (.iinc 1 1, 3) := by decide +kernel
theorem dX0_exchange_38 : decode cX0_exchange 38 = .ok (.goto (-36), 3) := by decide +kernel
theorem dX0_exchange_41 : decode cX0_exchange 41 = .ok (.return_, 1) := by decide +kernel
theorem dX0_keep_0 : decode cX0_keep 0 = .ok (.iconst 0, 1) := by decide +kernel
theorem dX0_keep_1 : decode cX0_keep 1 = .ok (.istore_n 1, 1) := by decide +kernel
theorem dX0_keep_2 : decode cX0_keep 2 = .ok (.iload_n 1, 1) := by decide +kernel
theorem dX0_keep_3 : decode cX0_keep 3 = .ok (.sipush 256, 3) := by decide +kernel
theorem dX0_keep_6 : decode cX0_keep 6 = .ok (.if_icmp .ge 21, 3) := by decide +kernel
theorem dX0_keep_9 : decode cX0_keep 9 = .ok (.aload_n 0, 1) := by decide +kernel
theorem dX0_keep_10 : decode cX0_keep 10 = .ok (.getfield 13, 3) := by decide +kernel
theorem dX0_keep_13 : decode cX0_keep 13 = .ok (.iload_n 1, 1) := by decide +kernel
theorem dX0_keep_14 : decode cX0_keep 14 = .ok (.aload_n 0, 1) := by decide +kernel
theorem dX0_keep_15 : decode cX0_keep 15 = .ok (.getfield 7, 3) := by decide +kernel
theorem dX0_keep_18 : decode cX0_keep 18 = .ok (.iload_n 1, 1) := by decide +kernel
theorem dX0_keep_19 : decode cX0_keep 19 = .ok (.iaload, 1) := by decide +kernel
theorem dX0_keep_20 : decode cX0_keep 20 = .ok (.iastore, 1) := by decide +kernel
theorem dX0_keep_21 : decode cX0_keep 21 = .ok (.iinc 1 1, 3) := by decide +kernel
theorem dX0_keep_24 : decode cX0_keep 24 = .ok (.goto (-22), 3) := by decide +kernel
theorem dX0_keep_27 : decode cX0_keep 27 = .ok (.return_, 1) := by decide +kernel
theorem dX0_pixel_0 : decode cX0_pixel 0 = .ok (.iload_n 1, 1) := by decide +kernel
theorem dX0_pixel_1 : decode cX0_pixel 1 = .ok (.iload_n 2, 1) := by decide +kernel
theorem dX0_pixel_2 : decode cX0_pixel 2 = .ok (.invokestatic 31, 3) := by decide +kernel
theorem dX0_pixel_5 : decode cX0_pixel 5 = .ok (.ifCond .eq 7, 3) := by decide +kernel
theorem dX0_pixel_8 : decode cX0_pixel 8 = .ok (.iconst (-1), 1) := by decide +kernel
theorem dX0_pixel_9 : decode cX0_pixel 9 = .ok (.goto 14, 3) := by decide +kernel
theorem dX0_pixel_12 : decode cX0_pixel 12 = .ok (.aload_n 0, 1) := by decide +kernel
theorem dX0_pixel_13 : decode cX0_pixel 13 = .ok (.getfield 7, 3) := by decide +kernel
theorem dX0_pixel_16 : decode cX0_pixel 16 = .ok (.iload_n 1, 1) := by decide +kernel
theorem dX0_pixel_17 : decode cX0_pixel 17 = .ok (.bipush 16, 2) := by decide +kernel
theorem dX0_pixel_19 : decode cX0_pixel 19 = .ok (.imul, 1) := by decide +kernel
theorem dX0_pixel_20 : decode cX0_pixel 20 = .ok (.iload_n 2, 1) := by decide +kernel
theorem dX0_pixel_21 : decode cX0_pixel 21 = .ok (.iadd, 1) := by decide +kernel
theorem dX0_pixel_22 : decode cX0_pixel 22 = .ok (.iaload, 1) := by decide +kernel
theorem dX0_pixel_23 : decode cX0_pixel 23 = .ok (.ireturn, 1) := by decide +kernel
theorem dX0_sum_0 : decode cX0_sum 0 = .ok (.iconst 0, 1) := by decide +kernel
theorem dX0_sum_1 : decode cX0_sum 1 = .ok (.istore_n 1, 1) := by decide +kernel
theorem dX0_sum_2 : decode cX0_sum 2 = .ok (.iconst 0, 1) := by decide +kernel
theorem dX0_sum_3 : decode cX0_sum 3 = .ok (.istore_n 2, 1) := by decide +kernel
theorem dX0_sum_4 : decode cX0_sum 4 = .ok (.iload_n 2, 1) := by decide +kernel
theorem dX0_sum_5 : decode cX0_sum 5 = .ok (.sipush 256, 3) := by decide +kernel
theorem dX0_sum_8 : decode cX0_sum 8 = .ok (.if_icmp .ge 18, 3) := by decide +kernel
theorem dX0_sum_11 : decode cX0_sum 11 = .ok (.iload_n 1, 1) := by decide +kernel
theorem dX0_sum_12 : decode cX0_sum 12 = .ok (.aload_n 0, 1) := by decide +kernel
theorem dX0_sum_13 : decode cX0_sum 13 = .ok (.getfield 7, 3) := by decide +kernel
theorem dX0_sum_16 : decode cX0_sum 16 = .ok (.iload_n 2, 1) := by decide +kernel
theorem dX0_sum_17 : decode cX0_sum 17 = .ok (.iaload, 1) := by decide +kernel
theorem dX0_sum_18 : decode cX0_sum 18 = .ok (.iadd, 1) := by decide +kernel
theorem dX0_sum_19 : decode cX0_sum 19 = .ok (.istore_n 1, 1) := by decide +kernel
theorem dX0_sum_20 : decode cX0_sum 20 = .ok (.iinc 2 1, 3) := by decide +kernel
theorem dX0_sum_23 : decode cX0_sum 23 = .ok (.goto (-19), 3) := by decide +kernel
theorem dX0_sum_26 : decode cX0_sum 26 = .ok (.iload_n 1, 1) := by decide +kernel
theorem dX0_sum_27 : decode cX0_sum 27 = .ok (.ireturn, 1) := by decide +kernel
theorem dX0_equal_0 : decode cX0_equal 0 = .ok (.iconst 0, 1) := by decide +kernel
theorem dX0_equal_1 : decode cX0_equal 1 = .ok (.istore_n 1, 1) := by decide +kernel
theorem dX0_equal_2 : decode cX0_equal 2 = .ok (.iconst 0, 1) := by decide +kernel
theorem dX0_equal_3 : decode cX0_equal 3 = .ok (.istore_n 2, 1) := by decide +kernel
theorem dX0_equal_4 : decode cX0_equal 4 = .ok (.iload_n 2, 1) := by decide +kernel
theorem dX0_equal_5 : decode cX0_equal 5 = .ok (.sipush 256, 3) := by decide +kernel
theorem dX0_equal_8 : decode cX0_equal 8 = .ok (.if_icmp .ge 27, 3) := by decide +kernel
theorem dX0_equal_11 : decode cX0_equal 11 = .ok (.aload_n 0, 1) := by decide +kernel
theorem dX0_equal_12 : decode cX0_equal 12 = .ok (.getfield 7, 3) := by decide +kernel
theorem dX0_equal_15 : decode cX0_equal 15 = .ok (.iload_n 2, 1) := by decide +kernel
theorem dX0_equal_16 : decode cX0_equal 16 = .ok (.iaload, 1) := by decide +kernel
theorem dX0_equal_17 : decode cX0_equal 17 = .ok (.aload_n 0, 1) := by decide +kernel
theorem dX0_equal_18 : decode cX0_equal 18 = .ok (.getfield 13, 3) := by decide +kernel
theorem dX0_equal_21 : decode cX0_equal 21 = .ok (.iload_n 2, 1) := by decide +kernel
theorem dX0_equal_22 : decode cX0_equal 22 = .ok (.iaload, 1) := by decide +kernel
theorem dX0_equal_23 : decode cX0_equal 23 = .ok (.if_icmp .ne 6, 3) := by decide +kernel
theorem dX0_equal_26 : decode cX0_equal 26 = .ok (.iinc 1 1, 3) := by decide +kernel
theorem dX0_equal_29 : decode cX0_equal 29 = .ok (.iinc 2 1, 3) := by decide +kernel
theorem dX0_equal_32 : decode cX0_equal 32 = .ok (.goto (-28), 3) := by decide +kernel
theorem dX0_equal_35 : decode cX0_equal 35 = .ok (.iload_n 1, 1) := by decide +kernel
theorem dX0_equal_36 : decode cX0_equal 36 = .ok (.ireturn, 1) := by decide +kernel
theorem dX0_above_0 : decode cX0_above 0 = .ok (.iconst 0, 1) := by decide +kernel
theorem dX0_above_1 : decode cX0_above 1 = .ok (.istore_n 1, 1) := by decide +kernel
theorem dX0_above_2 : decode cX0_above 2 = .ok (.iconst 0, 1) := by decide +kernel
theorem dX0_above_3 : decode cX0_above 3 = .ok (.istore_n 2, 1) := by decide +kernel
theorem dX0_above_4 : decode cX0_above 4 = .ok (.iload_n 2, 1) := by decide +kernel
theorem dX0_above_5 : decode cX0_above 5 = .ok (.sipush 256, 3) := by decide +kernel
theorem dX0_above_8 : decode cX0_above 8 = .ok (.if_icmp .ge 27, 3) := by decide +kernel
theorem dX0_above_11 : decode cX0_above 11 = .ok (.aload_n 0, 1) := by decide +kernel
theorem dX0_above_12 : decode cX0_above 12 = .ok (.getfield 7, 3) := by decide +kernel
theorem dX0_above_15 : decode cX0_above 15 = .ok (.iload_n 2, 1) := by decide +kernel
theorem dX0_above_16 : decode cX0_above 16 = .ok (.iaload, 1) := by decide +kernel
theorem dX0_above_17 : decode cX0_above 17 = .ok (.aload_n 0, 1) := by decide +kernel
theorem dX0_above_18 : decode cX0_above 18 = .ok (.getfield 13, 3) := by decide +kernel
theorem dX0_above_21 : decode cX0_above 21 = .ok (.iload_n 2, 1) := by decide +kernel
theorem dX0_above_22 : decode cX0_above 22 = .ok (.iaload, 1) := by decide +kernel
theorem dX0_above_23 : decode cX0_above 23 = .ok (.if_icmp .le 6, 3) := by decide +kernel
theorem dX0_above_26 : decode cX0_above 26 = .ok (.iinc 1 1, 3) := by decide +kernel
theorem dX0_above_29 : decode cX0_above 29 = .ok (.iinc 2 1, 3) := by decide +kernel
theorem dX0_above_32 : decode cX0_above 32 = .ok (.goto (-28), 3) := by decide +kernel
theorem dX0_above_35 : decode cX0_above 35 = .ok (.iload_n 1, 1) := by decide +kernel
theorem dX0_above_36 : decode cX0_above 36 = .ok (.ireturn, 1) := by decide +kernel
theorem dX0_patches_0 : decode cX0_patches 0 = .ok (.iconst 0, 1) := by decide +kernel
theorem dX0_patches_1 : decode cX0_patches 1 = .ok (.istore_n 1, 1) := by decide +kernel
theorem dX0_patches_2 : decode cX0_patches 2 = .ok (.iconst 0, 1) := by decide +kernel
theorem dX0_patches_3 : decode cX0_patches 3 = .ok (.istore_n 2, 1) := by decide +kernel
theorem dX0_patches_4 : decode cX0_patches 4 = .ok (.iload_n 2, 1) := by decide +kernel
theorem dX0_patches_5 : decode cX0_patches 5 = .ok (.sipush 256, 3) := by decide +kernel
theorem dX0_patches_8 : decode cX0_patches 8 = .ok (.if_icmp .ge 93, 3) := by decide +kernel
theorem dX0_patches_11 : decode cX0_patches 11 = .ok (.aload_n 0, 1) := by decide +kernel
theorem dX0_patches_12 : decode cX0_patches 12 = .ok (.getfield 28, 3) := by decide +kernel
theorem dX0_patches_15 : decode cX0_patches 15 = .ok (.iload_n 2, 1) := by decide +kernel
theorem dX0_patches_16 : decode cX0_patches 16 = .ok (.iload_n 2, 1) := by decide +kernel
theorem dX0_patches_17 : decode cX0_patches 17 = .ok (.iastore, 1) := by decide +kernel
theorem dX0_patches_18 : decode cX0_patches 18 = .ok (.aload_n 0, 1) := by decide +kernel
theorem dX0_patches_19 : decode cX0_patches 19 = .ok (.getfield 7, 3) := by decide +kernel
theorem dX0_patches_22 : decode cX0_patches 22 = .ok (.iload_n 2, 1) := by decide +kernel
theorem dX0_patches_23 : decode cX0_patches 23 = .ok (.iaload, 1) := by decide +kernel
theorem dX0_patches_24 : decode cX0_patches 24 = .ok (.ifCond .le 71, 3) := by decide +kernel
theorem dX0_patches_27 : decode cX0_patches 27 = .ok (.iinc 1 1, 3) := by decide +kernel
theorem dX0_patches_30 : decode cX0_patches 30 = .ok (.iload_n 2, 1) := by decide +kernel
theorem dX0_patches_31 : decode cX0_patches 31 = .ok (.bipush 16, 2) := by decide +kernel
theorem dX0_patches_33 : decode cX0_patches 33 = .ok (.irem, 1) := by decide +kernel
theorem dX0_patches_34 : decode cX0_patches 34 = .ok (.ifCond .le 28, 3) := by decide +kernel
theorem dX0_patches_37 : decode cX0_patches 37 = .ok (.aload_n 0, 1) := by decide +kernel
theorem dX0_patches_38 : decode cX0_patches 38 = .ok (.getfield 7, 3) := by decide +kernel
theorem dX0_patches_41 : decode cX0_patches 41 = .ok (.iload_n 2, 1) := by decide +kernel
theorem dX0_patches_42 : decode cX0_patches 42 = .ok (.iconst 1, 1) := by decide +kernel
theorem dX0_patches_43 : decode cX0_patches 43 = .ok (.isub, 1) := by decide +kernel
theorem dX0_patches_44 : decode cX0_patches 44 = .ok (.iaload, 1) := by decide +kernel
theorem dX0_patches_45 : decode cX0_patches 45 = .ok (.ifCond .le 17, 3) := by decide +kernel
theorem dX0_patches_48 : decode cX0_patches 48 = .ok (.aload_n 0, 1) := by decide +kernel
theorem dX0_patches_49 : decode cX0_patches 49 = .ok (.iload_n 2, 1) := by decide +kernel
theorem dX0_patches_50 : decode cX0_patches 50 = .ok (.iload_n 2, 1) := by decide +kernel
theorem dX0_patches_51 : decode cX0_patches 51 = .ok (.iconst 1, 1) := by decide +kernel
theorem dX0_patches_52 : decode cX0_patches 52 = .ok (.isub, 1) := by decide +kernel
theorem dX0_patches_53 : decode cX0_patches 53 = .ok (.invokevirtual 71, 3) := by decide +kernel
theorem dX0_patches_56 : decode cX0_patches 56 = .ok (.ifCond .eq 6, 3) := by decide +kernel
theorem dX0_patches_59 : decode cX0_patches 59 = .ok (.iinc 1 (-1), 3) := by decide +kernel
theorem dX0_patches_62 : decode cX0_patches 62 = .ok (.iload_n 2, 1) := by decide +kernel
theorem dX0_patches_63 : decode cX0_patches 63 = .ok (.bipush 16, 2) := by decide +kernel
theorem dX0_patches_65 : decode cX0_patches 65 = .ok (.if_icmp .lt 30, 3) := by decide +kernel
theorem dX0_patches_68 : decode cX0_patches 68 = .ok (.aload_n 0, 1) := by decide +kernel
theorem dX0_patches_69 : decode cX0_patches 69 = .ok (.getfield 7, 3) := by decide +kernel
theorem dX0_patches_72 : decode cX0_patches 72 = .ok (.iload_n 2, 1) := by decide +kernel
theorem dX0_patches_73 : decode cX0_patches 73 = .ok (.bipush 16, 2) := by decide +kernel
theorem dX0_patches_75 : decode cX0_patches 75 = .ok (.isub, 1) := by decide +kernel
theorem dX0_patches_76 : decode cX0_patches 76 = .ok (.iaload, 1) := by decide +kernel
theorem dX0_patches_77 : decode cX0_patches 77 = .ok (.ifCond .le 18, 3) := by decide +kernel
theorem dX0_patches_80 : decode cX0_patches 80 = .ok (.aload_n 0, 1) := by decide +kernel
theorem dX0_patches_81 : decode cX0_patches 81 = .ok (.iload_n 2, 1) := by decide +kernel
theorem dX0_patches_82 : decode cX0_patches 82 = .ok (.iload_n 2, 1) := by decide +kernel
theorem dX0_patches_83 : decode cX0_patches 83 = .ok (.bipush 16, 2) := by decide +kernel
theorem dX0_patches_85 : decode cX0_patches 85 = .ok (.isub, 1) := by decide +kernel
theorem dX0_patches_86 : decode cX0_patches 86 = .ok (.invokevirtual 71, 3) := by decide +kernel
theorem dX0_patches_89 : decode cX0_patches 89 = .ok (.ifCond .eq 6, 3) := by decide +kernel
theorem dX0_patches_92 : decode cX0_patches 92 = .ok (.iinc 1 (-1), 3) := by decide +kernel
theorem dX0_patches_95 : decode cX0_patches 95 = .ok (.iinc 2 1, 3) := by decide +kernel
theorem dX0_patches_98 : decode cX0_patches 98 = .ok (.goto (-94), 3) := by decide +kernel
theorem dX0_patches_101 : decode cX0_patches 101 = .ok (.iload_n 1, 1) := by decide +kernel
theorem dX0_patches_102 : decode cX0_patches 102 = .ok (.ireturn, 1) := by decide +kernel
theorem dX0_join_0 : decode cX0_join 0 = .ok (.aload_n 0, 1) := by decide +kernel
theorem dX0_join_1 : decode cX0_join 1 = .ok (.iload_n 1, 1) := by decide +kernel
theorem dX0_join_2 : decode cX0_join 2 = .ok (.invokevirtual 68, 3) := by decide +kernel
theorem dX0_join_5 : decode cX0_join 5 = .ok (.istore_n 3, 1) := by decide +kernel
theorem dX0_join_6 : decode cX0_join 6 = .ok (.aload_n 0, 1) := by decide +kernel
theorem dX0_join_7 : decode cX0_join 7 = .ok (.iload_n 2, 1) := by decide +kernel
theorem dX0_join_8 : decode cX0_join 8 = .ok (.invokevirtual 68, 3) := by decide +kernel
theorem dX0_join_11 : decode cX0_join 11 = .ok (.istore 4, 2) := by decide +kernel
theorem dX0_join_13 : decode cX0_join 13 = .ok (.iload_n 3, 1) := by decide +kernel
theorem dX0_join_14 : decode cX0_join 14 = .ok (.iload 4, 2) := by decide +kernel
theorem dX0_join_16 : decode cX0_join 16 = .ok (.if_icmp .ne 5, 3) := by decide +kernel
theorem dX0_join_19 : decode cX0_join 19 = .ok (.iconst 0, 1) := by decide +kernel
theorem dX0_join_20 : decode cX0_join 20 = .ok (.ireturn, 1) := by decide +kernel
theorem dX0_join_21 : decode cX0_join 21 = .ok (.iload_n 3, 1) := by decide +kernel
theorem dX0_join_22 : decode cX0_join 22 = .ok (.iload 4, 2) := by decide +kernel
theorem dX0_join_24 : decode cX0_join 24 = .ok (.if_icmp .ge 14, 3) := by decide +kernel
theorem dX0_join_27 : decode cX0_join 27 = .ok (.aload_n 0, 1) := by decide +kernel
theorem dX0_join_28 : decode cX0_join 28 = .ok (.getfield 28, 3) := by decide +kernel
theorem dX0_join_31 : decode cX0_join 31 = .ok (.iload 4, 2) := by decide +kernel
theorem dX0_join_33 : decode cX0_join 33 = .ok (.iload_n 3, 1) := by decide +kernel
theorem dX0_join_34 : decode cX0_join 34 = .ok (.iastore, 1) := by decide +kernel
theorem dX0_join_35 : decode cX0_join 35 = .ok (.goto 11, 3) := by decide +kernel
theorem dX0_join_38 : decode cX0_join 38 = .ok (.aload_n 0, 1) := by decide +kernel
theorem dX0_join_39 : decode cX0_join 39 = .ok (.getfield 28, 3) := by decide +kernel
theorem dX0_join_42 : decode cX0_join 42 = .ok (.iload_n 3, 1) := by decide +kernel
theorem dX0_join_43 : decode cX0_join 43 = .ok (.iload 4, 2) := by decide +kernel
theorem dX0_join_45 : decode cX0_join 45 = .ok (.iastore, 1) := by decide +kernel
theorem dX0_join_46 : decode cX0_join 46 = .ok (.iconst 1, 1) := by decide +kernel
theorem dX0_join_47 : decode cX0_join 47 = .ok (.ireturn, 1) := by decide +kernel
theorem dX0_find_0 : decode cX0_find 0 = .ok (.iload_n 1, 1) := by decide +kernel
theorem dX0_find_1 : decode cX0_find 1 = .ok (.istore_n 2, 1) := by decide +kernel
theorem dX0_find_2 : decode cX0_find 2 = .ok (.aload_n 0, 1) := by decide +kernel
theorem dX0_find_3 : decode cX0_find 3 = .ok (.getfield 28, 3) := by decide +kernel
theorem dX0_find_6 : decode cX0_find 6 = .ok (.iload_n 2, 1) := by decide +kernel
theorem dX0_find_7 : decode cX0_find 7 = .ok (.iaload, 1) := by decide +kernel
theorem dX0_find_8 : decode cX0_find 8 = .ok (.iload_n 2, 1) := by decide +kernel
theorem dX0_find_9 : decode cX0_find 9 = .ok (.if_icmp .ge 13, 3) := by decide +kernel
theorem dX0_find_12 : decode cX0_find 12 = .ok (.aload_n 0, 1) := by decide +kernel
theorem dX0_find_13 : decode cX0_find 13 = .ok (.getfield 28, 3) := by decide +kernel
theorem dX0_find_16 : decode cX0_find 16 = .ok (.iload_n 2, 1) := by decide +kernel
theorem dX0_find_17 : decode cX0_find 17 = .ok (.iaload, 1) := by decide +kernel
theorem dX0_find_18 : decode cX0_find 18 = .ok (.istore_n 2, 1) := by decide +kernel
theorem dX0_find_19 : decode cX0_find 19 = .ok (.goto (-17), 3) := by decide +kernel
theorem dX0_find_22 : decode cX0_find 22 = .ok (.iload_n 2, 1) := by decide +kernel
theorem dX0_find_23 : decode cX0_find 23 = .ok (.ireturn, 1) := by decide +kernel
end
section
set_option maxRecDepth 100000
theorem dX1_init_0 : decode cX1_init 0 = .ok (.aload_n 0, 1) := by decide +kernel
theorem dX1_init_1 : decode cX1_init 1 = .ok (.invokespecial 1, 3) := by decide +kernel
theorem dX1_init_4 : decode cX1_init 4 = .ok (.aload_n 0, 1) := by decide +kernel
theorem dX1_init_5 : decode cX1_init 5 = .ok (.sipush 256, 3) := by decide +kernel
theorem dX1_init_8 : decode cX1_init 8 = .ok (.newarray .int, 2) := by decide +kernel
theorem dX1_init_10 : decode cX1_init 10 = .ok (.putfield 7, 3) := by decide +kernel
theorem dX1_init_13 : decode cX1_init 13 = .ok (.aload_n 0, 1) := by decide +kernel
theorem dX1_init_14 : decode cX1_init 14 = .ok (.sipush 256, 3) := by decide +kernel
theorem dX1_init_17 : decode cX1_init 17 = .ok (.newarray .int, 2) := by decide +kernel
theorem dX1_init_19 : decode cX1_init 19 = .ok (.putfield 13, 3) := by decide +kernel
theorem dX1_init_22 : decode cX1_init 22 = .ok (.aload_n 0, 1) := by decide +kernel
theorem dX1_init_23 : decode cX1_init 23 = .ok (.sipush 256, 3) := by decide +kernel
theorem dX1_init_26 : decode cX1_init 26 = .ok (.newarray .int, 2) := by decide +kernel
theorem dX1_init_28 : decode cX1_init 28 = .ok (.putfield 16, 3) := by decide +kernel
theorem dX1_init_31 : decode cX1_init 31 = .ok (.aload_n 0, 1) := by decide +kernel
theorem dX1_init_32 : decode cX1_init 32 = .ok (.sipush 256, 3) := by decide +kernel
theorem dX1_init_35 : decode cX1_init 35 = .ok (.newarray .int, 2) := by decide +kernel
theorem dX1_init_37 : decode cX1_init 37 = .ok (.putfield 19, 3) := by decide +kernel
theorem dX1_init_40 : decode cX1_init 40 = .ok (.aload_n 0, 1) := by decide +kernel
theorem dX1_init_41 : decode cX1_init 41 = .ok (.sipush 256, 3) := by decide +kernel
theorem dX1_init_44 : decode cX1_init 44 = .ok (.newarray .int, 2) := by decide +kernel
theorem dX1_init_46 : decode cX1_init 46 = .ok (.putfield 22, 3) := by decide +kernel
theorem dX1_init_49 : decode cX1_init 49 = .ok (.return_, 1) := by decide +kernel
theorem dX1_set_0 : decode cX1_set 0 = .ok (.aload_n 0, 1) := by decide +kernel
theorem dX1_set_1 : decode cX1_set 1 = .ok (.iload_n 1, 1) := by decide +kernel
theorem dX1_set_2 : decode cX1_set 2 = .ok (.iload_n 2, 1) := by decide +kernel
theorem dX1_set_3 : decode cX1_set 3 = .ok (.invokevirtual 25, 3) := by decide +kernel
theorem dX1_set_6 : decode cX1_set 6 = .ok (.ifCond .ne 5, 3) := by decide +kernel
theorem dX1_set_9 : decode cX1_set 9 = .ok (.iconst (-1), 1) := by decide +kernel
theorem dX1_set_10 : decode cX1_set 10 = .ok (.ireturn, 1) := by decide +kernel
theorem dX1_set_11 : decode cX1_set 11 = .ok (.iload_n 3, 1) := by decide +kernel
theorem dX1_set_12 : decode cX1_set 12 = .ok (.ifCond .lt 10, 3) := by decide +kernel
theorem dX1_set_15 : decode cX1_set 15 = .ok (.iload_n 3, 1) := by decide +kernel
theorem dX1_set_16 : decode cX1_set 16 = .ok (.sipush 255, 3) := by decide +kernel
theorem dX1_set_19 : decode cX1_set 19 = .ok (.if_icmp .le 6, 3) := by decide +kernel
theorem dX1_set_22 : decode cX1_set 22 = .ok (.bipush (-2), 2) := by decide +kernel
theorem dX1_set_24 : decode cX1_set 24 = .ok (.ireturn, 1) := by decide +kernel
theorem dX1_set_25 : decode cX1_set 25 = .ok (.aload_n 0, 1) := by decide +kernel
theorem dX1_set_26 : decode cX1_set 26 = .ok (.getfield 7, 3) := by decide +kernel
theorem dX1_set_29 : decode cX1_set 29 = .ok (.iload_n 1, 1) := by decide +kernel
theorem dX1_set_30 : decode cX1_set 30 = .ok (.bipush 16, 2) := by decide +kernel
theorem dX1_set_32 : decode cX1_set 32 = .ok (.imul, 1) := by decide +kernel
theorem dX1_set_33 : decode cX1_set 33 = .ok (.iload_n 2, 1) := by decide +kernel
theorem dX1_set_34 : decode cX1_set 34 = .ok (.iadd, 1) := by decide +kernel
theorem dX1_set_35 : decode cX1_set 35 = .ok (.iaload, 1) := by decide +kernel
theorem dX1_set_36 : decode cX1_set 36 = .ok (.istore 4, 2) := by decide +kernel
theorem dX1_set_38 : decode cX1_set 38 = .ok (.aload_n 0, 1) := by decide +kernel
theorem dX1_set_39 : decode cX1_set 39 = .ok (.getfield 7, 3) := by decide +kernel
theorem dX1_set_42 : decode cX1_set 42 = .ok (.iload_n 1, 1) := by decide +kernel
theorem dX1_set_43 : decode cX1_set 43 = .ok (.bipush 16, 2) := by decide +kernel
theorem dX1_set_45 : decode cX1_set 45 = .ok (.imul, 1) := by decide +kernel
theorem dX1_set_46 : decode cX1_set 46 = .ok (.iload_n 2, 1) := by decide +kernel
theorem dX1_set_47 : decode cX1_set 47 = .ok (.iadd, 1) := by decide +kernel
theorem dX1_set_48 : decode cX1_set 48 = .ok (.iload_n 3, 1) := by decide +kernel
theorem dX1_set_49 : decode cX1_set 49 = .ok (.iastore, 1) := by decide +kernel
theorem dX1_set_50 : decode cX1_set 50 = .ok (.iload 4, 2) := by decide +kernel
theorem dX1_set_52 : decode cX1_set 52 = .ok (.ireturn, 1) := by decide +kernel
theorem dX1_isPixel_0 : decode cX1_isPixel 0 = .ok (.iload_n 1, 1) := by decide +kernel
theorem dX1_isPixel_1 : decode cX1_isPixel 1 = .ok (.ifCond .lt 23, 3) := by decide +kernel
theorem dX1_isPixel_4 : decode cX1_isPixel 4 = .ok (.iload_n 1, 1) := by decide +kernel
theorem dX1_isPixel_5 : decode cX1_isPixel 5 = .ok (.bipush 16, 2) := by decide +kernel
theorem dX1_isPixel_7 : decode cX1_isPixel 7 = .ok (.if_icmp .ge 17, 3) := by decide +kernel
theorem dX1_isPixel_10 : decode cX1_isPixel 10 = .ok (.iload_n 2, 1) := by decide +kernel
theorem dX1_isPixel_11 : decode cX1_isPixel 11 = .ok (.ifCond .lt 13, 3) := by decide +kernel
theorem dX1_isPixel_14 : decode cX1_isPixel 14 = .ok (.iload_n 2, 1) := by decide +kernel
theorem dX1_isPixel_15 : decode cX1_isPixel 15 = .ok (.bipush 16, 2) := by decide +kernel
theorem dX1_isPixel_17 : decode cX1_isPixel 17 = .ok (.if_icmp .ge 7, 3) := by decide +kernel
theorem dX1_isPixel_20 : decode cX1_isPixel 20 = .ok (.iconst 1, 1) := by decide +kernel
theorem dX1_isPixel_21 : decode cX1_isPixel 21 = .ok (.goto 4, 3) := by decide +kernel
theorem dX1_isPixel_24 : decode cX1_isPixel 24 = .ok (.iconst 0, 1) := by decide +kernel
theorem dX1_isPixel_25 : decode cX1_isPixel 25 = .ok (.ireturn, 1) := by decide +kernel
theorem dX1_pattern_0 : decode cX1_pattern 0 = .ok (.iconst 0, 1) := by decide +kernel
theorem dX1_pattern_1 : decode cX1_pattern 1 = .ok (.istore_n 3, 1) := by decide +kernel
theorem dX1_pattern_2 : decode cX1_pattern 2 = .ok (.iload_n 3, 1) := by decide +kernel
theorem dX1_pattern_3 : decode cX1_pattern 3 = .ok (.sipush 256, 3) := by decide +kernel
theorem dX1_pattern_6 : decode cX1_pattern 6 = .ok (.if_icmp .ge 42, 3) := by decide +kernel
theorem dX1_pattern_9 : decode cX1_pattern 9 = .ok (.aload_n 0, 1) := by decide +kernel
theorem dX1_pattern_10 : decode cX1_pattern 10 = .ok (.getfield 7, 3) := by decide +kernel
theorem dX1_pattern_13 : decode cX1_pattern 13 = .ok (.iload_n 3, 1) := by decide +kernel
theorem dX1_pattern_14 : decode cX1_pattern 14 = .ok (.iload_n 3, 1) := by decide +kernel
theorem dX1_pattern_15 : decode cX1_pattern 15 = .ok (.bipush 16, 2) := by decide +kernel
theorem dX1_pattern_17 : decode cX1_pattern 17 = .ok (.idiv, 1) := by decide +kernel
theorem dX1_pattern_18 : decode cX1_pattern 18 = .ok (.iload_n 1, 1) := by decide +kernel
theorem dX1_pattern_19 : decode cX1_pattern 19 = .ok (.imul, 1) := by decide +kernel
theorem dX1_pattern_20 : decode cX1_pattern 20 = .ok (.iload_n 3, 1) := by decide +kernel
theorem dX1_pattern_21 : decode cX1_pattern 21 = .ok (.bipush 16, 2) := by decide +kernel
theorem dX1_pattern_23 : decode cX1_pattern 23 = .ok (.irem, 1) := by decide +kernel
theorem dX1_pattern_24 : decode cX1_pattern 24 = .ok (.iload_n 2, 1) := by decide +kernel
theorem dX1_pattern_25 : decode cX1_pattern 25 = .ok (.imul, 1) := by decide +kernel
theorem dX1_pattern_26 : decode cX1_pattern 26 = .ok (.iadd, 1) := by decide +kernel
theorem dX1_pattern_27 : decode cX1_pattern 27 = .ok (.iload_n 3, 1) := by decide +kernel
theorem dX1_pattern_28 : decode cX1_pattern 28 = .ok (.bipush 16, 2) := by decide +kernel
theorem dX1_pattern_30 : decode cX1_pattern 30 = .ok (.idiv, 1) := by decide +kernel
theorem dX1_pattern_31 : decode cX1_pattern 31 = .ok (.iload_n 3, 1) := by decide +kernel
theorem dX1_pattern_32 : decode cX1_pattern 32 = .ok (.bipush 16, 2) := by decide +kernel
theorem dX1_pattern_34 : decode cX1_pattern 34 = .ok (.irem, 1) := by decide +kernel
theorem dX1_pattern_35 : decode cX1_pattern 35 = .ok (.imul, 1) := by decide +kernel
theorem dX1_pattern_36 : decode cX1_pattern 36 = .ok (.iadd, 1) := by decide +kernel
theorem dX1_pattern_37 : decode cX1_pattern 37 = .ok (.sipush 255, 3) := by decide +kernel
theorem dX1_pattern_40 : decode cX1_pattern 40 = .ok (.iand, 1) := by decide +kernel
theorem dX1_pattern_41 : decode cX1_pattern 41 = .ok (.iastore, 1) := by decide +kernel
theorem dX1_pattern_42 : decode cX1_pattern 42 = .ok (.iinc 3 1, 3) := by decide +kernel
theorem dX1_pattern_45 : decode cX1_pattern 45 = .ok (.goto (-43), 3) := by decide +kernel
theorem dX1_pattern_48 : decode cX1_pattern 48 = .ok (.return_, 1) := by decide +kernel
theorem dX1_dilate_0 : decode cX1_dilate 0 = .ok (.aload_n 0, 1) := by decide +kernel
theorem dX1_dilate_1 : decode cX1_dilate 1 = .ok (.iconst 0, 1) := by decide +kernel
theorem dX1_dilate_2 : decode cX1_dilate 2 = .ok (.iconst (-1), 1) := by decide +kernel
theorem dX1_dilate_3 : decode cX1_dilate 3 = .ok (.iload_n 1, 1) := by decide +kernel
theorem dX1_dilate_4 : decode cX1_dilate 4 = .ok (.iload_n 2, 1) := by decide +kernel
theorem dX1_dilate_5 : decode cX1_dilate 5 = .ok (.invokevirtual 37, 3) := by decide +kernel
theorem dX1_dilate_8 : decode cX1_dilate 8 = .ok (.ireturn, 1) := by decide +kernel
theorem dX1_filter_0 : decode cX1_filter 0 = .ok (.iload_n 3, 1) := by decide +kernel
theorem dX1_filter_1 : decode cX1_filter 1 = .ok (.ifCond .lt 21, 3) := by decide +kernel
theorem dX1_filter_4 : decode cX1_filter 4 = .ok (.iload_n 3, 1) := by decide +kernel
theorem dX1_filter_5 : decode cX1_filter 5 = .ok (.bipush 7, 2) := by decide +kernel
theorem dX1_filter_7 : decode cX1_filter 7 = .ok (.if_icmp .gt 15, 3) := by decide +kernel
theorem dX1_filter_10 : decode cX1_filter 10 = .ok (.iload 4, 2) := by decide +kernel
theorem dX1_filter_12 : decode cX1_filter 12 = .ok (.ifCond .lt 10, 3) := by decide +kernel
theorem dX1_filter_15 : decode cX1_filter 15 = .ok (.iload 4, 2) := by decide +kernel
theorem dX1_filter_17 : decode cX1_filter 17 = .ok (.bipush 7, 2) := by decide +kernel
theorem dX1_filter_19 : decode cX1_filter 19 = .ok (.if_icmp .le 6, 3) := by decide +kernel
theorem dX1_filter_22 : decode cX1_filter 22 = .ok (.bipush (-3), 2) := by decide +kernel
theorem dX1_filter_24 : decode cX1_filter 24 = .ok (.ireturn, 1) := by decide +kernel
theorem dX1_filter_25 : decode cX1_filter 25 = .ok (.iconst 0, 1) := by decide +kernel
theorem dX1_filter_26 : decode cX1_filter 26 = .ok (.istore 5, 2) := by decide +kernel
theorem dX1_filter_28 : decode cX1_filter 28 = .ok (.iload 5, 2) := by decide +kernel
theorem dX1_filter_30 : decode cX1_filter 30 = .ok (.sipush 256, 3) := by decide +kernel
theorem dX1_filter_33 : decode cX1_filter 33 = .ok (.if_icmp .ge 23, 3) := by decide +kernel
theorem dX1_filter_36 : decode cX1_filter 36 = .ok (.aload_n 0, 1) := by decide +kernel
theorem dX1_filter_37 : decode cX1_filter 37 = .ok (.getfield 19, 3) := by decide +kernel
theorem dX1_filter_40 : decode cX1_filter 40 = .ok (.iload 5, 2) := by decide +kernel
theorem dX1_filter_42 : decode cX1_filter 42 = .ok (.aload_n 0, 1) := by decide +kernel
theorem dX1_filter_43 : decode cX1_filter 43 = .ok (.getfield 7, 3) := by decide +kernel
theorem dX1_filter_46 : decode cX1_filter 46 = .ok (.iload 5, 2) := by decide +kernel
theorem dX1_filter_48 : decode cX1_filter 48 = .ok (.iaload, 1) := by decide +kernel
theorem dX1_filter_49 : decode cX1_filter 49 = .ok (.iastore, 1) := by decide +kernel
theorem dX1_filter_50 : decode cX1_filter 50 = .ok (.iinc 5 1, 3) := by decide +kernel
theorem dX1_filter_53 : decode cX1_filter 53 = .ok (.goto (-25), 3) := by decide +kernel
theorem dX1_filter_56 : decode cX1_filter 56 = .ok (.aload_n 0, 1) := by decide +kernel
theorem dX1_filter_57 : decode cX1_filter 57 = .ok (.iload_n 1, 1) := by decide +kernel
theorem dX1_filter_58 : decode cX1_filter 58 = .ok (.iload_n 3, 1) := by decide +kernel
theorem dX1_filter_59 : decode cX1_filter 59 = .ok (.iload 4, 2) := by decide +kernel
theorem dX1_filter_61 : decode cX1_filter 61 = .ok (.invokevirtual 33, 3) := by decide +kernel
theorem dX1_filter_64 : decode cX1_filter 64 = .ok (.iload_n 2, 1) := by decide +kernel
theorem dX1_filter_65 : decode cX1_filter 65 = .ok (.ifCond .lt 11, 3) := by decide +kernel
theorem dX1_filter_68 : decode cX1_filter 68 = .ok (.aload_n 0, 1) := by decide +kernel
theorem dX1_filter_69 : decode cX1_filter 69 = .ok (.iload_n 2, 1) := by decide +kernel
theorem dX1_filter_70 : decode cX1_filter 70 = .ok (.iload_n 3, 1) := by decide +kernel
theorem dX1_filter_71 : decode cX1_filter 71 = .ok (.iload 4, 2) := by decide +kernel
theorem dX1_filter_73 : decode cX1_filter 73 = .ok (.invokevirtual 33, 3) := by decide +kernel
theorem dX1_filter_76 : decode cX1_filter 76 = .ok (.iconst 0, 1) := by decide +kernel
theorem dX1_filter_77 : decode cX1_filter 77 = .ok (.istore 5, 2) := by decide +kernel
theorem dX1_filter_79 : decode cX1_filter 79 = .ok (.iconst 0, 1) := by decide +kernel
theorem dX1_filter_80 : decode cX1_filter 80 = .ok (.istore 6, 2) := by decide +kernel
theorem dX1_filter_82 : decode cX1_filter 82 = .ok (.iload 6, 2) := by decide +kernel
theorem dX1_filter_84 : decode cX1_filter 84 = .ok (.sipush 256, 3) := by decide +kernel
theorem dX1_filter_87 : decode cX1_filter 87 = .ok (.if_icmp .ge 29, 3) := by decide +kernel
theorem dX1_filter_90 : decode cX1_filter 90 = .ok (.aload_n 0, 1) := by decide +kernel
theorem dX1_filter_91 : decode cX1_filter 91 = .ok (.getfield 7, 3) := by decide +kernel
theorem dX1_filter_94 : decode cX1_filter 94 = .ok (.iload 6, 2) := by decide +kernel
theorem dX1_filter_96 : decode cX1_filter 96 = .ok (.iaload, 1) := by decide +kernel
theorem dX1_filter_97 : decode cX1_filter 97 = .ok (.aload_n 0, 1) := by decide +kernel
theorem dX1_filter_98 : decode cX1_filter 98 = .ok (.getfield 19, 3) := by decide +kernel
theorem dX1_filter_101 : decode cX1_filter 101 = .ok (.iload 6, 2) := by decide +kernel
theorem dX1_filter_103 : decode cX1_filter 103 = .ok (.iaload, 1) := by decide +kernel
theorem dX1_filter_104 : decode cX1_filter 104 = .ok (.if_icmp .eq 6, 3) := by decide +kernel
theorem dX1_filter_107 : decode cX1_filter 107 = .ok (.iinc 5 1, 3) := by decide +kernel
theorem dX1_filter_110 : decode cX1_filter 110 = .ok (.iinc 6 1, 3) := by decide +kernel
theorem dX1_filter_113 : decode cX1_filter 113 = .ok (.goto (-31), 3) := by decide +kernel
theorem dX1_filter_116 : decode cX1_filter 116 = .ok (.iload 5, 2) := by decide +kernel
theorem dX1_filter_118 : decode cX1_filter 118 = .ok (.ireturn, 1) := by decide +kernel
theorem dX1_carryOut_0 : decode cX1_carryOut 0 = .ok (.iconst 0, 1) := by decide +kernel
theorem dX1_carryOut_1 : decode cX1_carryOut 1 = .ok (.istore 4, 2) := by decide +kernel
theorem dX1_carryOut_3 : decode cX1_carryOut 3 = .ok (.iload 4, 2) := by decide +kernel
theorem dX1_carryOut_5 : decode cX1_carryOut 5 = .ok (.sipush 256, 3) := by decide +kernel
theorem dX1_carryOut_8 : decode cX1_carryOut 8 = .ok (.if_icmp .ge 25, 3) := by decide +kernel
theorem dX1_carryOut_11 : decode cX1_carryOut 11 = .ok (.aload_n 0, 1) := by decide +kernel
theorem dX1_carryOut_12 : decode cX1_carryOut 12 = .ok (.getfield 16, 3) := by decide +kernel
theorem dX1_carryOut_15 : decode cX1_carryOut 15 = .ok (.iload 4, 2) := by decide +kernel
theorem dX1_carryOut_17 : decode cX1_carryOut 17 = .ok (.aload_n 0, 1) := by decide +kernel
theorem dX1_carryOut_18 : decode cX1_carryOut 18 = .ok (.iload_n 1, 1) := by decide +kernel
theorem dX1_carryOut_19 : decode cX1_carryOut 19 = .ok (.iload 4, 2) := by decide +kernel
theorem dX1_carryOut_21 : decode cX1_carryOut 21 = .ok (.iload_n 2, 1) := by decide +kernel
theorem dX1_carryOut_22 : decode cX1_carryOut 22 = .ok (.iload_n 3, 1) := by decide +kernel
theorem dX1_carryOut_23 : decode cX1_carryOut 23 = .ok (.invokevirtual 29, 3) := by decide +kernel
theorem dX1_carryOut_26 : decode cX1_carryOut 26 = .ok (.iastore, 1) := by decide +kernel
theorem dX1_carryOut_27 : decode cX1_carryOut 27 = .ok (.iinc 4 1, 3) := by decide +kernel
theorem dX1_carryOut_30 : decode cX1_carryOut 30 = .ok (.goto (-27), 3) := by decide +kernel
theorem dX1_carryOut_33 : decode cX1_carryOut 33 = .ok (.iconst 0, 1) := by decide +kernel
theorem dX1_carryOut_34 : decode cX1_carryOut 34 = .ok (.istore 4, 2) := by decide +kernel
theorem dX1_carryOut_36 : decode cX1_carryOut 36 = .ok (.iload 4, 2) := by decide +kernel
theorem dX1_carryOut_38 : decode cX1_carryOut 38 = .ok (.sipush 256, 3) := by decide +kernel
theorem dX1_carryOut_41 : decode cX1_carryOut 41 = .ok (.if_icmp .ge 23, 3) := by decide +kernel
theorem dX1_carryOut_44 : decode cX1_carryOut 44 = .ok (.aload_n 0, 1) := by decide +kernel
theorem dX1_carryOut_45 : decode cX1_carryOut 45 = .ok (.getfield 7, 3) := by decide +kernel
theorem dX1_carryOut_48 : decode cX1_carryOut 48 = .ok (.iload 4, 2) := by decide +kernel
theorem dX1_carryOut_50 : decode cX1_carryOut 50 = .ok (.aload_n 0, 1) := by decide +kernel
theorem dX1_carryOut_51 : decode cX1_carryOut 51 = .ok (.getfield 16, 3) := by decide +kernel
theorem dX1_carryOut_54 : decode cX1_carryOut 54 = .ok (.iload 4, 2) := by decide +kernel
theorem dX1_carryOut_56 : decode cX1_carryOut 56 = .ok (.iaload, 1) := by decide +kernel
theorem dX1_carryOut_57 : decode cX1_carryOut 57 = .ok (.iastore, 1) := by decide +kernel
theorem dX1_carryOut_58 : decode cX1_carryOut 58 = .ok (.iinc 4 1, 3) := by decide +kernel
theorem dX1_carryOut_61 : decode cX1_carryOut 61 = .ok (.goto (-25), 3) := by decide +kernel
theorem dX1_carryOut_64 : decode cX1_carryOut 64 = .ok (.return_, 1) := by decide +kernel
theorem dX1_look_0 : decode cX1_look 0 = .ok (.aload_n 0, 1) := by decide +kernel
theorem dX1_look_1 : decode cX1_look 1 = .ok (.getfield 7, 3) := by decide +kernel
theorem dX1_look_4 : decode cX1_look 4 = .ok (.iload_n 2, 1) := by decide +kernel
theorem dX1_look_5 : decode cX1_look 5 = .ok (.iaload, 1) := by decide +kernel
theorem dX1_look_6 : decode cX1_look 6 = .ok (.istore 5, 2) := by decide +kernel
theorem dX1_look_8 : decode cX1_look 8 = .ok (.aload_n 0, 1) := by decide +kernel
theorem dX1_look_9 : decode cX1_look 9 = .ok (.getfield 7, 3) := by decide +kernel
theorem dX1_look_12 : decode cX1_look 12 = .ok (.iload_n 2, 1) := by decide +kernel
theorem dX1_look_13 : decode cX1_look 13 = .ok (.iaload, 1) := by decide +kernel
theorem dX1_look_14 : decode cX1_look 14 = .ok (.istore 6, 2) := by decide +kernel
theorem dX1_look_16 : decode cX1_look 16 = .ok (.iconst 0, 1) := by decide +kernel
theorem dX1_look_17 : decode cX1_look 17 = .ok (.istore 7, 2) := by decide +kernel
theorem dX1_look_19 : decode cX1_look 19 = .ok (.iconst 0, 1) := by decide +kernel
theorem dX1_look_20 : decode cX1_look 20 = .ok (.istore 8, 2) := by decide +kernel
theorem dX1_look_22 : decode cX1_look 22 = .ok (.iload_n 2, 1) := by decide +kernel
theorem dX1_look_23 : decode cX1_look 23 = .ok (.bipush 16, 2) := by decide +kernel
theorem dX1_look_25 : decode cX1_look 25 = .ok (.idiv, 1) := by decide +kernel
theorem dX1_look_26 : decode cX1_look 26 = .ok (.iload 4, 2) := by decide +kernel
theorem dX1_look_28 : decode cX1_look 28 = .ok (.isub, 1) := by decide +kernel
theorem dX1_look_29 : decode cX1_look 29 = .ok (.istore 9, 2) := by decide +kernel
theorem dX1_look_31 : decode cX1_look 31 = .ok (.iload 9, 2) := by decide +kernel
theorem dX1_look_33 : decode cX1_look 33 = .ok (.iload_n 2, 1) := by decide +kernel
theorem dX1_look_34 : decode cX1_look 34 = .ok (.bipush 16, 2) := by decide +kernel
theorem dX1_look_36 : decode cX1_look 36 = .ok (.idiv, 1) := by decide +kernel
theorem dX1_look_37 : decode cX1_look 37 = .ok (.iload 4, 2) := by decide +kernel
theorem dX1_look_39 : decode cX1_look 39 = .ok (.iadd, 1) := by decide +kernel
theorem dX1_look_40 : decode cX1_look 40 = .ok (.if_icmp .gt 92, 3) := by decide +kernel
theorem dX1_look_43 : decode cX1_look 43 = .ok (.iload_n 2, 1) := by decide +kernel
theorem dX1_look_44 : decode cX1_look 44 = .ok (.bipush 16, 2) := by decide +kernel
theorem dX1_look_46 : decode cX1_look 46 = .ok (.irem, 1) := by decide +kernel
theorem dX1_look_47 : decode cX1_look 47 = .ok (.iload_n 3, 1) := by decide +kernel
theorem dX1_look_48 : decode cX1_look 48 = .ok (.isub, 1) := by decide +kernel
theorem dX1_look_49 : decode cX1_look 49 = .ok (.istore 10, 2) := by decide +kernel
theorem dX1_look_51 : decode cX1_look 51 = .ok (.iload 10, 2) := by decide +kernel
theorem dX1_look_53 : decode cX1_look 53 = .ok (.iload_n 2, 1) := by decide +kernel
theorem dX1_look_54 : decode cX1_look 54 = .ok (.bipush 16, 2) := by decide +kernel
theorem dX1_look_56 : decode cX1_look 56 = .ok (.irem, 1) := by decide +kernel
theorem dX1_look_57 : decode cX1_look 57 = .ok (.iload_n 3, 1) := by decide +kernel
theorem dX1_look_58 : decode cX1_look 58 = .ok (.iadd, 1) := by decide +kernel
theorem dX1_look_59 : decode cX1_look 59 = .ok (.if_icmp .gt 67, 3) := by decide +kernel
theorem dX1_look_62 : decode cX1_look 62 = .ok (.aload_n 0, 1) := by decide +kernel
theorem dX1_look_63 : decode cX1_look 63 = .ok (.iload 9, 2) := by decide +kernel
theorem dX1_look_65 : decode cX1_look 65 = .ok (.iload 10, 2) := by decide +kernel
theorem dX1_look_67 : decode cX1_look 67 = .ok (.invokevirtual 25, 3) := by decide +kernel
theorem dX1_look_70 : decode cX1_look 70 = .ok (.ifCond .eq 50, 3) := by decide +kernel
theorem dX1_look_73 : decode cX1_look 73 = .ok (.aload_n 0, 1) := by decide +kernel
theorem dX1_look_74 : decode cX1_look 74 = .ok (.getfield 7, 3) := by decide +kernel
theorem dX1_look_77 : decode cX1_look 77 = .ok (.iload 9, 2) := by decide +kernel
theorem dX1_look_79 : decode cX1_look 79 = .ok (.bipush 16, 2) := by decide +kernel
theorem dX1_look_81 : decode cX1_look 81 = .ok (.imul, 1) := by decide +kernel
theorem dX1_look_82 : decode cX1_look 82 = .ok (.iload 10, 2) := by decide +kernel
theorem dX1_look_84 : decode cX1_look 84 = .ok (.iadd, 1) := by decide +kernel
theorem dX1_look_85 : decode cX1_look 85 = .ok (.iaload, 1) := by decide +kernel
theorem dX1_look_86 : decode cX1_look 86 = .ok (.istore 11, 2) := by decide +kernel
theorem dX1_look_88 : decode cX1_look 88 = .ok (.iload 11, 2) := by decide +kernel
theorem dX1_look_90 : decode cX1_look 90 = .ok (.iload 5, 2) := by decide +kernel
theorem dX1_look_92 : decode cX1_look 92 = .ok (.if_icmp .le 7, 3) := by decide +kernel
theorem dX1_look_95 : decode cX1_look 95 = .ok (.iload 11, 2) := by decide +kernel
theorem dX1_look_97 : decode cX1_look 97 = .ok (.istore 5, 2) := by decide +kernel
theorem dX1_look_99 : decode cX1_look 99 = .ok (.iload 11, 2) := by decide +kernel
theorem dX1_look_101 : decode cX1_look 101 = .ok (.iload 6, 2) := by decide +kernel
theorem dX1_look_103 : decode cX1_look 103 = .ok (.if_icmp .ge 7, 3) := by decide +kernel
theorem dX1_look_106 : decode cX1_look 106 = .ok (.iload 11, 2) := by decide +kernel
theorem dX1_look_108 : decode cX1_look 108 = .ok (.istore 6, 2) := by decide +kernel
theorem dX1_look_110 : decode cX1_look 110 = .ok (.iload 7, 2) := by decide +kernel
theorem dX1_look_112 : decode cX1_look 112 = .ok (.iload 11, 2) := by decide +kernel
theorem dX1_look_114 : decode cX1_look 114 = .ok (.iadd, 1) := by decide +kernel
theorem dX1_look_115 : decode cX1_look 115 = .ok (.istore 7, 2) := by decide +kernel
theorem dX1_look_117 : decode cX1_look 117 = .ok (.iinc 8 1, 3) := by decide +kernel
theorem dX1_look_120 : decode cX1_look 120 = .ok (.iinc 10 1, 3) := by decide +kernel
theorem dX1_look_123 : decode cX1_look 123 = .ok (.goto (-72), 3) := by decide +kernel
theorem dX1_look_126 : decode cX1_look 126 = .ok (.iinc 9 1, 3) := by decide +kernel
theorem dX1_look_129 : decode cX1_look 129 = .ok (.goto (-98), 3) := by decide +kernel
theorem dX1_look_132 : decode cX1_look 132 = .ok (.iload_n 1, 1) := by decide +kernel
theorem dX1_look_133 : decode cX1_look 133 = .ok (.ifCond .ne 8, 3) := by decide +kernel
theorem dX1_look_136 : decode cX1_look 136 = .ok (.iload 5, 2) := by decide +kernel
theorem dX1_look_138 : decode cX1_look 138 = .ok (.goto 18, 3) := by decide +kernel
theorem dX1_look_141 : decode cX1_look 141 = .ok (.iload_n 1, 1) := by decide +kernel
theorem dX1_look_142 : decode cX1_look 142 = .ok (.iconst 1, 1) := by decide +kernel
theorem dX1_look_143 : decode cX1_look 143 = .ok (.if_icmp .ne 8, 3) := by decide +kernel
theorem dX1_look_146 : decode cX1_look 146 = .ok (.iload 6, 2) := by decide +kernel
theorem dX1_look_148 : decode cX1_look 148 = .ok (.goto 8, 3) := by decide +kernel
theorem dX1_look_151 : decode cX1_look 151 = .ok (.iload 7, 2) := by decide +kernel
theorem dX1_look_153 : decode cX1_look 153 = .ok (.iload 8, 2) := by decide +kernel
theorem dX1_look_155 : decode cX1_look 155 = .ok (.idiv, 1) := by decide +kernel
theorem dX1_look_156 : decode cX1_look 156 = .ok (.ireturn, 1) := by decide +kernel
theorem dX1_erode_0 : decode cX1_erode 0 = .ok (.aload_n 0, 1) := by decide +kernel
theorem dX1_erode_1 : decode cX1_erode 1 = .ok (.iconst 1, 1) := by decide +kernel
theorem dX1_erode_2 : decode cX1_erode 2 = .ok (.iconst (-1), 1) := by decide +kernel
theorem dX1_erode_3 : decode cX1_erode 3 = .ok (.iload_n 1, 1) := by decide +kernel
theorem dX1_erode_4 : decode cX1_erode 4 = .ok (.iload_n 2, 1) := by decide +kernel
theorem dX1_erode_5 : decode cX1_erode 5 = .ok (.invokevirtual 37, 3) := by decide +kernel
theorem dX1_erode_8 : decode cX1_erode 8 = .ok (.ireturn, 1) := by decide +kernel
end
section
set_option maxRecDepth 100000
theorem dX1_open_0 : decode cX1_open 0 = .ok (.aload_n 0, 1) := by decide +kernel
theorem dX1_open_1 : decode cX1_open 1 = .ok (.iconst 1, 1) := by decide +kernel
theorem dX1_open_2 : decode cX1_open 2 = .ok (.iconst 0, 1) := by decide +kernel
theorem dX1_open_3 : decode cX1_open 3 = .ok (.iload_n 1, 1) := by decide +kernel
theorem dX1_open_4 : decode cX1_open 4 = .ok (.iload_n 2, 1) := by decide +kernel
theorem dX1_open_5 : decode cX1_open 5 = .ok (.invokevirtual 37, 3) := by decide +kernel
theorem dX1_open_8 : decode cX1_open 8 = .ok (.ireturn, 1) := by decide +kernel
theorem dX1_close_0 : decode cX1_close 0 = .ok (.aload_n 0, 1) := by decide +kernel
theorem dX1_close_1 : decode cX1_close 1 = .ok (.iconst 0, 1) := by decide +kernel
theorem dX1_close_2 : decode cX1_close 2 = .ok (.iconst 1, 1) := by decide +kernel
theorem dX1_close_3 : decode cX1_close 3 = .ok (.iload_n 1, 1) := by decide +kernel
theorem dX1_close_4 : decode cX1_close 4 = .ok (.iload_n 2, 1) := by decide +kernel
theorem dX1_close_5 : decode cX1_close 5 = .ok (.invokevirtual 37, 3) := by decide +kernel
theorem dX1_close_8 : decode cX1_close 8 = .ok (.ireturn, 1) := by decide +kernel
theorem dX1_mean_0 : decode cX1_mean 0 = .ok (.aload_n 0, 1) := by decide +kernel
theorem dX1_mean_1 : decode cX1_mean 1 = .ok (.iconst 2, 1) := by decide +kernel
theorem dX1_mean_2 : decode cX1_mean 2 = .ok (.iconst (-1), 1) := by decide +kernel
theorem dX1_mean_3 : decode cX1_mean 3 = .ok (.iload_n 1, 1) := by decide +kernel
theorem dX1_mean_4 : decode cX1_mean 4 = .ok (.iload_n 2, 1) := by decide +kernel
theorem dX1_mean_5 : decode cX1_mean 5 = .ok (.invokevirtual 37, 3) := by decide +kernel
theorem dX1_mean_8 : decode cX1_mean 8 = .ok (.ireturn, 1) := by decide +kernel
theorem dX1_threshold_0 : decode cX1_threshold 0 = .ok (.iconst 0, 1) := by decide +kernel
theorem dX1_threshold_1 : decode cX1_threshold 1 = .ok (.istore_n 2, 1) := by decide +kernel
theorem dX1_threshold_2 : decode cX1_threshold 2 = .ok (.iconst 0, 1) := by decide +kernel
theorem dX1_threshold_3 : decode cX1_threshold 3 = .ok (.istore_n 3, 1) := by decide +kernel
theorem dX1_threshold_4 : decode cX1_threshold 4 = .ok (.iload_n 3, 1) := by decide +kernel
theorem dX1_threshold_5 : decode cX1_threshold 5 = .ok (.sipush 256, 3) := by decide +kernel
theorem dX1_threshold_8 : decode cX1_threshold 8 = .ok (.if_icmp .ge 47, 3) := by decide +kernel
theorem dX1_threshold_11 : decode cX1_threshold 11 = .ok (.aload_n 0, 1) := by decide +kernel
theorem dX1_threshold_12 : decode cX1_threshold 12 = .ok (.getfield 7, 3) := by decide +kernel
theorem dX1_threshold_15 : decode cX1_threshold 15 = .ok (.iload_n 3, 1) := by decide +kernel
theorem dX1_threshold_16 : decode cX1_threshold 16 = .ok (.aload_n 0, 1) := by decide +kernel
theorem dX1_threshold_17 : decode cX1_threshold 17 = .ok (.getfield 7, 3) := by decide +kernel
theorem dX1_threshold_20 : decode cX1_threshold 20 = .ok (.iload_n 3, 1) := by decide +kernel
theorem dX1_threshold_21 : decode cX1_threshold 21 = .ok (.iaload, 1) := by decide +kernel
theorem dX1_threshold_22 : decode cX1_threshold 22 = .ok (.iload_n 1, 1) := by decide +kernel
theorem dX1_threshold_23 : decode cX1_threshold 23 = .ok (.if_icmp .lt 9, 3) := by decide +kernel
theorem dX1_threshold_26 : decode cX1_threshold 26 = .ok (.sipush 255, 3) := by decide +kernel
theorem dX1_threshold_29 : decode cX1_threshold 29 = .ok (.goto 4, 3) := by decide +kernel
theorem dX1_threshold_32 : decode cX1_threshold 32 = .ok (.iconst 0, 1) := by decide +kernel
theorem dX1_threshold_33 : decode cX1_threshold 33 = .ok (.iastore, 1) := by decide +kernel
theorem dX1_threshold_34 : decode cX1_threshold 34 = .ok (.aload_n 0, 1) := by decide +kernel
theorem dX1_threshold_35 : decode cX1_threshold 35 = .ok (.getfield 7, 3) := by decide +kernel
theorem dX1_threshold_38 : decode cX1_threshold 38 = .ok (.iload_n 3, 1) := by decide +kernel
theorem dX1_threshold_39 : decode cX1_threshold 39 = .ok (.iaload, 1) := by decide +kernel
theorem dX1_threshold_40 : decode cX1_threshold 40 = .ok (.sipush 255, 3) := by decide +kernel
theorem dX1_threshold_43 : decode cX1_threshold 43 = .ok (.if_icmp .ne 6, 3) := by decide +kernel
theorem dX1_threshold_46 : decode cX1_threshold 46 = .ok (.iinc 2 1, 3) := by decide +kernel
theorem dX1_threshold_49 : decode cX1_threshold 49 = .ok (.iinc 3 1, 3) := by decide +kernel
theorem dX1_threshold_52 : decode cX1_threshold 52 = .ok (.goto (-48), 3) := by decide +kernel
theorem dX1_threshold_55 : decode cX1_threshold 55 = .ok (.iload_n 2, 1) := by decide +kernel
theorem dX1_threshold_56 : decode cX1_threshold 56 = .ok (.ireturn, 1) := by decide +kernel
theorem dX1_exchange_0 : decode cX1_exchange 0 = .ok (.iconst 0, 1) := by decide +kernel
theorem dX1_exchange_1 : decode cX1_exchange 1 = .ok (.istore_n 1, 1) := by decide +kernel
theorem dX1_exchange_2 : decode cX1_exchange 2 = .ok (.iload_n 1, 1) := by decide +kernel
theorem dX1_exchange_3 : decode cX1_exchange 3 = .ok (.sipush 256, 3) := by decide +kernel
theorem dX1_exchange_6 : decode cX1_exchange 6 = .ok (.if_icmp .ge 35, 3) := by decide +kernel
theorem dX1_exchange_9 : decode cX1_exchange 9 = .ok (.aload_n 0, 1) := by decide +kernel
theorem dX1_exchange_10 : decode cX1_exchange 10 = .ok (.getfield 7, 3) := by decide +kernel
theorem dX1_exchange_13 : decode cX1_exchange 13 = .ok (.iload_n 1, 1) := by decide +kernel
theorem dX1_exchange_14 : decode cX1_exchange 14 = .ok (.iaload, 1) := by decide +kernel
theorem dX1_exchange_15 : decode cX1_exchange 15 = .ok (.istore_n 2, 1) := by decide +kernel
theorem dX1_exchange_16 : decode cX1_exchange 16 = .ok (.aload_n 0, 1) := by decide +kernel
theorem dX1_exchange_17 : decode cX1_exchange 17 = .ok (.getfield 7, 3) := by decide +kernel
theorem dX1_exchange_20 : decode cX1_exchange 20 = .ok (.iload_n 1, 1) := by decide +kernel
theorem dX1_exchange_21 : decode cX1_exchange 21 = .ok (.aload_n 0, 1) := by decide +kernel
theorem dX1_exchange_22 : decode cX1_exchange 22 = .ok (.getfield 13, 3) := by decide +kernel
theorem dX1_exchange_25 : decode cX1_exchange 25 = .ok (.iload_n 1, 1) := by decide +kernel
theorem dX1_exchange_26 : decode cX1_exchange 26 = .ok (.iaload, 1) := by decide +kernel
theorem dX1_exchange_27 : decode cX1_exchange 27 = .ok (.iastore, 1) := by decide +kernel
theorem dX1_exchange_28 : decode cX1_exchange 28 = .ok (.aload_n 0, 1) := by decide +kernel
theorem dX1_exchange_29 : decode cX1_exchange 29 = .ok (.getfield 13, 3) := by decide +kernel
theorem dX1_exchange_32 : decode cX1_exchange 32 = .ok (.iload_n 1, 1) := by decide +kernel
theorem dX1_exchange_33 : decode cX1_exchange 33 = .ok (.iload_n 2, 1) := by decide +kernel
theorem dX1_exchange_34 : decode cX1_exchange 34 = .ok (.iastore, 1) := by decide +kernel
theorem dX1_exchange_35 : decode cX1_exchange 35 = .ok (.iinc 1 1, 3) := by decide +kernel
theorem dX1_exchange_38 : decode cX1_exchange 38 = .ok (.goto (-36), 3) := by decide +kernel
theorem dX1_exchange_41 : decode cX1_exchange 41 = .ok (.return_, 1) := by decide +kernel
theorem dX1_keep_0 : decode cX1_keep 0 = .ok (.iconst 0, 1) := by decide +kernel
theorem dX1_keep_1 : decode cX1_keep 1 = .ok (.istore_n 1, 1) := by decide +kernel
theorem dX1_keep_2 : decode cX1_keep 2 = .ok (.iload_n 1, 1) := by decide +kernel
theorem dX1_keep_3 : decode cX1_keep 3 = .ok (.sipush 256, 3) := by decide +kernel
theorem dX1_keep_6 : decode cX1_keep 6 = .ok (.if_icmp .ge 21, 3) := by decide +kernel
theorem dX1_keep_9 : decode cX1_keep 9 = .ok (.aload_n 0, 1) := by decide +kernel
theorem dX1_keep_10 : decode cX1_keep 10 = .ok (.getfield 13, 3) := by decide +kernel
theorem dX1_keep_13 : decode cX1_keep 13 = .ok (.iload_n 1, 1) := by decide +kernel
theorem dX1_keep_14 : decode cX1_keep 14 = .ok (.aload_n 0, 1) := by decide +kernel
theorem dX1_keep_15 : decode cX1_keep 15 = .ok (.getfield 7, 3) := by decide +kernel
theorem dX1_keep_18 : decode cX1_keep 18 = .ok (.iload_n 1, 1) := by decide +kernel
theorem dX1_keep_19 : decode cX1_keep 19 = .ok (.iaload, 1) := by decide +kernel
theorem dX1_keep_20 : decode cX1_keep 20 = .ok (.iastore, 1) := by decide +kernel
theorem dX1_keep_21 : decode cX1_keep 21 = .ok (.iinc 1 1, 3) := by decide +kernel
theorem dX1_keep_24 : decode cX1_keep 24 = .ok (.goto (-22), 3) := by decide +kernel
theorem dX1_keep_27 : decode cX1_keep 27 = .ok (.return_, 1) := by decide +kernel
theorem dX1_pixel_0 : decode cX1_pixel 0 = .ok (.aload_n 0, 1) := by decide +kernel
theorem dX1_pixel_1 : decode cX1_pixel 1 = .ok (.iload_n 1, 1) := by decide +kernel
theorem dX1_pixel_2 : decode cX1_pixel 2 = .ok (.iload_n 2, 1) := by decide +kernel
theorem dX1_pixel_3 : decode cX1_pixel 3 = .ok (.invokevirtual 25, 3) := by decide +kernel
theorem dX1_pixel_6 : decode cX1_pixel 6 = .ok (.ifCond .eq 17, 3) := by decide +kernel
theorem dX1_pixel_9 : decode cX1_pixel 9 = .ok (.aload_n 0, 1) := by decide +kernel
theorem dX1_pixel_10 : decode cX1_pixel 10 = .ok (.getfield 7, 3) := by decide +kernel
theorem dX1_pixel_13 : decode cX1_pixel 13 = .ok (.iload_n 1, 1) := by decide +kernel
theorem dX1_pixel_14 : decode cX1_pixel 14 = .ok (.bipush 16, 2) := by decide +kernel
theorem dX1_pixel_16 : decode cX1_pixel 16 = .ok (.imul, 1) := by decide +kernel
theorem dX1_pixel_17 : decode cX1_pixel 17 = .ok (.iload_n 2, 1) := by decide +kernel
theorem dX1_pixel_18 : decode cX1_pixel 18 = .ok (.iadd, 1) := by decide +kernel
theorem dX1_pixel_19 : decode cX1_pixel 19 = .ok (.iaload, 1) := by decide +kernel
theorem dX1_pixel_20 : decode cX1_pixel 20 = .ok (.goto 4, 3) := by decide +kernel
theorem dX1_pixel_23 : decode cX1_pixel 23 = .ok (.iconst (-1), 1) := by decide +kernel
theorem dX1_pixel_24 : decode cX1_pixel 24 = .ok (.ireturn, 1) := by decide +kernel
theorem dX1_sum_0 : decode cX1_sum 0 = .ok (.iconst 0, 1) := by decide +kernel
theorem dX1_sum_1 : decode cX1_sum 1 = .ok (.istore_n 1, 1) := by decide +kernel
theorem dX1_sum_2 : decode cX1_sum 2 = .ok (.iconst 0, 1) := by decide +kernel
theorem dX1_sum_3 : decode cX1_sum 3 = .ok (.istore_n 2, 1) := by decide +kernel
theorem dX1_sum_4 : decode cX1_sum 4 = .ok (.iload_n 2, 1) := by decide +kernel
theorem dX1_sum_5 : decode cX1_sum 5 = .ok (.sipush 256, 3) := by decide +kernel
theorem dX1_sum_8 : decode cX1_sum 8 = .ok (.if_icmp .ge 18, 3) := by decide +kernel
theorem dX1_sum_11 : decode cX1_sum 11 = .ok (.iload_n 1, 1) := by decide +kernel
theorem dX1_sum_12 : decode cX1_sum 12 = .ok (.aload_n 0, 1) := by decide +kernel
theorem dX1_sum_13 : decode cX1_sum 13 = .ok (.getfield 7, 3) := by decide +kernel
theorem dX1_sum_16 : decode cX1_sum 16 = .ok (.iload_n 2, 1) := by decide +kernel
theorem dX1_sum_17 : decode cX1_sum 17 = .ok (.iaload, 1) := by decide +kernel
theorem dX1_sum_18 : decode cX1_sum 18 = .ok (.iadd, 1) := by decide +kernel
theorem dX1_sum_19 : decode cX1_sum 19 = .ok (.istore_n 1, 1) := by decide +kernel
theorem dX1_sum_20 : decode cX1_sum 20 = .ok (.iinc 2 1, 3) := by decide +kernel
theorem dX1_sum_23 : decode cX1_sum 23 = .ok (.goto (-19), 3) := by decide +kernel
theorem dX1_sum_26 : decode cX1_sum 26 = .ok (.iload_n 1, 1) := by decide +kernel
theorem dX1_sum_27 : decode cX1_sum 27 = .ok (.ireturn, 1) := by decide +kernel
theorem dX1_equal_0 : decode cX1_equal 0 = .ok (.iconst 0, 1) := by decide +kernel
theorem dX1_equal_1 : decode cX1_equal 1 = .ok (.istore_n 1, 1) := by decide +kernel
theorem dX1_equal_2 : decode cX1_equal 2 = .ok (.iconst 0, 1) := by decide +kernel
theorem dX1_equal_3 : decode cX1_equal 3 = .ok (.istore_n 2, 1) := by decide +kernel
theorem dX1_equal_4 : decode cX1_equal 4 = .ok (.iload_n 2, 1) := by decide +kernel
theorem dX1_equal_5 : decode cX1_equal 5 = .ok (.sipush 256, 3) := by decide +kernel
theorem dX1_equal_8 : decode cX1_equal 8 = .ok (.if_icmp .ge 27, 3) := by decide +kernel
theorem dX1_equal_11 : decode cX1_equal 11 = .ok (.aload_n 0, 1) := by decide +kernel
theorem dX1_equal_12 : decode cX1_equal 12 = .ok (.getfield 7, 3) := by decide +kernel
theorem dX1_equal_15 : decode cX1_equal 15 = .ok (.iload_n 2, 1) := by decide +kernel
theorem dX1_equal_16 : decode cX1_equal 16 = .ok (.iaload, 1) := by decide +kernel
theorem dX1_equal_17 : decode cX1_equal 17 = .ok (.aload_n 0, 1) := by decide +kernel
theorem dX1_equal_18 : decode cX1_equal 18 = .ok (.getfield 13, 3) := by decide +kernel
theorem dX1_equal_21 : decode cX1_equal 21 = .ok (.iload_n 2, 1) := by decide +kernel
theorem dX1_equal_22 : decode cX1_equal 22 = .ok (.iaload, 1) := by decide +kernel
theorem dX1_equal_23 : decode cX1_equal 23 = .ok (.if_icmp .ne 6, 3) := by decide +kernel
theorem dX1_equal_26 : decode cX1_equal 26 = .ok (.iinc 1 1, 3) := by decide +kernel
theorem dX1_equal_29 : decode cX1_equal 29 = .ok (.iinc 2 1, 3) := by decide +kernel
theorem dX1_equal_32 : decode cX1_equal 32 = .ok (.goto (-28), 3) := by decide +kernel
theorem dX1_equal_35 : decode cX1_equal 35 = .ok (.iload_n 1, 1) := by decide +kernel
theorem dX1_equal_36 : decode cX1_equal 36 = .ok (.ireturn, 1) := by decide +kernel
theorem dX1_above_0 : decode cX1_above 0 = .ok (.iconst 0, 1) := by decide +kernel
theorem dX1_above_1 : decode cX1_above 1 = .ok (.istore_n 1, 1) := by decide +kernel
theorem dX1_above_2 : decode cX1_above 2 = .ok (.iconst 0, 1) := by decide +kernel
theorem dX1_above_3 : decode cX1_above 3 = .ok (.istore_n 2, 1) := by decide +kernel
theorem dX1_above_4 : decode cX1_above 4 = .ok (.iload_n 2, 1) := by decide +kernel
theorem dX1_above_5 : decode cX1_above 5 = .ok (.sipush 256, 3) := by decide +kernel
theorem dX1_above_8 : decode cX1_above 8 = .ok (.if_icmp .ge 27, 3) := by decide +kernel
theorem dX1_above_11 : decode cX1_above 11 = .ok (.aload_n 0, 1) := by decide +kernel
theorem dX1_above_12 : decode cX1_above 12 = .ok (.getfield 7, 3) := by decide +kernel
theorem dX1_above_15 : decode cX1_above 15 = .ok (.iload_n 2, 1) := by decide +kernel
theorem dX1_above_16 : decode cX1_above 16 = .ok (.iaload, 1) := by decide +kernel
theorem dX1_above_17 : decode cX1_above 17 = .ok (.aload_n 0, 1) := by decide +kernel
theorem dX1_above_18 : decode cX1_above 18 = .ok (.getfield 13, 3) := by decide +kernel
theorem dX1_above_21 : decode cX1_above 21 = .ok (.iload_n 2, 1) := by decide +kernel
theorem dX1_above_22 : decode cX1_above 22 = .ok (.iaload, 1) := by decide +kernel
theorem dX1_above_23 : decode cX1_above 23 = .ok (.if_icmp .le 6, 3) := by decide +kernel
theorem dX1_above_26 : decode cX1_above 26 = .ok (.iinc 1 1, 3) := by decide +kernel
theorem dX1_above_29 : decode cX1_above 29 = .ok (.iinc 2 1, 3) := by decide +kernel
theorem dX1_above_32 : decode cX1_above 32 = .ok (.goto (-28), 3) := by decide +kernel
theorem dX1_above_35 : decode cX1_above 35 = .ok (.iload_n 1, 1) := by decide +kernel
theorem dX1_above_36 : decode cX1_above 36 = .ok (.ireturn, 1) := by decide +kernel
theorem dX1_patches_0 : decode cX1_patches 0 = .ok (.iconst 0, 1) := by decide +kernel
theorem dX1_patches_1 : decode cX1_patches 1 = .ok (.istore_n 1, 1) := by decide +kernel
theorem dX1_patches_2 : decode cX1_patches 2 = .ok (.iload_n 1, 1) := by decide +kernel
theorem dX1_patches_3 : decode cX1_patches 3 = .ok (.sipush 256, 3) := by decide +kernel
theorem dX1_patches_6 : decode cX1_patches 6 = .ok (.if_icmp .ge 29, 3) := by decide +kernel
theorem dX1_patches_9 : decode cX1_patches 9 = .ok (.aload_n 0, 1) := by decide +kernel
theorem dX1_patches_10 : decode cX1_patches 10 = .ok (.getfield 22, 3) := by decide +kernel
theorem dX1_patches_13 : decode cX1_patches 13 = .ok (.iload_n 1, 1) := by decide +kernel
theorem dX1_patches_14 : decode cX1_patches 14 = .ok (.aload_n 0, 1) := by decide +kernel
theorem dX1_patches_15 : decode cX1_patches 15 = .ok (.getfield 7, 3) := by decide +kernel
theorem dX1_patches_18 : decode cX1_patches 18 = .ok (.iload_n 1, 1) := by decide +kernel
theorem dX1_patches_19 : decode cX1_patches 19 = .ok (.iaload, 1) := by decide +kernel
theorem dX1_patches_20 : decode cX1_patches 20 = .ok (.ifCond .le 7, 3) := by decide +kernel
theorem dX1_patches_23 : decode cX1_patches 23 = .ok (.iload_n 1, 1) := by decide +kernel
theorem dX1_patches_24 : decode cX1_patches 24 = .ok (.goto 4, 3) := by decide +kernel
theorem dX1_patches_27 : decode cX1_patches 27 = .ok (.iconst (-1), 1) := by decide +kernel
theorem dX1_patches_28 : decode cX1_patches 28 = .ok (.iastore, 1) := by decide +kernel
theorem dX1_patches_29 : decode cX1_patches 29 = .ok (.iinc 1 1, 3) := by decide +kernel
theorem dX1_patches_32 : decode cX1_patches 32 = .ok (.goto (-30), 3) := by decide +kernel
theorem dX1_patches_35 : decode cX1_patches 35 = .ok (.iconst 1, 1) := by decide +kernel
theorem dX1_patches_36 : decode cX1_patches 36 = .ok (.istore_n 1, 1) := by decide +kernel
theorem dX1_patches_37 : decode cX1_patches 37 = .ok (.iload_n 1, 1) := by decide +kernel
theorem dX1_patches_38 : decode cX1_patches 38 = .ok (.ifCond .eq 42, 3) := by decide +kernel
theorem dX1_patches_41 : decode cX1_patches 41 = .ok (.iconst 0, 1) := by decide +kernel
theorem dX1_patches_42 : decode cX1_patches 42 = .ok (.istore_n 1, 1) := by decide +kernel
theorem dX1_patches_43 : decode cX1_patches 43 = .ok (.iconst 0, 1) := by decide +kernel
theorem dX1_patches_44 : decode cX1_patches 44 = .ok (.istore_n 2, 1) := by decide +kernel
theorem dX1_patches_45 : decode cX1_patches 45 = .ok (.iload_n 2, 1) := by decide +kernel
theorem dX1_patches_46 : decode cX1_patches 46 = .ok (.sipush 256, 3) := by decide +kernel
theorem dX1_patches_49 : decode cX1_patches 49 = .ok (.if_icmp .ge 28, 3) := by decide +kernel
theorem dX1_patches_52 : decode cX1_patches 52 = .ok (.aload_n 0, 1) := by decide +kernel
theorem dX1_patches_53 : decode cX1_patches 53 = .ok (.getfield 22, 3) := by decide +kernel
theorem dX1_patches_56 : decode cX1_patches 56 = .ok (.iload_n 2, 1) := by decide +kernel
theorem dX1_patches_57 : decode cX1_patches 57 = .ok (.iaload, 1) := by decide +kernel
theorem dX1_patches_58 : decode cX1_patches 58 = .ok (.ifCond .lt 13, 3) := by decide +kernel
theorem dX1_patches_61 : decode cX1_patches 61 = .ok (.aload_n 0, 1) := by decide +kernel
theorem dX1_patches_62 : decode cX1_patches 62 = .ok (.iload_n 2, 1) := by decide +kernel
theorem dX1_patches_63 : decode cX1_patches 63 = .ok (.invokevirtual 43, 3) := by decide +kernel
theorem dX1_patches_66 : decode cX1_patches 66 = .ok (.ifCond .eq 5, 3) := by decide +kernel
theorem dX1_patches_69 : decode cX1_patches 69 = .ok (.iconst 1, 1) := by decide +kernel
theorem dX1_patches_70 : decode cX1_patches 70 = .ok (.istore_n 1, 1) := by decide +kernel
theorem dX1_patches_71 : decode cX1_patches 71 = .ok (.iinc 2 1, 3) := by decide +kernel
theorem dX1_patches_74 : decode cX1_patches 74 = .ok (.goto (-29), 3) := by decide +kernel
theorem dX1_patches_77 : decode cX1_patches 77 = .ok (.goto (-40), 3) := by decide +kernel
theorem dX1_patches_80 : decode cX1_patches 80 = .ok (.iconst 0, 1) := by decide +kernel
theorem dX1_patches_81 : decode cX1_patches 81 = .ok (.istore_n 2, 1) := by decide +kernel
theorem dX1_patches_82 : decode cX1_patches 82 = .ok (.iconst 0, 1) := by decide +kernel
theorem dX1_patches_83 : decode cX1_patches 83 = .ok (.istore_n 3, 1) := by decide +kernel
theorem dX1_patches_84 : decode cX1_patches 84 = .ok (.iload_n 3, 1) := by decide +kernel
theorem dX1_patches_85 : decode cX1_patches 85 = .ok (.sipush 256, 3) := by decide +kernel
theorem dX1_patches_88 : decode cX1_patches 88 = .ok (.if_icmp .ge 22, 3) := by decide +kernel
theorem dX1_patches_91 : decode cX1_patches 91 = .ok (.aload_n 0, 1) := by decide +kernel
theorem dX1_patches_92 : decode cX1_patches 92 = .ok (.getfield 22, 3) := by decide +kernel
theorem dX1_patches_95 : decode cX1_patches 95 = .ok (.iload_n 3, 1) := by decide +kernel
theorem dX1_patches_96 : decode cX1_patches 96 = .ok (.iaload, 1) := by decide +kernel
theorem dX1_patches_97 : decode cX1_patches 97 = .ok (.iload_n 3, 1) := by decide +kernel
theorem dX1_patches_98 : decode cX1_patches 98 = .ok (.if_icmp .ne 6, 3) := by decide +kernel
theorem dX1_patches_101 : decode cX1_patches 101 = .ok (.iinc 2 1, 3) := by decide +kernel
theorem dX1_patches_104 : decode cX1_patches 104 = .ok (.iinc 3 1, 3) := by decide +kernel
theorem dX1_patches_107 : decode cX1_patches 107 = .ok (.goto (-23), 3) := by decide +kernel
theorem dX1_patches_110 : decode cX1_patches 110 = .ok (.iload_n 2, 1) := by decide +kernel
theorem dX1_patches_111 : decode cX1_patches 111 = .ok (.ireturn, 1) := by decide +kernel
theorem dX1_spread_0 : decode cX1_spread 0 = .ok (.iload_n 1, 1) := by decide +kernel
theorem dX1_spread_1 : decode cX1_spread 1 = .ok (.bipush 16, 2) := by decide +kernel
theorem dX1_spread_3 : decode cX1_spread 3 = .ok (.irem, 1) := by decide +kernel
theorem dX1_spread_4 : decode cX1_spread 4 = .ok (.ifCond .le 18, 3) := by decide +kernel
theorem dX1_spread_7 : decode cX1_spread 7 = .ok (.aload_n 0, 1) := by decide +kernel
theorem dX1_spread_8 : decode cX1_spread 8 = .ok (.iload_n 1, 1) := by decide +kernel
theorem dX1_spread_9 : decode cX1_spread 9 = .ok (.iload_n 1, 1) := by decide +kernel
theorem dX1_spread_10 : decode cX1_spread 10 = .ok (.iconst 1, 1) := by decide +kernel
theorem dX1_spread_11 : decode cX1_spread 11 = .ok (.isub, 1) := by decide +kernel
theorem dX1_spread_12 : decode cX1_spread 12 = .ok (.invokevirtual 40, 3) := by decide +kernel
theorem dX1_spread_15 : decode cX1_spread 15 = .ok (.ifCond .eq 7, 3) := by decide +kernel
theorem dX1_spread_18 : decode cX1_spread 18 = .ok (.iconst 1, 1) := by decide +kernel
theorem dX1_spread_19 : decode cX1_spread 19 = .ok (.goto 4, 3) := by decide +kernel
theorem dX1_spread_22 : decode cX1_spread 22 = .ok (.iconst 0, 1) := by decide +kernel
theorem dX1_spread_23 : decode cX1_spread 23 = .ok (.istore_n 2, 1) := by decide +kernel
theorem dX1_spread_24 : decode cX1_spread 24 = .ok (.iload_n 1, 1) := by decide +kernel
theorem dX1_spread_25 : decode cX1_spread 25 = .ok (.bipush 16, 2) := by decide +kernel
theorem dX1_spread_27 : decode cX1_spread 27 = .ok (.irem, 1) := by decide +kernel
theorem dX1_spread_28 : decode cX1_spread 28 = .ok (.bipush 15, 2) := by decide +kernel
theorem dX1_spread_30 : decode cX1_spread 30 = .ok (.if_icmp .ge 14, 3) := by decide +kernel
theorem dX1_spread_33 : decode cX1_spread 33 = .ok (.aload_n 0, 1) := by decide +kernel
theorem dX1_spread_34 : decode cX1_spread 34 = .ok (.iload_n 1, 1) := by decide +kernel
theorem dX1_spread_35 : decode cX1_spread 35 = .ok (.iload_n 1, 1) := by decide +kernel
theorem dX1_spread_36 : decode cX1_spread 36 = .ok (.iconst 1, 1) := by decide +kernel
theorem dX1_spread_37 : decode cX1_spread 37 = .ok (.iadd, 1) := by decide +kernel
theorem dX1_spread_38 : decode cX1_spread 38 = .ok (.invokevirtual 40, 3) := by decide +kernel
theorem dX1_spread_41 : decode cX1_spread 41 = .ok (.ifCond .ne 7, 3) := by decide +kernel
theorem dX1_spread_44 : decode cX1_spread 44 = .ok (.iload_n 2, 1) := by decide +kernel
theorem dX1_spread_45 : decode cX1_spread 45 = .ok (.ifCond .eq 7, 3) := by decide +kernel
theorem dX1_spread_48 : decode cX1_spread 48 = .ok (.iconst 1, 1) := by decide +kernel
theorem dX1_spread_49 : decode cX1_spread 49 = .ok (.goto 4, 3) := by decide +kernel
theorem dX1_spread_52 : decode cX1_spread 52 = .ok (.iconst 0, 1) := by decide +kernel
theorem dX1_spread_53 : decode cX1_spread 53 = .ok (.istore_n 2, 1) := by decide +kernel
theorem dX1_spread_54 : decode cX1_spread 54 = .ok (.iload_n 1, 1) := by decide +kernel
theorem dX1_spread_55 : decode cX1_spread 55 = .ok (.bipush 16, 2) := by decide +kernel
theorem dX1_spread_57 : decode cX1_spread 57 = .ok (.idiv, 1) := by decide +kernel
theorem dX1_spread_58 : decode cX1_spread 58 = .ok (.ifCond .le 15, 3) := by decide +kernel
theorem dX1_spread_61 : decode cX1_spread 61 = .ok (.aload_n 0, 1) := by decide +kernel
theorem dX1_spread_62 : decode cX1_spread 62 = .ok (.iload_n 1, 1) := by decide +kernel
theorem dX1_spread_63 : decode cX1_spread 63 = .ok (.iload_n 1, 1) := by decide +kernel
theorem dX1_spread_64 : decode cX1_spread 64 = .ok (.bipush 16, 2) := by decide +kernel
theorem dX1_spread_66 : decode cX1_spread 66 = .ok (.isub, 1) := by decide +kernel
theorem dX1_spread_67 : decode cX1_spread 67 = .ok (.invokevirtual 40, 3) := by decide +kernel
theorem dX1_spread_70 : decode cX1_spread 70 = .ok (.ifCond .ne 7, 3) := by decide +kernel
theorem dX1_spread_73 : decode cX1_spread 73 = .ok (.iload_n 2, 1) := by decide +kernel
theorem dX1_spread_74 : decode cX1_spread 74 = .ok (.ifCond .eq 7, 3) := by decide +kernel
theorem dX1_spread_77 : decode cX1_spread 77 = .ok (.iconst 1, 1) := by decide +kernel
theorem dX1_spread_78 : decode cX1_spread 78 = .ok (.goto 4, 3) := by decide +kernel
theorem dX1_spread_81 : decode cX1_spread 81 = .ok (.iconst 0, 1) := by decide +kernel
theorem dX1_spread_82 : decode cX1_spread 82 = .ok (.istore_n 2, 1) := by decide +kernel
theorem dX1_spread_83 : decode cX1_spread 83 = .ok (.iload_n 1, 1) := by decide +kernel
theorem dX1_spread_84 : decode cX1_spread 84 = .ok (.bipush 16, 2) := by decide +kernel
theorem dX1_spread_86 : decode cX1_spread 86 = .ok (.idiv, 1) := by decide +kernel
theorem dX1_spread_87 : decode cX1_spread 87 = .ok (.bipush 15, 2) := by decide +kernel
theorem dX1_spread_89 : decode cX1_spread 89 = .ok (.if_icmp .ge 15, 3) := by decide +kernel
theorem dX1_spread_92 : decode cX1_spread 92 = .ok (.aload_n 0, 1) := by decide +kernel
theorem dX1_spread_93 : decode cX1_spread 93 = .ok (.iload_n 1, 1) := by decide +kernel
theorem dX1_spread_94 : decode cX1_spread 94 = .ok (.iload_n 1, 1) := by decide +kernel
theorem dX1_spread_95 : decode cX1_spread 95 = .ok (.bipush 16, 2) := by decide +kernel
theorem dX1_spread_97 : decode cX1_spread 97 = .ok (.iadd, 1) := by decide +kernel
theorem dX1_spread_98 : decode cX1_spread 98 = .ok (.invokevirtual 40, 3) := by decide +kernel
theorem dX1_spread_101 : decode cX1_spread 101 = .ok (.ifCond .ne 7, 3) := by decide +kernel
theorem dX1_spread_104 : decode cX1_spread 104 = .ok (.iload_n 2, 1) := by decide +kernel
theorem dX1_spread_105 : decode cX1_spread 105 = .ok (.ifCond .eq 7, 3) := by decide +kernel
theorem dX1_spread_108 : decode cX1_spread 108 = .ok (.iconst 1, 1) := by decide +kernel
theorem dX1_spread_109 : decode cX1_spread 109 = .ok (.goto 4, 3) := by decide +kernel
theorem dX1_spread_112 : decode cX1_spread 112 = .ok (.iconst 0, 1) := by decide +kernel
theorem dX1_spread_113 : decode cX1_spread 113 = .ok (.ireturn, 1) := by decide +kernel
end
section
set_option maxRecDepth 100000
theorem dX1_take_0 : decode cX1_take 0 = .ok (.aload_n 0, 1) := by decide +kernel
theorem dX1_take_1 : decode cX1_take 1 = .ok (.getfield 22, 3) := by decide +kernel
theorem dX1_take_4 : decode cX1_take 4 = .ok (.iload_n 2, 1) := by decide +kernel
theorem dX1_take_5 : decode cX1_take 5 = .ok (.iaload, 1) := by decide +kernel
theorem dX1_take_6 : decode cX1_take 6 = .ok (.ifCond .lt 18, 3) := by decide +kernel
theorem dX1_take_9 : decode cX1_take 9 = .ok (.aload_n 0, 1) := by decide +kernel
theorem dX1_take_10 : decode cX1_take 10 = .ok (.getfield 22, 3) := by decide +kernel
theorem dX1_take_13 : decode cX1_take 13 = .ok (.iload_n 2, 1) := by decide +kernel
theorem dX1_take_14 : decode cX1_take 14 = .ok (.iaload, 1) := by decide +kernel
theorem dX1_take_15 : decode cX1_take 15 = .ok (.aload_n 0, 1) := by decide +kernel
theorem dX1_take_16 : decode cX1_take 16 = .ok (.getfield 22, 3) := by decide +kernel
theorem dX1_take_19 : decode cX1_take 19 = .ok (.iload_n 1, 1) := by decide +kernel
theorem dX1_take_20 : decode cX1_take 20 = .ok (.iaload, 1) := by decide +kernel
theorem dX1_take_21 : decode cX1_take 21 = .ok (.if_icmp .lt 5, 3) := by decide +kernel
theorem dX1_take_24 : decode cX1_take 24 = .ok (.iconst 0, 1) := by decide +kernel
theorem dX1_take_25 : decode cX1_take 25 = .ok (.ireturn, 1) := by decide +kernel
theorem dX1_take_26 : decode cX1_take 26 = .ok (.aload_n 0, 1) := by decide +kernel
theorem dX1_take_27 : decode cX1_take 27 = .ok (.getfield 22, 3) := by decide +kernel
theorem dX1_take_30 : decode cX1_take 30 = .ok (.iload_n 1, 1) := by decide +kernel
theorem dX1_take_31 : decode cX1_take 31 = .ok (.aload_n 0, 1) := by decide +kernel
theorem dX1_take_32 : decode cX1_take 32 = .ok (.getfield 22, 3) := by decide +kernel
theorem dX1_take_35 : decode cX1_take 35 = .ok (.iload_n 2, 1) := by decide +kernel
theorem dX1_take_36 : decode cX1_take 36 = .ok (.iaload, 1) := by decide +kernel
theorem dX1_take_37 : decode cX1_take 37 = .ok (.iastore, 1) := by decide +kernel
theorem dX1_take_38 : decode cX1_take 38 = .ok (.iconst 1, 1) := by decide +kernel
theorem dX1_take_39 : decode cX1_take 39 = .ok (.ireturn, 1) := by decide +kernel
end
section
set_option maxRecDepth 100000
/-! the law's own entry -/
abbrev cL_law : ByteArray := code
theorem dL_law_0 : decode cL_law 0 = .ok (.new 7, 3) := by decide +kernel
theorem dL_law_3 : decode cL_law 3 = .ok (.dup, 1) := by decide +kernel
theorem dL_law_4 : decode cL_law 4 = .ok (.invokespecial 9, 3) := by decide +kernel
theorem dL_law_7 : decode cL_law 7 = .ok (.astore_n 1, 1) := by decide +kernel
theorem dL_law_8 : decode cL_law 8 = .ok (.new 10, 3) := by decide +kernel
theorem dL_law_11 : decode cL_law 11 = .ok (.dup, 1) := by decide +kernel
theorem dL_law_12 : decode cL_law 12 = .ok (.invokespecial 12, 3) := by decide +kernel
theorem dL_law_15 : decode cL_law 15 = .ok (.astore_n 2, 1) := by decide +kernel
theorem dL_law_16 : decode cL_law 16 = .ok (.iconst 0, 1) := by decide +kernel
theorem dL_law_17 : decode cL_law 17 = .ok (.istore_n 3, 1) := by decide +kernel
theorem dL_law_18 : decode cL_law 18 = .ok (.iload_n 3, 1) := by decide +kernel
theorem dL_law_19 : decode cL_law 19 = .ok (.aload_n 0, 1) := by decide +kernel
theorem dL_law_20 : decode cL_law 20 = .ok (.arraylength, 1) := by decide +kernel
theorem dL_law_21 : decode cL_law 21 = .ok (.iconst 4, 1) := by decide +kernel
theorem dL_law_22 : decode cL_law 22 = .ok (.isub, 1) := by decide +kernel
theorem dL_law_23 : decode cL_law 23 = .ok (.if_icmp .gt 460, 3) := by decide +kernel
theorem dL_law_26 : decode cL_law 26 = .ok (.aload_n 0, 1) := by decide +kernel
theorem dL_law_27 : decode cL_law 27 = .ok (.iload_n 3, 1) := by decide +kernel
theorem dL_law_28 : decode cL_law 28 = .ok (.iaload, 1) := by decide +kernel
theorem dL_law_29 : decode cL_law 29 = .ok (.bipush 15, 2) := by decide +kernel
theorem dL_law_31 : decode cL_law 31 = .ok (.iand, 1) := by decide +kernel
theorem dL_law_32 : decode cL_law 32 = .ok (.tableswitch 445 0 14 #[76, 119, 150, 183, 216, 249, 282, 315, 338, 349, 360, 393, 406, 419, 432], 76) := by decide +kernel
theorem dL_law_108 : decode cL_law 108 = .ok (.aload_n 1, 1) := by decide +kernel
theorem dL_law_109 : decode cL_law 109 = .ok (.aload_n 0, 1) := by decide +kernel
theorem dL_law_110 : decode cL_law 110 = .ok (.iload_n 3, 1) := by decide +kernel
theorem dL_law_111 : decode cL_law 111 = .ok (.iconst 1, 1) := by decide +kernel
theorem dL_law_112 : decode cL_law 112 = .ok (.iadd, 1) := by decide +kernel
theorem dL_law_113 : decode cL_law 113 = .ok (.iaload, 1) := by decide +kernel
theorem dL_law_114 : decode cL_law 114 = .ok (.aload_n 0, 1) := by decide +kernel
theorem dL_law_115 : decode cL_law 115 = .ok (.iload_n 3, 1) := by decide +kernel
theorem dL_law_116 : decode cL_law 116 = .ok (.iconst 2, 1) := by decide +kernel
theorem dL_law_117 : decode cL_law 117 = .ok (.iadd, 1) := by decide +kernel
theorem dL_law_118 : decode cL_law 118 = .ok (.iaload, 1) := by decide +kernel
theorem dL_law_119 : decode cL_law 119 = .ok (.aload_n 0, 1) := by decide +kernel
theorem dL_law_120 : decode cL_law 120 = .ok (.iload_n 3, 1) := by decide +kernel
theorem dL_law_121 : decode cL_law 121 = .ok (.iconst 3, 1) := by decide +kernel
theorem dL_law_122 : decode cL_law 122 = .ok (.iadd, 1) := by decide +kernel
theorem dL_law_123 : decode cL_law 123 = .ok (.iaload, 1) := by decide +kernel
theorem dL_law_124 : decode cL_law 124 = .ok (.invokevirtual 13, 3) := by decide +kernel
theorem dL_law_127 : decode cL_law 127 = .ok (.aload_n 2, 1) := by decide +kernel
theorem dL_law_128 : decode cL_law 128 = .ok (.aload_n 0, 1) := by decide +kernel
theorem dL_law_129 : decode cL_law 129 = .ok (.iload_n 3, 1) := by decide +kernel
theorem dL_law_130 : decode cL_law 130 = .ok (.iconst 1, 1) := by decide +kernel
theorem dL_law_131 : decode cL_law 131 = .ok (.iadd, 1) := by decide +kernel
theorem dL_law_132 : decode cL_law 132 = .ok (.iaload, 1) := by decide +kernel
theorem dL_law_133 : decode cL_law 133 = .ok (.aload_n 0, 1) := by decide +kernel
theorem dL_law_134 : decode cL_law 134 = .ok (.iload_n 3, 1) := by decide +kernel
theorem dL_law_135 : decode cL_law 135 = .ok (.iconst 2, 1) := by decide +kernel
theorem dL_law_136 : decode cL_law 136 = .ok (.iadd, 1) := by decide +kernel
theorem dL_law_137 : decode cL_law 137 = .ok (.iaload, 1) := by decide +kernel
theorem dL_law_138 : decode cL_law 138 = .ok (.aload_n 0, 1) := by decide +kernel
theorem dL_law_139 : decode cL_law 139 = .ok (.iload_n 3, 1) := by decide +kernel
theorem dL_law_140 : decode cL_law 140 = .ok (.iconst 3, 1) := by decide +kernel
theorem dL_law_141 : decode cL_law 141 = .ok (.iadd, 1) := by decide +kernel
theorem dL_law_142 : decode cL_law 142 = .ok (.iaload, 1) := by decide +kernel
theorem dL_law_143 : decode cL_law 143 = .ok (.invokevirtual 17, 3) := by decide +kernel
theorem dL_law_146 : decode cL_law 146 = .ok (.if_icmp .eq 331, 3) := by decide +kernel
theorem dL_law_149 : decode cL_law 149 = .ok (.iconst 0, 1) := by decide +kernel
theorem dL_law_150 : decode cL_law 150 = .ok (.ireturn, 1) := by decide +kernel
theorem dL_law_151 : decode cL_law 151 = .ok (.aload_n 1, 1) := by decide +kernel
theorem dL_law_152 : decode cL_law 152 = .ok (.aload_n 0, 1) := by decide +kernel
theorem dL_law_153 : decode cL_law 153 = .ok (.iload_n 3, 1) := by decide +kernel
theorem dL_law_154 : decode cL_law 154 = .ok (.iconst 1, 1) := by decide +kernel
theorem dL_law_155 : decode cL_law 155 = .ok (.iadd, 1) := by decide +kernel
theorem dL_law_156 : decode cL_law 156 = .ok (.iaload, 1) := by decide +kernel
theorem dL_law_157 : decode cL_law 157 = .ok (.aload_n 0, 1) := by decide +kernel
theorem dL_law_158 : decode cL_law 158 = .ok (.iload_n 3, 1) := by decide +kernel
theorem dL_law_159 : decode cL_law 159 = .ok (.iconst 2, 1) := by decide +kernel
theorem dL_law_160 : decode cL_law 160 = .ok (.iadd, 1) := by decide +kernel
theorem dL_law_161 : decode cL_law 161 = .ok (.iaload, 1) := by decide +kernel
theorem dL_law_162 : decode cL_law 162 = .ok (.invokevirtual 18, 3) := by decide +kernel
theorem dL_law_165 : decode cL_law 165 = .ok (.aload_n 2, 1) := by decide +kernel
theorem dL_law_166 : decode cL_law 166 = .ok (.aload_n 0, 1) := by decide +kernel
theorem dL_law_167 : decode cL_law 167 = .ok (.iload_n 3, 1) := by decide +kernel
theorem dL_law_168 : decode cL_law 168 = .ok (.iconst 1, 1) := by decide +kernel
theorem dL_law_169 : decode cL_law 169 = .ok (.iadd, 1) := by decide +kernel
theorem dL_law_170 : decode cL_law 170 = .ok (.iaload, 1) := by decide +kernel
theorem dL_law_171 : decode cL_law 171 = .ok (.aload_n 0, 1) := by decide +kernel
theorem dL_law_172 : decode cL_law 172 = .ok (.iload_n 3, 1) := by decide +kernel
theorem dL_law_173 : decode cL_law 173 = .ok (.iconst 2, 1) := by decide +kernel
end
section
set_option maxRecDepth 100000
theorem dL_law_174 : decode cL_law 174 = .ok (.iadd, 1) := by decide +kernel
theorem dL_law_175 : decode cL_law 175 = .ok (.iaload, 1) := by decide +kernel
theorem dL_law_176 : decode cL_law 176 = .ok (.invokevirtual 22, 3) := by decide +kernel
theorem dL_law_179 : decode cL_law 179 = .ok (.goto 298, 3) := by decide +kernel
theorem dL_law_182 : decode cL_law 182 = .ok (.aload_n 1, 1) := by decide +kernel
theorem dL_law_183 : decode cL_law 183 = .ok (.aload_n 0, 1) := by decide +kernel
theorem dL_law_184 : decode cL_law 184 = .ok (.iload_n 3, 1) := by decide +kernel
theorem dL_law_185 : decode cL_law 185 = .ok (.iconst 1, 1) := by decide +kernel
theorem dL_law_186 : decode cL_law 186 = .ok (.iadd, 1) := by decide +kernel
theorem dL_law_187 : decode cL_law 187 = .ok (.iaload, 1) := by decide +kernel
theorem dL_law_188 : decode cL_law 188 = .ok (.aload_n 0, 1) := by decide +kernel
theorem dL_law_189 : decode cL_law 189 = .ok (.iload_n 3, 1) := by decide +kernel
theorem dL_law_190 : decode cL_law 190 = .ok (.iconst 2, 1) := by decide +kernel
theorem dL_law_191 : decode cL_law 191 = .ok (.iadd, 1) := by decide +kernel
theorem dL_law_192 : decode cL_law 192 = .ok (.iaload, 1) := by decide +kernel
theorem dL_law_193 : decode cL_law 193 = .ok (.invokevirtual 23, 3) := by decide +kernel
theorem dL_law_196 : decode cL_law 196 = .ok (.aload_n 2, 1) := by decide +kernel
theorem dL_law_197 : decode cL_law 197 = .ok (.aload_n 0, 1) := by decide +kernel
theorem dL_law_198 : decode cL_law 198 = .ok (.iload_n 3, 1) := by decide +kernel
theorem dL_law_199 : decode cL_law 199 = .ok (.iconst 1, 1) := by decide +kernel
theorem dL_law_200 : decode cL_law 200 = .ok (.iadd, 1) := by decide +kernel
theorem dL_law_201 : decode cL_law 201 = .ok (.iaload, 1) := by decide +kernel
theorem dL_law_202 : decode cL_law 202 = .ok (.aload_n 0, 1) := by decide +kernel
theorem dL_law_203 : decode cL_law 203 = .ok (.iload_n 3, 1) := by decide +kernel
theorem dL_law_204 : decode cL_law 204 = .ok (.iconst 2, 1) := by decide +kernel
theorem dL_law_205 : decode cL_law 205 = .ok (.iadd, 1) := by decide +kernel
theorem dL_law_206 : decode cL_law 206 = .ok (.iaload, 1) := by decide +kernel
theorem dL_law_207 : decode cL_law 207 = .ok (.invokevirtual 27, 3) := by decide +kernel
theorem dL_law_210 : decode cL_law 210 = .ok (.if_icmp .eq 267, 3) := by decide +kernel
theorem dL_law_213 : decode cL_law 213 = .ok (.iconst 0, 1) := by decide +kernel
theorem dL_law_214 : decode cL_law 214 = .ok (.ireturn, 1) := by decide +kernel
theorem dL_law_215 : decode cL_law 215 = .ok (.aload_n 1, 1) := by decide +kernel
theorem dL_law_216 : decode cL_law 216 = .ok (.aload_n 0, 1) := by decide +kernel
theorem dL_law_217 : decode cL_law 217 = .ok (.iload_n 3, 1) := by decide +kernel
theorem dL_law_218 : decode cL_law 218 = .ok (.iconst 1, 1) := by decide +kernel
theorem dL_law_219 : decode cL_law 219 = .ok (.iadd, 1) := by decide +kernel
theorem dL_law_220 : decode cL_law 220 = .ok (.iaload, 1) := by decide +kernel
theorem dL_law_221 : decode cL_law 221 = .ok (.aload_n 0, 1) := by decide +kernel
theorem dL_law_222 : decode cL_law 222 = .ok (.iload_n 3, 1) := by decide +kernel
theorem dL_law_223 : decode cL_law 223 = .ok (.iconst 2, 1) := by decide +kernel
theorem dL_law_224 : decode cL_law 224 = .ok (.iadd, 1) := by decide +kernel
theorem dL_law_225 : decode cL_law 225 = .ok (.iaload, 1) := by decide +kernel
theorem dL_law_226 : decode cL_law 226 = .ok (.invokevirtual 28, 3) := by decide +kernel
theorem dL_law_229 : decode cL_law 229 = .ok (.aload_n 2, 1) := by decide +kernel
theorem dL_law_230 : decode cL_law 230 = .ok (.aload_n 0, 1) := by decide +kernel
theorem dL_law_231 : decode cL_law 231 = .ok (.iload_n 3, 1) := by decide +kernel
theorem dL_law_232 : decode cL_law 232 = .ok (.iconst 1, 1) := by decide +kernel
theorem dL_law_233 : decode cL_law 233 = .ok (.iadd, 1) := by decide +kernel
theorem dL_law_234 : decode cL_law 234 = .ok (.iaload, 1) := by decide +kernel
theorem dL_law_235 : decode cL_law 235 = .ok (.aload_n 0, 1) := by decide +kernel
theorem dL_law_236 : decode cL_law 236 = .ok (.iload_n 3, 1) := by decide +kernel
theorem dL_law_237 : decode cL_law 237 = .ok (.iconst 2, 1) := by decide +kernel
theorem dL_law_238 : decode cL_law 238 = .ok (.iadd, 1) := by decide +kernel
theorem dL_law_239 : decode cL_law 239 = .ok (.iaload, 1) := by decide +kernel
theorem dL_law_240 : decode cL_law 240 = .ok (.invokevirtual 31, 3) := by decide +kernel
theorem dL_law_243 : decode cL_law 243 = .ok (.if_icmp .eq 234, 3) := by decide +kernel
theorem dL_law_246 : decode cL_law 246 = .ok (.iconst 0, 1) := by decide +kernel
theorem dL_law_247 : decode cL_law 247 = .ok (.ireturn, 1) := by decide +kernel
theorem dL_law_248 : decode cL_law 248 = .ok (.aload_n 1, 1) := by decide +kernel
theorem dL_law_249 : decode cL_law 249 = .ok (.aload_n 0, 1) := by decide +kernel
theorem dL_law_250 : decode cL_law 250 = .ok (.iload_n 3, 1) := by decide +kernel
theorem dL_law_251 : decode cL_law 251 = .ok (.iconst 1, 1) := by decide +kernel
theorem dL_law_252 : decode cL_law 252 = .ok (.iadd, 1) := by decide +kernel
theorem dL_law_253 : decode cL_law 253 = .ok (.iaload, 1) := by decide +kernel
theorem dL_law_254 : decode cL_law 254 = .ok (.aload_n 0, 1) := by decide +kernel
theorem dL_law_255 : decode cL_law 255 = .ok (.iload_n 3, 1) := by decide +kernel
theorem dL_law_256 : decode cL_law 256 = .ok (.iconst 2, 1) := by decide +kernel
theorem dL_law_257 : decode cL_law 257 = .ok (.iadd, 1) := by decide +kernel
theorem dL_law_258 : decode cL_law 258 = .ok (.iaload, 1) := by decide +kernel
theorem dL_law_259 : decode cL_law 259 = .ok (.invokevirtual 32, 3) := by decide +kernel
theorem dL_law_262 : decode cL_law 262 = .ok (.aload_n 2, 1) := by decide +kernel
theorem dL_law_263 : decode cL_law 263 = .ok (.aload_n 0, 1) := by decide +kernel
theorem dL_law_264 : decode cL_law 264 = .ok (.iload_n 3, 1) := by decide +kernel
theorem dL_law_265 : decode cL_law 265 = .ok (.iconst 1, 1) := by decide +kernel
theorem dL_law_266 : decode cL_law 266 = .ok (.iadd, 1) := by decide +kernel
theorem dL_law_267 : decode cL_law 267 = .ok (.iaload, 1) := by decide +kernel
theorem dL_law_268 : decode cL_law 268 = .ok (.aload_n 0, 1) := by decide +kernel
theorem dL_law_269 : decode cL_law 269 = .ok (.iload_n 3, 1) := by decide +kernel
theorem dL_law_270 : decode cL_law 270 = .ok (.iconst 2, 1) := by decide +kernel
theorem dL_law_271 : decode cL_law 271 = .ok (.iadd, 1) := by decide +kernel
end
section
set_option maxRecDepth 100000
theorem dL_law_272 : decode cL_law 272 = .ok (.iaload, 1) := by decide +kernel
theorem dL_law_273 : decode cL_law 273 = .ok (.invokevirtual 35, 3) := by decide +kernel
theorem dL_law_276 : decode cL_law 276 = .ok (.if_icmp .eq 201, 3) := by decide +kernel
theorem dL_law_279 : decode cL_law 279 = .ok (.iconst 0, 1) := by decide +kernel
theorem dL_law_280 : decode cL_law 280 = .ok (.ireturn, 1) := by decide +kernel
theorem dL_law_281 : decode cL_law 281 = .ok (.aload_n 1, 1) := by decide +kernel
theorem dL_law_282 : decode cL_law 282 = .ok (.aload_n 0, 1) := by decide +kernel
theorem dL_law_283 : decode cL_law 283 = .ok (.iload_n 3, 1) := by decide +kernel
theorem dL_law_284 : decode cL_law 284 = .ok (.iconst 1, 1) := by decide +kernel
theorem dL_law_285 : decode cL_law 285 = .ok (.iadd, 1) := by decide +kernel
theorem dL_law_286 : decode cL_law 286 = .ok (.iaload, 1) := by decide +kernel
theorem dL_law_287 : decode cL_law 287 = .ok (.aload_n 0, 1) := by decide +kernel
theorem dL_law_288 : decode cL_law 288 = .ok (.iload_n 3, 1) := by decide +kernel
theorem dL_law_289 : decode cL_law 289 = .ok (.iconst 2, 1) := by decide +kernel
theorem dL_law_290 : decode cL_law 290 = .ok (.iadd, 1) := by decide +kernel
theorem dL_law_291 : decode cL_law 291 = .ok (.iaload, 1) := by decide +kernel
theorem dL_law_292 : decode cL_law 292 = .ok (.invokevirtual 36, 3) := by decide +kernel
theorem dL_law_295 : decode cL_law 295 = .ok (.aload_n 2, 1) := by decide +kernel
theorem dL_law_296 : decode cL_law 296 = .ok (.aload_n 0, 1) := by decide +kernel
theorem dL_law_297 : decode cL_law 297 = .ok (.iload_n 3, 1) := by decide +kernel
theorem dL_law_298 : decode cL_law 298 = .ok (.iconst 1, 1) := by decide +kernel
theorem dL_law_299 : decode cL_law 299 = .ok (.iadd, 1) := by decide +kernel
theorem dL_law_300 : decode cL_law 300 = .ok (.iaload, 1) := by decide +kernel
theorem dL_law_301 : decode cL_law 301 = .ok (.aload_n 0, 1) := by decide +kernel
theorem dL_law_302 : decode cL_law 302 = .ok (.iload_n 3, 1) := by decide +kernel
theorem dL_law_303 : decode cL_law 303 = .ok (.iconst 2, 1) := by decide +kernel
theorem dL_law_304 : decode cL_law 304 = .ok (.iadd, 1) := by decide +kernel
theorem dL_law_305 : decode cL_law 305 = .ok (.iaload, 1) := by decide +kernel
theorem dL_law_306 : decode cL_law 306 = .ok (.invokevirtual 39, 3) := by decide +kernel
theorem dL_law_309 : decode cL_law 309 = .ok (.if_icmp .eq 168, 3) := by decide +kernel
theorem dL_law_312 : decode cL_law 312 = .ok (.iconst 0, 1) := by decide +kernel
theorem dL_law_313 : decode cL_law 313 = .ok (.ireturn, 1) := by decide +kernel
theorem dL_law_314 : decode cL_law 314 = .ok (.aload_n 1, 1) := by decide +kernel
theorem dL_law_315 : decode cL_law 315 = .ok (.aload_n 0, 1) := by decide +kernel
theorem dL_law_316 : decode cL_law 316 = .ok (.iload_n 3, 1) := by decide +kernel
theorem dL_law_317 : decode cL_law 317 = .ok (.iconst 1, 1) := by decide +kernel
theorem dL_law_318 : decode cL_law 318 = .ok (.iadd, 1) := by decide +kernel
theorem dL_law_319 : decode cL_law 319 = .ok (.iaload, 1) := by decide +kernel
theorem dL_law_320 : decode cL_law 320 = .ok (.aload_n 0, 1) := by decide +kernel
theorem dL_law_321 : decode cL_law 321 = .ok (.iload_n 3, 1) := by decide +kernel
theorem dL_law_322 : decode cL_law 322 = .ok (.iconst 2, 1) := by decide +kernel
theorem dL_law_323 : decode cL_law 323 = .ok (.iadd, 1) := by decide +kernel
theorem dL_law_324 : decode cL_law 324 = .ok (.iaload, 1) := by decide +kernel
theorem dL_law_325 : decode cL_law 325 = .ok (.invokevirtual 40, 3) := by decide +kernel
theorem dL_law_328 : decode cL_law 328 = .ok (.aload_n 2, 1) := by decide +kernel
theorem dL_law_329 : decode cL_law 329 = .ok (.aload_n 0, 1) := by decide +kernel
theorem dL_law_330 : decode cL_law 330 = .ok (.iload_n 3, 1) := by decide +kernel
theorem dL_law_331 : decode cL_law 331 = .ok (.iconst 1, 1) := by decide +kernel
theorem dL_law_332 : decode cL_law 332 = .ok (.iadd, 1) := by decide +kernel
theorem dL_law_333 : decode cL_law 333 = .ok (.iaload, 1) := by decide +kernel
theorem dL_law_334 : decode cL_law 334 = .ok (.aload_n 0, 1) := by decide +kernel
theorem dL_law_335 : decode cL_law 335 = .ok (.iload_n 3, 1) := by decide +kernel
theorem dL_law_336 : decode cL_law 336 = .ok (.iconst 2, 1) := by decide +kernel
theorem dL_law_337 : decode cL_law 337 = .ok (.iadd, 1) := by decide +kernel
theorem dL_law_338 : decode cL_law 338 = .ok (.iaload, 1) := by decide +kernel
theorem dL_law_339 : decode cL_law 339 = .ok (.invokevirtual 43, 3) := by decide +kernel
theorem dL_law_342 : decode cL_law 342 = .ok (.if_icmp .eq 135, 3) := by decide +kernel
theorem dL_law_345 : decode cL_law 345 = .ok (.iconst 0, 1) := by decide +kernel
theorem dL_law_346 : decode cL_law 346 = .ok (.ireturn, 1) := by decide +kernel
theorem dL_law_347 : decode cL_law 347 = .ok (.aload_n 1, 1) := by decide +kernel
theorem dL_law_348 : decode cL_law 348 = .ok (.aload_n 0, 1) := by decide +kernel
theorem dL_law_349 : decode cL_law 349 = .ok (.iload_n 3, 1) := by decide +kernel
theorem dL_law_350 : decode cL_law 350 = .ok (.iconst 1, 1) := by decide +kernel
theorem dL_law_351 : decode cL_law 351 = .ok (.iadd, 1) := by decide +kernel
theorem dL_law_352 : decode cL_law 352 = .ok (.iaload, 1) := by decide +kernel
theorem dL_law_353 : decode cL_law 353 = .ok (.invokevirtual 44, 3) := by decide +kernel
theorem dL_law_356 : decode cL_law 356 = .ok (.aload_n 2, 1) := by decide +kernel
theorem dL_law_357 : decode cL_law 357 = .ok (.aload_n 0, 1) := by decide +kernel
theorem dL_law_358 : decode cL_law 358 = .ok (.iload_n 3, 1) := by decide +kernel
theorem dL_law_359 : decode cL_law 359 = .ok (.iconst 1, 1) := by decide +kernel
theorem dL_law_360 : decode cL_law 360 = .ok (.iadd, 1) := by decide +kernel
theorem dL_law_361 : decode cL_law 361 = .ok (.iaload, 1) := by decide +kernel
theorem dL_law_362 : decode cL_law 362 = .ok (.invokevirtual 48, 3) := by decide +kernel
theorem dL_law_365 : decode cL_law 365 = .ok (.if_icmp .eq 112, 3) := by decide +kernel
theorem dL_law_368 : decode cL_law 368 = .ok (.iconst 0, 1) := by decide +kernel
theorem dL_law_369 : decode cL_law 369 = .ok (.ireturn, 1) := by decide +kernel
theorem dL_law_370 : decode cL_law 370 = .ok (.aload_n 1, 1) := by decide +kernel
theorem dL_law_371 : decode cL_law 371 = .ok (.invokevirtual 49, 3) := by decide +kernel
theorem dL_law_374 : decode cL_law 374 = .ok (.aload_n 2, 1) := by decide +kernel
theorem dL_law_375 : decode cL_law 375 = .ok (.invokevirtual 52, 3) := by decide +kernel
end
section
set_option maxRecDepth 100000
theorem dL_law_378 : decode cL_law 378 = .ok (.goto 99, 3) := by decide +kernel
theorem dL_law_381 : decode cL_law 381 = .ok (.aload_n 1, 1) := by decide +kernel
theorem dL_law_382 : decode cL_law 382 = .ok (.invokevirtual 53, 3) := by decide +kernel
theorem dL_law_385 : decode cL_law 385 = .ok (.aload_n 2, 1) := by decide +kernel
theorem dL_law_386 : decode cL_law 386 = .ok (.invokevirtual 56, 3) := by decide +kernel
theorem dL_law_389 : decode cL_law 389 = .ok (.goto 88, 3) := by decide +kernel
theorem dL_law_392 : decode cL_law 392 = .ok (.aload_n 1, 1) := by decide +kernel
theorem dL_law_393 : decode cL_law 393 = .ok (.aload_n 0, 1) := by decide +kernel
theorem dL_law_394 : decode cL_law 394 = .ok (.iload_n 3, 1) := by decide +kernel
theorem dL_law_395 : decode cL_law 395 = .ok (.iconst 1, 1) := by decide +kernel
theorem dL_law_396 : decode cL_law 396 = .ok (.iadd, 1) := by decide +kernel
theorem dL_law_397 : decode cL_law 397 = .ok (.iaload, 1) := by decide +kernel
theorem dL_law_398 : decode cL_law 398 = .ok (.aload_n 0, 1) := by decide +kernel
theorem dL_law_399 : decode cL_law 399 = .ok (.iload_n 3, 1) := by decide +kernel
theorem dL_law_400 : decode cL_law 400 = .ok (.iconst 2, 1) := by decide +kernel
theorem dL_law_401 : decode cL_law 401 = .ok (.iadd, 1) := by decide +kernel
theorem dL_law_402 : decode cL_law 402 = .ok (.iaload, 1) := by decide +kernel
theorem dL_law_403 : decode cL_law 403 = .ok (.invokevirtual 57, 3) := by decide +kernel
theorem dL_law_406 : decode cL_law 406 = .ok (.aload_n 2, 1) := by decide +kernel
theorem dL_law_407 : decode cL_law 407 = .ok (.aload_n 0, 1) := by decide +kernel
theorem dL_law_408 : decode cL_law 408 = .ok (.iload_n 3, 1) := by decide +kernel
theorem dL_law_409 : decode cL_law 409 = .ok (.iconst 1, 1) := by decide +kernel
theorem dL_law_410 : decode cL_law 410 = .ok (.iadd, 1) := by decide +kernel
theorem dL_law_411 : decode cL_law 411 = .ok (.iaload, 1) := by decide +kernel
theorem dL_law_412 : decode cL_law 412 = .ok (.aload_n 0, 1) := by decide +kernel
theorem dL_law_413 : decode cL_law 413 = .ok (.iload_n 3, 1) := by decide +kernel
theorem dL_law_414 : decode cL_law 414 = .ok (.iconst 2, 1) := by decide +kernel
theorem dL_law_415 : decode cL_law 415 = .ok (.iadd, 1) := by decide +kernel
theorem dL_law_416 : decode cL_law 416 = .ok (.iaload, 1) := by decide +kernel
theorem dL_law_417 : decode cL_law 417 = .ok (.invokevirtual 60, 3) := by decide +kernel
theorem dL_law_420 : decode cL_law 420 = .ok (.if_icmp .eq 57, 3) := by decide +kernel
theorem dL_law_423 : decode cL_law 423 = .ok (.iconst 0, 1) := by decide +kernel
theorem dL_law_424 : decode cL_law 424 = .ok (.ireturn, 1) := by decide +kernel
theorem dL_law_425 : decode cL_law 425 = .ok (.aload_n 1, 1) := by decide +kernel
theorem dL_law_426 : decode cL_law 426 = .ok (.invokevirtual 61, 3) := by decide +kernel
theorem dL_law_429 : decode cL_law 429 = .ok (.aload_n 2, 1) := by decide +kernel
theorem dL_law_430 : decode cL_law 430 = .ok (.invokevirtual 65, 3) := by decide +kernel
theorem dL_law_433 : decode cL_law 433 = .ok (.if_icmp .eq 44, 3) := by decide +kernel
theorem dL_law_436 : decode cL_law 436 = .ok (.iconst 0, 1) := by decide +kernel
theorem dL_law_437 : decode cL_law 437 = .ok (.ireturn, 1) := by decide +kernel
theorem dL_law_438 : decode cL_law 438 = .ok (.aload_n 1, 1) := by decide +kernel
theorem dL_law_439 : decode cL_law 439 = .ok (.invokevirtual 66, 3) := by decide +kernel
theorem dL_law_442 : decode cL_law 442 = .ok (.aload_n 2, 1) := by decide +kernel
theorem dL_law_443 : decode cL_law 443 = .ok (.invokevirtual 69, 3) := by decide +kernel
theorem dL_law_446 : decode cL_law 446 = .ok (.if_icmp .eq 31, 3) := by decide +kernel
theorem dL_law_449 : decode cL_law 449 = .ok (.iconst 0, 1) := by decide +kernel
theorem dL_law_450 : decode cL_law 450 = .ok (.ireturn, 1) := by decide +kernel
theorem dL_law_451 : decode cL_law 451 = .ok (.aload_n 1, 1) := by decide +kernel
theorem dL_law_452 : decode cL_law 452 = .ok (.invokevirtual 70, 3) := by decide +kernel
theorem dL_law_455 : decode cL_law 455 = .ok (.aload_n 2, 1) := by decide +kernel
theorem dL_law_456 : decode cL_law 456 = .ok (.invokevirtual 73, 3) := by decide +kernel
theorem dL_law_459 : decode cL_law 459 = .ok (.if_icmp .eq 18, 3) := by decide +kernel
theorem dL_law_462 : decode cL_law 462 = .ok (.iconst 0, 1) := by decide +kernel
theorem dL_law_463 : decode cL_law 463 = .ok (.ireturn, 1) := by decide +kernel
theorem dL_law_464 : decode cL_law 464 = .ok (.aload_n 1, 1) := by decide +kernel
theorem dL_law_465 : decode cL_law 465 = .ok (.invokevirtual 74, 3) := by decide +kernel
theorem dL_law_468 : decode cL_law 468 = .ok (.aload_n 2, 1) := by decide +kernel
theorem dL_law_469 : decode cL_law 469 = .ok (.invokevirtual 77, 3) := by decide +kernel
theorem dL_law_472 : decode cL_law 472 = .ok (.if_icmp .eq 5, 3) := by decide +kernel
theorem dL_law_475 : decode cL_law 475 = .ok (.iconst 0, 1) := by decide +kernel
theorem dL_law_476 : decode cL_law 476 = .ok (.ireturn, 1) := by decide +kernel
theorem dL_law_477 : decode cL_law 477 = .ok (.iinc 3 4, 3) := by decide +kernel
theorem dL_law_480 : decode cL_law 480 = .ok (.goto (-462), 3) := by decide +kernel
theorem dL_law_483 : decode cL_law 483 = .ok (.iconst 1, 1) := by decide +kernel
theorem dL_law_484 : decode cL_law 484 = .ok (.ireturn, 1) := by decide +kernel
end
section
/-! THE FRAME OF ALL WALKS: a bundle of the machine's parts, locals by their places, an object's world by one function F (array, place) -/
set_option maxRecDepth 100000
abbrev vwCl : List vw_C := [(RX0, TX0, 7), (RX1, TX1, 5)]
abbrev nsX : List Nat := [256, 256, 256, 16, 16, 289, 256]
abbrev nsM : List Nat := [256, 256, 256, 256, 256]
abbrev bx_F : Type := Nat → Nat → Int32
abbrev bx_K : Type := Program × Launch × Env × Room × State × MethodId × Array Value × List Frame × Method × Code
abbrev kp (κ : bx_K) : Program := κ.1
abbrev kl (κ : bx_K) : Launch := κ.2.1
abbrev ke (κ : bx_K) : Env := κ.2.2.1
abbrev kR (κ : bx_K) : Room := κ.2.2.2.1
abbrev ks (κ : bx_K) : State := κ.2.2.2.2.1
abbrev km (κ : bx_K) : MethodId := κ.2.2.2.2.2.1
abbrev ka (κ : bx_K) : Array Value := κ.2.2.2.2.2.2.1
abbrev kb (κ : bx_K) : List Frame := κ.2.2.2.2.2.2.2.1
abbrev kh (κ : bx_K) : Method := κ.2.2.2.2.2.2.2.2.1
abbrev kc (κ : bx_K) : Code := κ.2.2.2.2.2.2.2.2.2
/-- a value that is said -/
def bx_nn : Value → Bool
  | .null => false
  | _ => true
theorem bx_nn_or (v : Value) : v = .null ∨ bx_nn v = true := by cases v <;> simp [bx_nn]
/-- locals by their places; .null: nothing is said -/
def bx_L (ls : Array Slot) (nL : Nat) (vs : List Value) : Prop := ls.size = nL ∧ lv_wf ls ∧ ∀ (i : Nat) (v : Value), vs[i]? = some v → v = .null ∨ (ls[i]? = some (.val v) ∧ v.category = 1)
def bx_pairs (vs : List Value) : List (Nat × Value) := ((List.range vs.length).map (fun i => (i, vs.getD i .null))).filter (fun q => bx_nn q.2)
theorem bx_pairs_mem {vs : List Value} {i : Nat} {v : Value} : (i, v) ∈ bx_pairs vs ↔ vs[i]? = some v ∧ bx_nn v = true := by
  unfold bx_pairs
  rw [List.mem_filter, List.mem_map]
  constructor
  · rintro ⟨⟨j, hj, e⟩, hn⟩
    have hj := List.mem_range.mp hj
    obtain ⟨rfl, rfl⟩ := Prod.mk.inj e
    exact ⟨by simp [List.getD, hj], hn⟩
  · rintro ⟨h, hn⟩
    have hi := (List.getElem?_eq_some_iff.mp h).1
    exact ⟨⟨i, List.mem_range.mpr hi, by simp [List.getD, h]⟩, hn⟩
theorem bx_L.has {ls : Array Slot} {nL : Nat} {vs : List Value} (h : bx_L ls nL vs) : lv_has ls nL (bx_pairs vs) := by
  refine ⟨h.1, h.2.1, fun q hq => ?_⟩
  obtain ⟨i, v⟩ := q
  obtain ⟨h1, h2⟩ := bx_pairs_mem.mp hq
  rcases h.2.2 i v h1 with h3 | h3
  · rw [h3] at h2; cases h2
  · exact h3.1
theorem bx_L.val {ls : Array Slot} {nL : Nat} {vs : List Value} (h : bx_L ls nL vs) {i : Nat} {v : Value} (hv : vs[i]? = some v) (hn : bx_nn v = true) : ls[i]? = some (.val v) := by
  rcases h.2.2 i v hv with h3 | h3
  · rw [h3] at hn; cases hn
  · exact h3.1
theorem bx_L.store {ls ls' : Array Slot} {nL i : Nat} {v : Value} {vs : List Value} (h : bx_L ls nL vs) (hc : v.category = 1) (h' : lv_has ls' nL ((i, v) :: (bx_pairs vs).filter (fun q => !(q.1 == i) && !(q.1 + 1 == i && q.2.category == 2)))) : bx_L ls' nL (vs.set i v) := by
  refine ⟨h'.1, h'.2.1, fun j w hj => ?_⟩
  by_cases e : i = j
  · subst e
    rw [List.getElem?_set] at hj
    simp only [if_true] at hj
    split at hj
    · obtain rfl := Option.some.inj hj
      exact Or.inr ⟨h'.2.2 (i, v) List.mem_cons_self, hc⟩
    · cases hj
  · rw [List.getElem?_set, if_neg e] at hj
    rcases bx_nn_or w with hw | hw
    · exact Or.inl hw
    · rcases h.2.2 j w hj with h3 | h3
      · exact Or.inl h3
      · refine Or.inr ⟨h'.2.2 (j, w) (List.mem_cons_of_mem _ (List.mem_filter.mpr ⟨bx_pairs_mem.mpr ⟨hj, hw⟩, ?_⟩)), h3.2⟩
        simp only [h3.2]
        simp
        omega
theorem bx_L.less {ls : Array Slot} {nL : Nat} {vs vs' : List Value} (h : bx_L ls nL vs) (hs : ∀ (i : Nat) (v : Value), vs'[i]? = some v → v = .null ∨ vs[i]? = some v) : bx_L ls nL vs' := by
  refine ⟨h.1, h.2.1, fun i v hv => ?_⟩
  rcases hs i v hv with h3 | h3
  · exact Or.inl h3
  · exact h.2.2 i v h3
/-- from the values at the places listed, some of them forgotten -/
def bx_le : List Value → List Value → Bool
  | _, [] => true
  | [], _ :: _ => false
  | _ :: vs, .null :: ws => bx_le vs ws
  | _ :: _, _ :: _ => false
theorem bx_L.entry {ls : Array Slot} {nL k : Nat} {av : List Value} (h : lv_has ls nL (lv_args 0 av)) (hc : ∀ v ∈ av, v.category = 1) : bx_L ls nL (av ++ List.replicate k .null) := by
  have key : ∀ (av : List Value) (b : Nat), (∀ v ∈ av, v.category = 1) → ∀ (i : Nat) (v : Value), av[i]? = some v → (b + i, v) ∈ lv_args b av := by
    intro av
    induction av with
    | nil => intro b _ i v h; simp at h
    | cons w t ih =>
      intro b hc i v h
      have hw : w.category = 1 := hc w List.mem_cons_self
      have hn : ¬ w.category = 2 := by omega
      unfold lv_args
      rw [if_neg hn]
      cases i with
      | zero => simp at h; subst h; exact List.mem_cons_self
      | succ i =>
        simp at h
        have := ih (b + 1) (fun v hv => hc v (List.mem_cons_of_mem _ hv)) i v h
        rw [show b + (i + 1) = b + 1 + i by omega]
        exact List.mem_cons_of_mem _ this
  refine ⟨h.1, h.2.1, fun i v hv => ?_⟩
  by_cases hi : i < av.length
  · rw [List.getElem?_append_left hi] at hv
    refine Or.inr ⟨?_, hc v (List.mem_of_getElem? hv)⟩
    have := h.2.2 _ (key av 0 hc i v hv)
    simpa using this
  · rw [List.getElem?_append_right (by omega)] at hv
    exact Or.inl (List.eq_of_mem_replicate (List.mem_of_getElem? hv))
/-- the goal at a place of the code: any heap of the world Wd, any locals with the values vs -/
def bx_G (κ : bx_K) (Q : State → Prop) (nL cells slots : Nat) (Wd : Heap → List Loc → Prop) (pc : Nat) (vs st : List Value) : Prop := ∀ (H : Heap) (locs : List Loc) (ls : Array Slot), Wd H locs → bx_L ls nL vs → W (kp κ) (kl κ) (ke κ) (kR κ) (ks κ) (km κ) (ka κ) (kb κ) (kh κ) (kc κ) H locs cells slots Q (F0 (km κ) pc ls st)
section BXG
variable {κ : bx_K} {Q : State → Prop} {nL cells slots : Nat} {Wd : Heap → List Loc → Prop} {pc : Nat} {vs vs' st : List Value} {cc : ByteArray}

theorem g_iconst (hx : (kp κ).tables.exec = Jvm.exec) (hb : (kc κ).code = cc) {n : Int} (v : Int32) (hdg : decode cc pc = .ok (.iconst n, 1)) (hv : Int32.ofInt n = v) (k : bx_G κ Q nL cells slots Wd (pc + 1) vs (.int v :: st)) : bx_G κ Q nL cells slots Wd pc vs st := fun H locs ls hW hl => lv_iconst hx hb hdg hv (k H locs ls hW hl)
theorem g_bipush (hx : (kp κ).tables.exec = Jvm.exec) (hb : (kc κ).code = cc) {n : Int} (v : Int32) (hdg : decode cc pc = .ok (.bipush n, 2)) (hv : (Int8.ofInt n).toInt32 = v) (k : bx_G κ Q nL cells slots Wd (pc + 2) vs (.int v :: st)) : bx_G κ Q nL cells slots Wd pc vs st := fun H locs ls hW hl => lv_bipush hx hb hdg hv (k H locs ls hW hl)
theorem g_sipush (hx : (kp κ).tables.exec = Jvm.exec) (hb : (kc κ).code = cc) {n : Int} (v : Int32) (hdg : decode cc pc = .ok (.sipush n, 3)) (hv : (Int16.ofInt n).toInt32 = v) (k : bx_G κ Q nL cells slots Wd (pc + 3) vs (.int v :: st)) : bx_G κ Q nL cells slots Wd pc vs st := fun H locs ls hW hl => lv_sipush hx hb hdg hv (k H locs ls hW hl)
theorem g_iload_n (hx : (kp κ).tables.exec = Jvm.exec) (hb : (kc κ).code = cc) {k : Fin 4} {i : Nat} {x : Int32} (hdg : decode cc pc = .ok (.iload_n k, 1)) (hi : (k : Nat) = i) (hv : vs[i]? = some (.int x)) (kk : bx_G κ Q nL cells slots Wd (pc + 1) vs (.int x :: st)) : bx_G κ Q nL cells slots Wd pc vs st := fun H locs ls hW hl => lv_iload_n hx hb hdg hi (hl.val hv rfl) (kk H locs ls hW hl)
theorem g_iload (hx : (kp κ).tables.exec = Jvm.exec) (hb : (kc κ).code = cc) {i : Nat} {x : Int32} (hdg : decode cc pc = .ok (.iload i, 2)) (hv : vs[i]? = some (.int x)) (kk : bx_G κ Q nL cells slots Wd (pc + 2) vs (.int x :: st)) : bx_G κ Q nL cells slots Wd pc vs st := fun H locs ls hW hl => lv_iload hx hb hdg (hl.val hv rfl) (kk H locs ls hW hl)
theorem g_aload_n (hx : (kp κ).tables.exec = Jvm.exec) (hb : (kc κ).code = cc) {k : Fin 4} {i x : Nat} (hdg : decode cc pc = .ok (.aload_n k, 1)) (hi : (k : Nat) = i) (hv : vs[i]? = some (.ref x)) (kk : bx_G κ Q nL cells slots Wd (pc + 1) vs (.ref x :: st)) : bx_G κ Q nL cells slots Wd pc vs st := fun H locs ls hW hl => lv_aload_n hx hb hdg hi (hl.val hv rfl) (kk H locs ls hW hl)
theorem g_istore_n (hx : (kp κ).tables.exec = Jvm.exec) (hb : (kc κ).code = cc) {k : Fin 4} {i : Nat} {x : Int32} (hdg : decode cc pc = .ok (.istore_n k, 1)) (hi : (k : Nat) = i) (hn : i < nL) (hv : vs.set i (.int x) = vs') (kk : bx_G κ Q nL cells slots Wd (pc + 1) vs' st) : bx_G κ Q nL cells slots Wd pc vs (.int x :: st) := fun H locs ls hW hl => lv_istore_n hx hb hdg hi hl.has hn rfl (fun ls1 h1 => kk H locs ls1 hW (hv ▸ hl.store rfl h1))
theorem g_istore (hx : (kp κ).tables.exec = Jvm.exec) (hb : (kc κ).code = cc) {i : Nat} {x : Int32} (hdg : decode cc pc = .ok (.istore i, 2)) (hn : i < nL) (hv : vs.set i (.int x) = vs') (kk : bx_G κ Q nL cells slots Wd (pc + 2) vs' st) : bx_G κ Q nL cells slots Wd pc vs (.int x :: st) := fun H locs ls hW hl => lv_istore hx hb hdg hl.has hn rfl (fun ls1 h1 => kk H locs ls1 hW (hv ▸ hl.store rfl h1))
theorem g_astore_n (hx : (kp κ).tables.exec = Jvm.exec) (hb : (kc κ).code = cc) {k : Fin 4} {i x : Nat} (hdg : decode cc pc = .ok (.astore_n k, 1)) (hi : (k : Nat) = i) (hn : i < nL) (hv : vs.set i (.ref x) = vs') (kk : bx_G κ Q nL cells slots Wd (pc + 1) vs' st) : bx_G κ Q nL cells slots Wd pc vs (.ref x :: st) := fun H locs ls hW hl => lv_astore_n hx hb hdg hi hl.has hn rfl (fun ls1 h1 => kk H locs ls1 hW (hv ▸ hl.store rfl h1))
theorem g_iinc (hx : (kp κ).tables.exec = Jvm.exec) (hb : (kc κ).code = cc) {i : Nat} {n : Int} {x v : Int32} (hdg : decode cc pc = .ok (.iinc i n, 3)) (hx1 : vs[i]? = some (.int x)) (hv0 : x + Int32.ofInt n = v) (hn : i < nL) (hv : vs.set i (.int v) = vs') (kk : bx_G κ Q nL cells slots Wd (pc + 3) vs' st) : bx_G κ Q nL cells slots Wd pc vs st := by
  intro H locs ls hW hl
  obtain ⟨k, hk⟩ := List.getElem?_of_mem (bx_pairs_mem.mpr ⟨hx1, rfl⟩)
  exact lv_iinc hx hb hdg hl.has hk hv0 hn rfl (fun ls1 h1 => kk H locs ls1 hW (hv ▸ hl.store rfl h1))
theorem g_iadd (hx : (kp κ).tables.exec = Jvm.exec) (hb : (kc κ).code = cc) {x y : Int32} (hdg : decode cc pc = .ok (.iadd, 1)) (k : bx_G κ Q nL cells slots Wd (pc + 1) vs (.int (x + y) :: st)) : bx_G κ Q nL cells slots Wd pc vs (.int y :: .int x :: st) := fun H locs ls hW hl => lv_iadd hx hb hdg (k H locs ls hW hl)
theorem g_isub (hx : (kp κ).tables.exec = Jvm.exec) (hb : (kc κ).code = cc) {x y : Int32} (hdg : decode cc pc = .ok (.isub, 1)) (k : bx_G κ Q nL cells slots Wd (pc + 1) vs (.int (x - y) :: st)) : bx_G κ Q nL cells slots Wd pc vs (.int y :: .int x :: st) := fun H locs ls hW hl => lv_isub hx hb hdg (k H locs ls hW hl)
theorem g_imul (hx : (kp κ).tables.exec = Jvm.exec) (hb : (kc κ).code = cc) {x y : Int32} (hdg : decode cc pc = .ok (.imul, 1)) (k : bx_G κ Q nL cells slots Wd (pc + 1) vs (.int (x * y) :: st)) : bx_G κ Q nL cells slots Wd pc vs (.int y :: .int x :: st) := fun H locs ls hW hl => lv_imul hx hb hdg (k H locs ls hW hl)
theorem g_iand (hx : (kp κ).tables.exec = Jvm.exec) (hb : (kc κ).code = cc) {x y : Int32} (hdg : decode cc pc = .ok (.iand, 1)) (k : bx_G κ Q nL cells slots Wd (pc + 1) vs (.int (x &&& y) :: st)) : bx_G κ Q nL cells slots Wd pc vs (.int y :: .int x :: st) := fun H locs ls hW hl => lv_iand hx hb hdg (k H locs ls hW hl)
theorem g_idiv (hx : (kp κ).tables.exec = Jvm.exec) (hb : (kc κ).code = cc) {x y : Int32} (hdg : decode cc pc = .ok (.idiv, 1)) (hne : ¬ y = 0) (k : bx_G κ Q nL cells slots Wd (pc + 1) vs (.int (x / y) :: st)) : bx_G κ Q nL cells slots Wd pc vs (.int y :: .int x :: st) := fun H locs ls hW hl => lv_idiv hx hb hdg hne (k H locs ls hW hl)
theorem g_irem (hx : (kp κ).tables.exec = Jvm.exec) (hb : (kc κ).code = cc) {x y : Int32} (hdg : decode cc pc = .ok (.irem, 1)) (hne : ¬ y = 0) (k : bx_G κ Q nL cells slots Wd (pc + 1) vs (.int (x - x / y * y) :: st)) : bx_G κ Q nL cells slots Wd pc vs (.int y :: .int x :: st) := fun H locs ls hW hl => lv_irem hx hb hdg hne (k H locs ls hW hl)
theorem g_dup (hx : (kp κ).tables.exec = Jvm.exec) (hb : (kc κ).code = cc) {va : Value} (hdg : decode cc pc = .ok (.dup, 1)) (hva : va.category = 1) (k : bx_G κ Q nL cells slots Wd (pc + 1) vs (va :: va :: st)) : bx_G κ Q nL cells slots Wd pc vs (va :: st) := fun H locs ls hW hl => lv_dup hx hb hdg hva (k H locs ls hW hl)
theorem g_goto (hx : (kp κ).tables.exec = Jvm.exec) (hb : (kc κ).code = cc) {off : Int} (tgt : Nat) (hdg : decode cc pc = .ok (.goto off, 3)) (ht : (pc : Int) + off = (tgt : Int)) (k : bx_G κ Q nL cells slots Wd tgt vs st) : bx_G κ Q nL cells slots Wd pc vs st := fun H locs ls hW hl => lv_goto hx hb hdg ht (k H locs ls hW hl)
theorem g_if_eq (hx : (kp κ).tables.exec = Jvm.exec) (hb : (kc κ).code = cc) {x : Int32} {off : Int} (tgt : Nat) (hdg : decode cc pc = .ok (.ifCond .eq off, 3)) (ht : (pc : Int) + off = (tgt : Int)) (kt : x = 0 → bx_G κ Q nL cells slots Wd tgt vs st) (kf : ¬ x = 0 → bx_G κ Q nL cells slots Wd (pc + 3) vs st) : bx_G κ Q nL cells slots Wd pc vs (.int x :: st) := fun H locs ls hW hl => lv_if_eq hx hb hdg ht (fun q => kt q H locs ls hW hl) (fun q => kf q H locs ls hW hl)
theorem g_if_ne (hx : (kp κ).tables.exec = Jvm.exec) (hb : (kc κ).code = cc) {x : Int32} {off : Int} (tgt : Nat) (hdg : decode cc pc = .ok (.ifCond .ne off, 3)) (ht : (pc : Int) + off = (tgt : Int)) (kt : ¬ x = 0 → bx_G κ Q nL cells slots Wd tgt vs st) (kf : x = 0 → bx_G κ Q nL cells slots Wd (pc + 3) vs st) : bx_G κ Q nL cells slots Wd pc vs (.int x :: st) := fun H locs ls hW hl => lv_if_ne hx hb hdg ht (fun q => kt q H locs ls hW hl) (fun q => kf q H locs ls hW hl)
theorem g_if_lt (hx : (kp κ).tables.exec = Jvm.exec) (hb : (kc κ).code = cc) {x : Int32} {off : Int} (tgt : Nat) (hdg : decode cc pc = .ok (.ifCond .lt off, 3)) (ht : (pc : Int) + off = (tgt : Int)) (kt : x < 0 → bx_G κ Q nL cells slots Wd tgt vs st) (kf : ¬ x < 0 → bx_G κ Q nL cells slots Wd (pc + 3) vs st) : bx_G κ Q nL cells slots Wd pc vs (.int x :: st) := fun H locs ls hW hl => lv_if_lt hx hb hdg ht (fun q => kt q H locs ls hW hl) (fun q => kf q H locs ls hW hl)
theorem g_if_ge (hx : (kp κ).tables.exec = Jvm.exec) (hb : (kc κ).code = cc) {x : Int32} {off : Int} (tgt : Nat) (hdg : decode cc pc = .ok (.ifCond .ge off, 3)) (ht : (pc : Int) + off = (tgt : Int)) (kt : 0 ≤ x → bx_G κ Q nL cells slots Wd tgt vs st) (kf : ¬ 0 ≤ x → bx_G κ Q nL cells slots Wd (pc + 3) vs st) : bx_G κ Q nL cells slots Wd pc vs (.int x :: st) := fun H locs ls hW hl => lv_if_ge hx hb hdg ht (fun q => kt q H locs ls hW hl) (fun q => kf q H locs ls hW hl)
theorem g_if_gt (hx : (kp κ).tables.exec = Jvm.exec) (hb : (kc κ).code = cc) {x : Int32} {off : Int} (tgt : Nat) (hdg : decode cc pc = .ok (.ifCond .gt off, 3)) (ht : (pc : Int) + off = (tgt : Int)) (kt : 0 < x → bx_G κ Q nL cells slots Wd tgt vs st) (kf : ¬ 0 < x → bx_G κ Q nL cells slots Wd (pc + 3) vs st) : bx_G κ Q nL cells slots Wd pc vs (.int x :: st) := fun H locs ls hW hl => lv_if_gt hx hb hdg ht (fun q => kt q H locs ls hW hl) (fun q => kf q H locs ls hW hl)
theorem g_if_le (hx : (kp κ).tables.exec = Jvm.exec) (hb : (kc κ).code = cc) {x : Int32} {off : Int} (tgt : Nat) (hdg : decode cc pc = .ok (.ifCond .le off, 3)) (ht : (pc : Int) + off = (tgt : Int)) (kt : x ≤ 0 → bx_G κ Q nL cells slots Wd tgt vs st) (kf : ¬ x ≤ 0 → bx_G κ Q nL cells slots Wd (pc + 3) vs st) : bx_G κ Q nL cells slots Wd pc vs (.int x :: st) := fun H locs ls hW hl => lv_if_le hx hb hdg ht (fun q => kt q H locs ls hW hl) (fun q => kf q H locs ls hW hl)
theorem g_icmp_eq (hx : (kp κ).tables.exec = Jvm.exec) (hb : (kc κ).code = cc) {x y : Int32} {off : Int} (tgt : Nat) (hdg : decode cc pc = .ok (.if_icmp .eq off, 3)) (ht : (pc : Int) + off = (tgt : Int)) (kt : x = y → bx_G κ Q nL cells slots Wd tgt vs st) (kf : ¬ x = y → bx_G κ Q nL cells slots Wd (pc + 3) vs st) : bx_G κ Q nL cells slots Wd pc vs (.int y :: .int x :: st) := fun H locs ls hW hl => lv_icmp_eq hx hb hdg ht (fun q => kt q H locs ls hW hl) (fun q => kf q H locs ls hW hl)
theorem g_icmp_ne (hx : (kp κ).tables.exec = Jvm.exec) (hb : (kc κ).code = cc) {x y : Int32} {off : Int} (tgt : Nat) (hdg : decode cc pc = .ok (.if_icmp .ne off, 3)) (ht : (pc : Int) + off = (tgt : Int)) (kt : ¬ x = y → bx_G κ Q nL cells slots Wd tgt vs st) (kf : x = y → bx_G κ Q nL cells slots Wd (pc + 3) vs st) : bx_G κ Q nL cells slots Wd pc vs (.int y :: .int x :: st) := fun H locs ls hW hl => lv_icmp_ne hx hb hdg ht (fun q => kt q H locs ls hW hl) (fun q => kf q H locs ls hW hl)
theorem g_icmp_lt (hx : (kp κ).tables.exec = Jvm.exec) (hb : (kc κ).code = cc) {x y : Int32} {off : Int} (tgt : Nat) (hdg : decode cc pc = .ok (.if_icmp .lt off, 3)) (ht : (pc : Int) + off = (tgt : Int)) (kt : x < y → bx_G κ Q nL cells slots Wd tgt vs st) (kf : ¬ x < y → bx_G κ Q nL cells slots Wd (pc + 3) vs st) : bx_G κ Q nL cells slots Wd pc vs (.int y :: .int x :: st) := fun H locs ls hW hl => lv_icmp_lt hx hb hdg ht (fun q => kt q H locs ls hW hl) (fun q => kf q H locs ls hW hl)
theorem g_icmp_ge (hx : (kp κ).tables.exec = Jvm.exec) (hb : (kc κ).code = cc) {x y : Int32} {off : Int} (tgt : Nat) (hdg : decode cc pc = .ok (.if_icmp .ge off, 3)) (ht : (pc : Int) + off = (tgt : Int)) (kt : y ≤ x → bx_G κ Q nL cells slots Wd tgt vs st) (kf : ¬ y ≤ x → bx_G κ Q nL cells slots Wd (pc + 3) vs st) : bx_G κ Q nL cells slots Wd pc vs (.int y :: .int x :: st) := fun H locs ls hW hl => lv_icmp_ge hx hb hdg ht (fun q => kt q H locs ls hW hl) (fun q => kf q H locs ls hW hl)
theorem g_icmp_gt (hx : (kp κ).tables.exec = Jvm.exec) (hb : (kc κ).code = cc) {x y : Int32} {off : Int} (tgt : Nat) (hdg : decode cc pc = .ok (.if_icmp .gt off, 3)) (ht : (pc : Int) + off = (tgt : Int)) (kt : y < x → bx_G κ Q nL cells slots Wd tgt vs st) (kf : ¬ y < x → bx_G κ Q nL cells slots Wd (pc + 3) vs st) : bx_G κ Q nL cells slots Wd pc vs (.int y :: .int x :: st) := fun H locs ls hW hl => lv_icmp_gt hx hb hdg ht (fun q => kt q H locs ls hW hl) (fun q => kf q H locs ls hW hl)
theorem g_icmp_le (hx : (kp κ).tables.exec = Jvm.exec) (hb : (kc κ).code = cc) {x y : Int32} {off : Int} (tgt : Nat) (hdg : decode cc pc = .ok (.if_icmp .le off, 3)) (ht : (pc : Int) + off = (tgt : Int)) (kt : x ≤ y → bx_G κ Q nL cells slots Wd tgt vs st) (kf : ¬ x ≤ y → bx_G κ Q nL cells slots Wd (pc + 3) vs st) : bx_G κ Q nL cells slots Wd pc vs (.int y :: .int x :: st) := fun H locs ls hW hl => lv_icmp_le hx hb hdg ht (fun q => kt q H locs ls hW hl) (fun q => kf q H locs ls hW hl)
/-- the top is another word of the same number -/
theorem g_top {x y : Int32} (h : x = y) (k : bx_G κ Q nL cells slots Wd pc vs (.int y :: st)) : bx_G κ Q nL cells slots Wd pc vs (.int x :: st) := h ▸ k
theorem g_vs (h : vs = vs') (k : bx_G κ Q nL cells slots Wd pc vs' st) : bx_G κ Q nL cells slots Wd pc vs st := h ▸ k
/-- some places forgotten -/
theorem g_less (hs : ∀ (i : Nat) (v : Value), vs'[i]? = some v → v = .null ∨ vs[i]? = some v) (k : bx_G κ Q nL cells slots Wd pc vs' st) : bx_G κ Q nL cells slots Wd pc vs st := fun H locs ls hW hl => k H locs ls hW (hl.less hs)
theorem n_iadd (hx : (kp κ).tables.exec = Jvm.exec) (hb : (kc κ).code = cc) {x y : Nat} (hdg : decode cc pc = .ok (.iadd, 1)) (k : bx_G κ Q nL cells slots Wd (pc + 1) vs (.int (nI (x + y)) :: st)) : bx_G κ Q nL cells slots Wd pc vs (.int (nI y) :: .int (nI x) :: st) := g_iadd hx hb hdg (g_top (nI_add x y) k)
theorem n_imul (hx : (kp κ).tables.exec = Jvm.exec) (hb : (kc κ).code = cc) {x y : Nat} (hdg : decode cc pc = .ok (.imul, 1)) (k : bx_G κ Q nL cells slots Wd (pc + 1) vs (.int (nI (x * y)) :: st)) : bx_G κ Q nL cells slots Wd pc vs (.int (nI y) :: .int (nI x) :: st) := g_imul hx hb hdg (g_top (pk_mul x y) k)
theorem n_isub (hx : (kp κ).tables.exec = Jvm.exec) (hb : (kc κ).code = cc) {x y : Nat} (hdg : decode cc pc = .ok (.isub, 1)) (hle : y ≤ x) (k : bx_G κ Q nL cells slots Wd (pc + 1) vs (.int (nI (x - y)) :: st)) : bx_G κ Q nL cells slots Wd pc vs (.int (nI y) :: .int (nI x) :: st) := g_isub hx hb hdg (g_top (pk_sub hle) k)
theorem n_idiv (hx : (kp κ).tables.exec = Jvm.exec) (hb : (kc κ).code = cc) {x y : Nat} (hdg : decode cc pc = .ok (.idiv, 1)) (h1 : x < 2 ^ 31) (h0 : 0 < y) (h2 : y < 2 ^ 31) (k : bx_G κ Q nL cells slots Wd (pc + 1) vs (.int (nI (x / y)) :: st)) : bx_G κ Q nL cells slots Wd pc vs (.int (nI y) :: .int (nI x) :: st) := g_idiv hx hb hdg (nI_ne0 h0 h2) (g_top (pk_div h1 h0 h2) k)
theorem n_irem (hx : (kp κ).tables.exec = Jvm.exec) (hb : (kc κ).code = cc) {x y : Nat} (hdg : decode cc pc = .ok (.irem, 1)) (h1 : x < 2 ^ 31) (h0 : 0 < y) (h2 : y < 2 ^ 31) (k : bx_G κ Q nL cells slots Wd (pc + 1) vs (.int (nI (x % y)) :: st)) : bx_G κ Q nL cells slots Wd pc vs (.int (nI y) :: .int (nI x) :: st) := g_irem hx hb hdg (nI_ne0 h0 h2) (g_top (pk_rem h1 h0 h2) k)
theorem n_iinc (hx : (kp κ).tables.exec = Jvm.exec) (hb : (kc κ).code = cc) {i : Nat} {x : Nat} (hdg : decode cc pc = .ok (.iinc i 1, 3)) (hx1 : vs[i]? = some (.int (nI x))) (hn : i < nL) (hv : vs.set i (.int (nI (x + 1))) = vs') (kk : bx_G κ Q nL cells slots Wd (pc + 3) vs' st) : bx_G κ Q nL cells slots Wd pc vs st := g_iinc hx hb hdg hx1 (nI_1 x) hn hv kk
theorem n_idec (hx : (kp κ).tables.exec = Jvm.exec) (hb : (kc κ).code = cc) {i : Nat} {x : Nat} (hdg : decode cc pc = .ok (.iinc i (-1), 3)) (hx1 : vs[i]? = some (.int (nI x))) (h0 : 0 < x) (hn : i < nL) (hv : vs.set i (.int (nI (x - 1))) = vs') (kk : bx_G κ Q nL cells slots Wd (pc + 3) vs' st) : bx_G κ Q nL cells slots Wd pc vs st := g_iinc hx hb hdg hx1 (sb_m1 h0) hn hv kk
theorem n_icmp_eq (hx : (kp κ).tables.exec = Jvm.exec) (hb : (kc κ).code = cc) {x y : Nat} {off : Int} (tgt : Nat) (hdg : decode cc pc = .ok (.if_icmp .eq off, 3)) (ht : (pc : Int) + off = (tgt : Int)) (h1 : x < 2 ^ 31) (h2 : y < 2 ^ 31) (kt : x = y → bx_G κ Q nL cells slots Wd tgt vs st) (kf : ¬ x = y → bx_G κ Q nL cells slots Wd (pc + 3) vs st) : bx_G κ Q nL cells slots Wd pc vs (.int (nI y) :: .int (nI x) :: st) := g_icmp_eq hx hb tgt hdg ht (fun q => kt ((nI_eq h1 h2).mp q)) (fun q => kf (fun z => q ((nI_eq h1 h2).mpr z)))
theorem n_icmp_ne (hx : (kp κ).tables.exec = Jvm.exec) (hb : (kc κ).code = cc) {x y : Nat} {off : Int} (tgt : Nat) (hdg : decode cc pc = .ok (.if_icmp .ne off, 3)) (ht : (pc : Int) + off = (tgt : Int)) (h1 : x < 2 ^ 31) (h2 : y < 2 ^ 31) (kt : ¬ x = y → bx_G κ Q nL cells slots Wd tgt vs st) (kf : x = y → bx_G κ Q nL cells slots Wd (pc + 3) vs st) : bx_G κ Q nL cells slots Wd pc vs (.int (nI y) :: .int (nI x) :: st) := g_icmp_ne hx hb tgt hdg ht (fun q => kt (fun z => q ((nI_eq h1 h2).mpr z))) (fun q => kf ((nI_eq h1 h2).mp q))
theorem n_icmp_lt (hx : (kp κ).tables.exec = Jvm.exec) (hb : (kc κ).code = cc) {x y : Nat} {off : Int} (tgt : Nat) (hdg : decode cc pc = .ok (.if_icmp .lt off, 3)) (ht : (pc : Int) + off = (tgt : Int)) (h1 : x < 2 ^ 31) (h2 : y < 2 ^ 31) (kt : x < y → bx_G κ Q nL cells slots Wd tgt vs st) (kf : y ≤ x → bx_G κ Q nL cells slots Wd (pc + 3) vs st) : bx_G κ Q nL cells slots Wd pc vs (.int (nI y) :: .int (nI x) :: st) := g_icmp_lt hx hb tgt hdg ht (fun q => kt ((nI_ltI h1 h2).mp q)) (fun q => kf (Nat.le_of_not_lt fun z => q ((nI_ltI h1 h2).mpr z)))
theorem n_icmp_ge (hx : (kp κ).tables.exec = Jvm.exec) (hb : (kc κ).code = cc) {x y : Nat} {off : Int} (tgt : Nat) (hdg : decode cc pc = .ok (.if_icmp .ge off, 3)) (ht : (pc : Int) + off = (tgt : Int)) (h1 : x < 2 ^ 31) (h2 : y < 2 ^ 31) (kt : y ≤ x → bx_G κ Q nL cells slots Wd tgt vs st) (kf : x < y → bx_G κ Q nL cells slots Wd (pc + 3) vs st) : bx_G κ Q nL cells slots Wd pc vs (.int (nI y) :: .int (nI x) :: st) := g_icmp_ge hx hb tgt hdg ht (fun q => kt ((nI_leI h2 h1).mp q)) (fun q => kf (Nat.lt_of_not_le fun z => q ((nI_leI h2 h1).mpr z)))
theorem n_icmp_gt (hx : (kp κ).tables.exec = Jvm.exec) (hb : (kc κ).code = cc) {x y : Nat} {off : Int} (tgt : Nat) (hdg : decode cc pc = .ok (.if_icmp .gt off, 3)) (ht : (pc : Int) + off = (tgt : Int)) (h1 : x < 2 ^ 31) (h2 : y < 2 ^ 31) (kt : y < x → bx_G κ Q nL cells slots Wd tgt vs st) (kf : x ≤ y → bx_G κ Q nL cells slots Wd (pc + 3) vs st) : bx_G κ Q nL cells slots Wd pc vs (.int (nI y) :: .int (nI x) :: st) := g_icmp_gt hx hb tgt hdg ht (fun q => kt ((nI_ltI h2 h1).mp q)) (fun q => kf (Nat.le_of_not_lt fun z => q ((nI_ltI h2 h1).mpr z)))
theorem n_icmp_le (hx : (kp κ).tables.exec = Jvm.exec) (hb : (kc κ).code = cc) {x y : Nat} {off : Int} (tgt : Nat) (hdg : decode cc pc = .ok (.if_icmp .le off, 3)) (ht : (pc : Int) + off = (tgt : Int)) (h1 : x < 2 ^ 31) (h2 : y < 2 ^ 31) (kt : x ≤ y → bx_G κ Q nL cells slots Wd tgt vs st) (kf : y < x → bx_G κ Q nL cells slots Wd (pc + 3) vs st) : bx_G κ Q nL cells slots Wd pc vs (.int (nI y) :: .int (nI x) :: st) := g_icmp_le hx hb tgt hdg ht (fun q => kt ((nI_leI h1 h2).mp q)) (fun q => kf (Nat.lt_of_not_le fun z => q ((nI_leI h1 h2).mpr z)))
end BXG
/-- an object of class number ci with its arrays: array k lies at a k, has ns k places, holds F k -/
def bx_w (ci : Nat) (ns : List Nat) (h : Nat) (a : Nat → Nat) (d : ClassId) (F : bx_F) : va_W := (h, .inr (ci, (List.range ns.length).map (fun k => Value.ref (a k)))) :: (List.range ns.length).map (fun k => (a k, .inl (d, ns.getD k 0, .inl (F k))))
theorem bx_w_arr {ci : Nat} {ns : List Nat} {h : Nat} {a : Nat → Nat} {d : ClassId} {F : bx_F} {k n : Nat} (hn : ns[k]? = some n) : (bx_w ci ns h a d F)[k + 1]? = some (a k, .inl (d, n, .inl (F k))) := by
  have hk : k < ns.length := (List.getElem?_eq_some_iff.mp hn).1
  unfold bx_w
  rw [List.getElem?_cons_succ, List.getElem?_map, List.getElem?_range hk]
  simp [List.getD, hn]
theorem bx_w_set {ci : Nat} {ns : List Nat} {h : Nat} {a : Nat → Nat} {d : ClassId} {F : bx_F} {k n : Nat} (hn : ns[k]? = some n) (f : Nat → Int32) : (bx_w ci ns h a d F).set (k + 1) (a k, .inl (d, n, .inl f)) = bx_w ci ns h a d (va_up F k f) := by
  have hk : k < ns.length := (List.getElem?_eq_some_iff.mp hn).1
  unfold bx_w
  rw [List.set_cons_succ]
  congr 1
  refine List.ext_getElem? fun i => ?_
  rw [List.getElem?_set]
  by_cases hi : i < ns.length
  · rw [List.getElem?_map, List.getElem?_map, List.getElem?_range hi]
    by_cases e : k = i
    · subst e
      simp [hk, va_up, List.getD, hn]
      exact (List.getElem?_eq_some_iff.mp hn).2.symm
    · have e2 : ¬ i = k := fun q => e q.symm
      simp [e, e2, va_up]
  · rw [List.getElem?_eq_none (by simp; omega), List.getElem?_eq_none (by simp; omega)]
    by_cases e : k = i
    · omega
    · simp [e]
def bx_S (D : va_G) (ci : Nat) (ns : List Nat) (h : Nat) (a : Nat → Nat) (d : ClassId) (A : Nat → Prop) (H0 : Heap) (F : bx_F) (H : Heap) (locs : List Loc) : Prop := va_P D vwCl (bx_w ci ns h a d F) H ∧ va_D A (bx_w ci ns h a d F) ∧ va_S A H0 H locs
/-- what holds all through a method of the class Cn -/
def bx_C (κ : bx_K) (cc : ByteArray) (nL ci : Nat) (ns : List Nat) (Cn : String) (T : u_T) (D : va_G) (d : ClassId) : Prop := (kp κ).tables.exec = Jvm.exec ∧ (kc κ).code = cc ∧ (kc κ).maxLocals = nL ∧ (∀ w ∈ lw_all, w.before (ka κ) (ks κ) = true) ∧ (ks κ).vm.findClass Cn = some (km κ).cls ∧ va_K D vwCl [(d, .int)] (ks κ) ∧ (∀ w ∈ u_ws Cn T ns.length, w ∈ lw_all) ∧ vwCl[ci]? = some (Cn, T, ns.length)
abbrev bx_A (ci : Nat) (ns : List Nat) (h : Nat) (a : Nat → Nat) (d : ClassId) (F : bx_F) (sz : Nat) : Nat → Prop := va_A (bx_w ci ns h a d F) sz
def bx_B (D : va_G) (ci : Nat) (ns : List Nat) (h : Nat) (a : Nat → Nat) (d : ClassId) (A : Nat → Prop) (u : bx_F) (t : State) : Prop := va_P D vwCl (bx_w ci ns h a d u) t.heap ∧ va_K D vwCl [(d, .int)] t ∧ va_D A (bx_w ci ns h a d u)
abbrev bx_Pc (D : va_G) (ci : Nat) (ns : List Nat) (h : Nat) (a : Nat → Nat) (d : ClassId) (sz : Nat) (F : bx_F) (As : List Value) : Array Value → State → Prop := va_Pc (.ref h :: As) (fun U => U.heap.size = sz ∧ va_P D vwCl (bx_w ci ns h a d F) U.heap ∧ va_K D vwCl [(d, .int)] U ∧ va_D (fun _ => True) (bx_w ci ns h a d F))
/-- the contract of a method that answers a number -/
def bx_Mi (l : Launch) (y : MethodName) (b : ByteArray) (L : Nat) (r : FieldType) (rm : Room) (D : va_G) (ci : Nat) (ns : List Nat) (h : Nat) (a : Nat → Nat) (d : ClassId) (F : bx_F) (As : List Value) (post : Int32 → bx_F → Prop) : Prop := ∀ sz : Nat, Met l y (ws_ y b L (some r)) rm (bx_Pc D ci ns h a d sz F As) (va_Qi post (bx_B D ci ns h a d (bx_A ci ns h a d F sz)) (bx_A ci ns h a d F sz)) 0 0 (bx_A ci ns h a d F sz)
/-- the contract of a method that answers nothing -/
def bx_Mv (l : Launch) (y : MethodName) (b : ByteArray) (L : Nat) (rm : Room) (D : va_G) (ci : Nat) (ns : List Nat) (h : Nat) (a : Nat → Nat) (d : ClassId) (F : bx_F) (As : List Value) (post : bx_F → Prop) : Prop := ∀ sz : Nat, Met l y (ws_ y b L none) rm (bx_Pc D ci ns h a d sz F As) (va_Qv post (bx_B D ci ns h a d (bx_A ci ns h a d F sz)) (bx_A ci ns h a d F sz)) 0 0 (bx_A ci ns h a d F sz)
/-- the contract of a static method of numbers -/
def bx_Ms (l : Launch) (y : MethodName) (b : ByteArray) (L : Nat) (r : FieldType) (rm : Room) (As : List Value) (post : Int32 → Prop) : Prop := Met l y (ws_ y b L (some r)) rm (va_Pc As (fun _ => True)) (va_Qi (fun x (_ : Unit) => post x) (fun _ _ => True) (fun _ => False)) 0 0 (fun _ => False)
def bx_Qi (κ : bx_K) (D : va_G) (ci : Nat) (ns : List Nat) (h : Nat) (a : Nat → Nat) (d : ClassId) (F : bx_F) (post : Int32 → bx_F → Prop) : State → Prop := MQ (kb κ) (va_Qi post (bx_B D ci ns h a d (bx_A ci ns h a d F (ks κ).heap.size)) (bx_A ci ns h a d F (ks κ).heap.size)) (ka κ) (ks κ) 0 0 (bx_A ci ns h a d F (ks κ).heap.size)
def bx_Qv (κ : bx_K) (D : va_G) (ci : Nat) (ns : List Nat) (h : Nat) (a : Nat → Nat) (d : ClassId) (F : bx_F) (post : bx_F → Prop) : State → Prop := MQ (kb κ) (va_Qv post (bx_B D ci ns h a d (bx_A ci ns h a d F (ks κ).heap.size)) (bx_A ci ns h a d F (ks κ).heap.size)) (ka κ) (ks κ) 0 0 (bx_A ci ns h a d F (ks κ).heap.size)
def bx_Qs (κ : bx_K) (post : Int32 → Prop) : State → Prop := MQ (kb κ) (va_Qi (fun x (_ : Unit) => post x) (fun _ _ => True) (fun _ => False)) (ka κ) (ks κ) 0 0 (fun _ => False)
section BXH
variable {κ : bx_K} {Q : State → Prop} {nL ci : Nat} {ns : List Nat} {Cn : String} {T : u_T} {D : va_G} {d : ClassId} {h : Nat} {a : Nat → Nat} {A : Nat → Prop} {F F0 : bx_F} {pc : Nat} {vs vs' st rest : List Value} {cc : ByteArray}

theorem g_get (C : bx_C κ cc nL ci ns Cn T D d) {index : Nat} (k : Nat) (hk : k < ns.length) (hlink : Cond.fieldLink Cn index Cn (T k).2.1 (T k).2.2.1 ∈ lw_all) (hT : (T k).1 = Cn) (hdg : decode cc pc = .ok (.getfield index, 3)) (kk : bx_G κ Q nL 0 0 (bx_S D ci ns h a d A (ks κ).heap F) (pc + 3) vs (.ref (a k) :: st)) : bx_G κ Q nL 0 0 (bx_S D ci ns h a d A (ks κ).heap F) pc vs (.ref h :: st) := by
  intro H locs ls hS hl
  obtain ⟨hx, hb, hml, hts, hown, hK, hin, hc⟩ := C
  refine va_get (D := D) (ci := ci) (v := .ref (a k)) (C := Cn) (T := T) (N := ns.length) hx hb hts hin hown hK hS.1 0 (fs := (List.range ns.length).map (fun k => Value.ref (a k))) rfl hc k hk (hts _ hlink) (fun x q => by rw [hT] at q; exact q) ?_ hdg (kk H locs ls hS hl)
  rw [List.getElem?_map, List.getElem?_range hk]
  rfl
theorem g_ld (C : bx_C κ cc nL ci ns Cn T D d) (k n : Nat) {j : Nat} (hn : ns[k]? = some n) (hj : j < n) (hn2 : n < 2 ^ 31) (hdg : decode cc pc = .ok (.iaload, 1)) (kk : bx_G κ Q nL 0 0 (bx_S D ci ns h a d A (ks κ).heap F) (pc + 1) vs (.int (F k j) :: st)) : bx_G κ Q nL 0 0 (bx_S D ci ns h a d A (ks κ).heap F) pc vs (.int (nI j) :: .ref (a k) :: st) := by
  intro H locs ls hS hl
  obtain ⟨hx, hb, hml, hts, hown, hK, hin, hc⟩ := C
  refine va_iald hx hb hK hS.1 (k + 1) 0 (bx_w_arr hn) rfl (vp_in_nI hj hn2) hdg ?_
  rw [nI_clamp (by omega)]
  exact kk H locs ls hS hl
theorem g_st (C : bx_C κ cc nL ci ns Cn T D d) (k n : Nat) {j : Nat} {x : Int32} (hn : ns[k]? = some n) (hj : j < n) (hn2 : n < 2 ^ 31) (hdg : decode cc pc = .ok (.iastore, 1)) (kk : bx_G κ Q nL 0 0 (bx_S D ci ns h a d A (ks κ).heap (va_up F k (upd (F k) j x))) (pc + 1) vs st) : bx_G κ Q nL 0 0 (bx_S D ci ns h a d A (ks κ).heap F) pc vs (.int x :: .int (nI j) :: .ref (a k) :: st) := by
  intro H locs ls hS hl
  obtain ⟨hx, hb, hml, hts, hown, hK, hin, hc⟩ := C
  refine va_iast hx hb hK hS.1 hS.2.1 hS.2.2 (k + 1) 0 (bx_w_arr hn) rfl (vp_in_nI hj hn2) hdg fun H1 locs1 hP hD hS1 => ?_
  rw [nI_clamp (by omega), bx_w_set hn] at hP hD
  exact kk H1 locs1 ls ⟨hP, hD, hS1⟩ hl
theorem g_calli (C : bx_C κ cc nL ci ns Cn T D d) (hA : ∀ q, (ks κ).heap.size ≤ q → A q) {y : MethodName} {b : ByteArray} {L n idx : Nat} {r : FieldType} {rm : Room} {As : List Value} {post : Int32 → bx_F → Prop} (hM : bx_Mi (kl κ) y b L r rm D ci ns h a d F As post) (hq : GoodIn lw_all (wsV Cn idx Cn y (ws_ y b L (some r)))) (hd : y.cls = Cn ∧ y.cls ≠ "java/lang/invoke/MethodHandle" ∧ y.cls ≠ "java/lang/invoke/VarHandle" ∧ (parseMethodDescriptor y.desc).map (fun d => d.parameters.length) = some n) (hn : As.length = n) (hrm : rm.cells = 0 ∧ rm.slots = 0) (hR : rm.frames + 1 ≤ (kR κ).frames ∧ 8 + (L + 11) + rm.locals ≤ (kR κ).locals) (hst : st = As.reverse ++ .ref h :: rest) (hw : (rest.map fun v => v.category).sum ≤ 8) (hdg : decode cc pc = .ok (.invokevirtual idx, 3)) (kk : ∀ (x : Int32) (u : bx_F), post x u → bx_G κ Q nL 0 0 (bx_S D ci ns h a d A (ks κ).heap u) (pc + 3) vs (.int x :: rest)) : bx_G κ Q nL 0 0 (bx_S D ci ns h a d A (ks κ).heap F) pc vs st := by
  intro H locs ls hS hl
  obtain ⟨hx, hb, hml, hts, hown, hK, hin, hc⟩ := C
  obtain ⟨hP, hD, hS⟩ := hS
  subst hst
  have hFc : ∀ q, bx_A ci ns h a d F H.size q → A q := by
    intro q hq
    rcases hq with ⟨k, e, hk⟩ | hq
    · exact hD.2 k _ hk
    · exact hA q (Nat.le_trans hS.1 hq)
  refine va_calli (va_runV (As := As) (rest := rest) ⟨hx, hb, hml, hown, hts⟩ (hM H.size) (cwV n hts hq rfl hrm.1 hrm.2 hd hR) ⟨fun a0 U g mk q => ?_, va_recv hK hP hc (q0 := 0) rfl, fun U hU hW => ⟨rfl, by rw [hU], by rw [hU]; exact hP, va_K.moved hW.alike hK, hD.weaken (fun _ _ _ _ => trivial)⟩⟩ rfl hn hl.1 rfl (lv_room hw) hdg ⟨Nat.zero_le _, Nat.zero_le _⟩) hS (fun q _ hq => hFc q hq) hFc (fun x u t H1 locs1 ht hvm hpost hB hz hk hS1 => kk x u hpost H1 locs1 ls ⟨by rw [← ht]; exact hB.1, hB.2.2.weaken (fun _ _ _ q => hFc _ q), hS1⟩ hl)
  obtain ⟨q0, q1, qP, qK, qD⟩ := q
  exact ⟨q0, q1, qP, va_K.moved (u := U) (U := U.calling g mk a0) (Vm.Alike.refl U.vm) qK, qD⟩
theorem g_callv (C : bx_C κ cc nL ci ns Cn T D d) (hA : ∀ q, (ks κ).heap.size ≤ q → A q) {y : MethodName} {b : ByteArray} {L n idx : Nat}  {rm : Room} {As : List Value} {post : bx_F → Prop} (hM : bx_Mv (kl κ) y b L rm D ci ns h a d F As post) (hq : GoodIn lw_all (wsV Cn idx Cn y (ws_ y b L none))) (hd : y.cls = Cn ∧ y.cls ≠ "java/lang/invoke/MethodHandle" ∧ y.cls ≠ "java/lang/invoke/VarHandle" ∧ (parseMethodDescriptor y.desc).map (fun d => d.parameters.length) = some n) (hn : As.length = n) (hrm : rm.cells = 0 ∧ rm.slots = 0) (hR : rm.frames + 1 ≤ (kR κ).frames ∧ 8 + (L + 11) + rm.locals ≤ (kR κ).locals) (hst : st = As.reverse ++ .ref h :: rest) (hw : (rest.map fun v => v.category).sum ≤ 8) (hdg : decode cc pc = .ok (.invokevirtual idx, 3)) (kk : ∀ (u : bx_F), post u → bx_G κ Q nL 0 0 (bx_S D ci ns h a d A (ks κ).heap u) (pc + 3) vs rest) : bx_G κ Q nL 0 0 (bx_S D ci ns h a d A (ks κ).heap F) pc vs st := by
  intro H locs ls hS hl
  obtain ⟨hx, hb, hml, hts, hown, hK, hin, hc⟩ := C
  obtain ⟨hP, hD, hS⟩ := hS
  subst hst
  have hFc : ∀ q, bx_A ci ns h a d F H.size q → A q := by
    intro q hq
    rcases hq with ⟨k, e, hk⟩ | hq
    · exact hD.2 k _ hk
    · exact hA q (Nat.le_trans hS.1 hq)
  refine va_callv (va_runV (As := As) (rest := rest) ⟨hx, hb, hml, hown, hts⟩ (hM H.size) (cwV n hts hq rfl hrm.1 hrm.2 hd hR) ⟨fun a0 U g mk q => ?_, va_recv hK hP hc (q0 := 0) rfl, fun U hU hW => ⟨rfl, by rw [hU], by rw [hU]; exact hP, va_K.moved hW.alike hK, hD.weaken (fun _ _ _ _ => trivial)⟩⟩ rfl hn hl.1 rfl (lv_room hw) hdg ⟨Nat.zero_le _, Nat.zero_le _⟩) hS (fun q _ hq => hFc q hq) hFc (fun u t H1 locs1 ht hvm hpost hB hz hk hS1 => kk u hpost H1 locs1 ls ⟨by rw [← ht]; exact hB.1, hB.2.2.weaken (fun _ _ _ q => hFc _ q), hS1⟩ hl)
  obtain ⟨q0, q1, qP, qK, qD⟩ := q
  exact ⟨q0, q1, qP, va_K.moved (u := U) (U := U.calling g mk a0) (Vm.Alike.refl U.vm) qK, qD⟩
theorem g_callS (C : bx_C κ cc nL ci ns Cn T D d) {y : MethodName} {b : ByteArray} {L n idx : Nat} {r : FieldType} {rm : Room} {As : List Value} {post : Int32 → Prop} (hM : bx_Ms (kl κ) y b L r rm As post) (hq : GoodIn lw_all (va_wsS Cn idx y (ws_ y b L (some r)))) (hd : y.cls ≠ "java/lang/invoke/MethodHandle" ∧ y.cls ≠ "java/lang/invoke/VarHandle" ∧ (parseMethodDescriptor y.desc).map (fun d => d.parameters.length) = some n) (hn : As.length = n) (hrm : rm.cells = 0 ∧ rm.slots = 0) (hR : rm.frames + 1 ≤ (kR κ).frames ∧ 8 + (L + 11) + rm.locals ≤ (kR κ).locals) (hst : st = As.reverse ++ rest) (hw : (rest.map fun v => v.category).sum ≤ 8) (hdg : decode cc pc = .ok (.invokestatic idx, 3)) (kk : ∀ (x : Int32), post x → bx_G κ Q nL 0 0 (bx_S D ci ns h a d A (ks κ).heap F) (pc + 3) vs (.int x :: rest)) : bx_G κ Q nL 0 0 (bx_S D ci ns h a d A (ks κ).heap F) pc vs st := by
  intro H locs ls hS hl
  obtain ⟨hx, hb, hml, hts, hown, hK, hin, hc⟩ := C
  obtain ⟨hP, hD, hS⟩ := hS
  subst hst
  exact va_calli (va_runS (As := As) (rest := rest) ⟨hx, hb, hml, hown, hts⟩ hM (va_cwS n hts hq rfl hrm.1 hrm.2 hd hR) ⟨fun a0 U g mk q => ⟨q.1, trivial⟩, fun U hU hW => ⟨rfl, trivial⟩⟩ rfl hn hl.1 rfl (lv_room hw) hdg ⟨Nat.zero_le _, Nat.zero_le _⟩) hS (fun q _ hq => False.elim hq) (fun q hq => False.elim hq) (fun x u t H1 locs1 ht hvm hpost hB hz hk hS1 => kk x hpost H1 locs1 ls ⟨hP.kept (fun k q hq => hk q.1 (hP k q hq).lt (fun z => z)), hD, hS1⟩ hl)
theorem g_iret (C : bx_C κ cc nL ci ns Cn T D d) (hr : (kh κ).sig.returnType = some .int) (hlk : (kh κ).locks = false) {v : Int32} {post : Int32 → bx_F → Prop} (hp : post v F) (hdg : decode cc pc = .ok (.ireturn, 1)) : bx_G κ (bx_Qi κ D ci ns h a d F0 post) nL 0 0 (bx_S D ci ns h a d (bx_A ci ns h a d F0 (ks κ).heap.size) (ks κ).heap F) pc vs [.int v] := by
  intro H locs ls hS hl
  obtain ⟨hx, hb, hml, hts, hown, hK, hin, hc⟩ := C
  obtain ⟨hP, hD, hS⟩ := hS
  exact W.iret (v := v) hx hb hr (fun t ht hW => ⟨⟨v, F, rfl, hp, by rw [ht]; exact hP, va_K.moved hW.alike hK, hD⟩, hS.F ht⟩) hS.2.2 hdg hlk
theorem g_zret (C : bx_C κ cc nL ci ns Cn T D d) {ty : FieldType} (hr : (kh κ).sig.returnType = some ty) (hlk : (kh κ).locks = false) {v : Int32} {post : Int32 → bx_F → Prop} (hnr : narrow ty (.int v) = .int v) (hp : post v F) (hdg : decode cc pc = .ok (.ireturn, 1)) : bx_G κ (bx_Qi κ D ci ns h a d F0 post) nL 0 0 (bx_S D ci ns h a d (bx_A ci ns h a d F0 (ks κ).heap.size) (ks κ).heap F) pc vs [.int v] := by
  intro H locs ls hS hl
  obtain ⟨hx, hb, hml, hts, hown, hK, hin, hc⟩ := C
  obtain ⟨hP, hD, hS⟩ := hS
  exact W.zret (v := v) hx hb hr hnr (fun t ht hW => ⟨⟨v, F, rfl, hp, by rw [ht]; exact hP, va_K.moved hW.alike hK, hD⟩, hS.F ht⟩) hS.2.2 hdg hlk
theorem g_vret (C : bx_C κ cc nL ci ns Cn T D d) (hr : (kh κ).sig.returnType = none) (hlk : (kh κ).locks = false) {post : bx_F → Prop} (hp : post F) (hdg : decode cc pc = .ok (.return_, 1)) : bx_G κ (bx_Qv κ D ci ns h a d F0 post) nL 0 0 (bx_S D ci ns h a d (bx_A ci ns h a d F0 (ks κ).heap.size) (ks κ).heap F) pc vs [] := by
  intro H locs ls hS hl
  obtain ⟨hx, hb, hml, hts, hown, hK, hin, hc⟩ := C
  obtain ⟨hP, hD, hS⟩ := hS
  exact W.vret hx hb hr (fun t ht hW => ⟨⟨F, rfl, hp, by rw [ht]; exact hP, va_K.moved hW.alike hK, hD⟩, hS.F ht⟩) hS.2.2 hdg hlk
theorem g_sret {ty : FieldType} (hx : (kp κ).tables.exec = Jvm.exec) (hb : (kc κ).code = cc) (hr : (kh κ).sig.returnType = some ty) (hlk : (kh κ).locks = false) {v : Int32} {post : Int32 → Prop} (hnr : narrow ty (.int v) = .int v) (hp : post v) (hdg : decode cc pc = .ok (.ireturn, 1)) : bx_G κ (bx_Qs κ post) nL 0 0 (fun H locs => va_S (fun _ => False) (ks κ).heap H locs) pc vs [.int v] := by
  intro H locs ls hS hl
  exact W.zret (v := v) hx hb hr hnr (fun t ht hW => ⟨⟨v, (), rfl, hp, trivial⟩, va_S.F hS ht⟩) hS.2.2 hdg hlk
theorem g_meti {l : Launch} {y : MethodName} {b : ByteArray} {L : Nat} {r : FieldType} {rm : Room} {As : List Value} {post : Int32 → bx_F → Prop} (hy : plainName y.cls = true) (hcls : y.cls = Cn) (hin : ∀ w ∈ u_ws Cn T ns.length, w ∈ lw_all) (hc : vwCl[ci]? = some (Cn, T, ns.length)) (hcat : ∀ v ∈ As, v.category = 1) (k : Nat) (hL : As.length + 1 + k = L) (body : ∀ κ : bx_K, kl κ = l → kR κ = rm → bx_C κ b L ci ns Cn T D d → (kh κ).sig.returnType = (some r) → (kh κ).locks = false → bx_G κ (bx_Qi κ D ci ns h a d F post) L 0 0 (bx_S D ci ns h a d (bx_A ci ns h a d F (ks κ).heap.size) (ks κ).heap F) 0 ((.ref h :: As) ++ List.replicate k .null) []) : bx_Mi l y b L r rm D ci ns h a d F As post := by
  intro sz
  refine Met.ofW (cc := b) (maxL := L) (ret := (some r)) hy rfl ?_
  intro p e s m args below meth c s₁ B hml hv
  obtain ⟨rfl, hsz, hP, hK, hD0⟩ := hv
  have hts := atoms_spec (ws := ws_ y b L (some r)) B.pre
  have hts : ∀ w ∈ lw_all, w.before _ s = true := fun w h => hts w (List.mem_cons_of_mem _ h)
  have hown : s.vm.findClass Cn = some m.cls := hcls ▸ findClass_of_methodNamed B.named
  subst hsz
  have hc2 : ∀ v ∈ (Value.ref h :: As), v.category = 1 := fun v hv => by
    rcases List.mem_cons.mp hv with e | e
    · subst e; rfl
    · exact hcat v e
  have hsl : ∀ (av : List Value), (∀ v ∈ av, v.category = 1) → (lg_sl av).length = av.length := by
    intro av
    induction av with
    | nil => intro _; rfl
    | cons w t ih =>
      intro hc
      have hw : w.category = 1 := hc w List.mem_cons_self
      have hn : ¬ w.category = 2 := by omega
      have := ih (fun v hv => hc v (List.mem_cons_of_mem _ hv))
      unfold lg_sl at this ⊢
      rw [List.flatMap_cons, if_neg hn, List.length_append, this]
      simp
      omega
  have hl := lv_entry (Value.ref h :: As) (n := L) (by rw [hsl _ hc2]; simp; omega)
  rw [lg_entry_eq]
  exact body (p, l, e, rm, s, m, (Value.ref h :: As).toArray, below, meth, c) rfl rfl ⟨B.exec, B.bytes, hml, hts, hown, hK, hin, hc⟩ B.returns B.notSynchronized s.heap [] _ ⟨hP, hD0.self, va_S.rf⟩ (bx_L.entry hl hc2)
theorem g_metv {l : Launch} {y : MethodName} {b : ByteArray} {L : Nat}  {rm : Room} {As : List Value} {post : bx_F → Prop} (hy : plainName y.cls = true) (hcls : y.cls = Cn) (hin : ∀ w ∈ u_ws Cn T ns.length, w ∈ lw_all) (hc : vwCl[ci]? = some (Cn, T, ns.length)) (hcat : ∀ v ∈ As, v.category = 1) (k : Nat) (hL : As.length + 1 + k = L) (body : ∀ κ : bx_K, kl κ = l → kR κ = rm → bx_C κ b L ci ns Cn T D d → (kh κ).sig.returnType = none → (kh κ).locks = false → bx_G κ (bx_Qv κ D ci ns h a d F post) L 0 0 (bx_S D ci ns h a d (bx_A ci ns h a d F (ks κ).heap.size) (ks κ).heap F) 0 ((.ref h :: As) ++ List.replicate k .null) []) : bx_Mv l y b L rm D ci ns h a d F As post := by
  intro sz
  refine Met.ofW (cc := b) (maxL := L) (ret := none) hy rfl ?_
  intro p e s m args below meth c s₁ B hml hv
  obtain ⟨rfl, hsz, hP, hK, hD0⟩ := hv
  have hts := atoms_spec (ws := ws_ y b L none) B.pre
  have hts : ∀ w ∈ lw_all, w.before _ s = true := fun w h => hts w (List.mem_cons_of_mem _ h)
  have hown : s.vm.findClass Cn = some m.cls := hcls ▸ findClass_of_methodNamed B.named
  subst hsz
  have hc2 : ∀ v ∈ (Value.ref h :: As), v.category = 1 := fun v hv => by
    rcases List.mem_cons.mp hv with e | e
    · subst e; rfl
    · exact hcat v e
  have hsl : ∀ (av : List Value), (∀ v ∈ av, v.category = 1) → (lg_sl av).length = av.length := by
    intro av
    induction av with
    | nil => intro _; rfl
    | cons w t ih =>
      intro hc
      have hw : w.category = 1 := hc w List.mem_cons_self
      have hn : ¬ w.category = 2 := by omega
      have := ih (fun v hv => hc v (List.mem_cons_of_mem _ hv))
      unfold lg_sl at this ⊢
      rw [List.flatMap_cons, if_neg hn, List.length_append, this]
      simp
      omega
  have hl := lv_entry (Value.ref h :: As) (n := L) (by rw [hsl _ hc2]; simp; omega)
  rw [lg_entry_eq]
  exact body (p, l, e, rm, s, m, (Value.ref h :: As).toArray, below, meth, c) rfl rfl ⟨B.exec, B.bytes, hml, hts, hown, hK, hin, hc⟩ B.returns B.notSynchronized s.heap [] _ ⟨hP, hD0.self, va_S.rf⟩ (bx_L.entry hl hc2)
theorem g_metS {l : Launch} {y : MethodName} {b : ByteArray} {L : Nat} {r : FieldType} {rm : Room} {As : List Value} {post : Int32 → Prop} (hy : plainName y.cls = true) (hcat : ∀ v ∈ As, v.category = 1) (k : Nat) (hL : As.length + k = L) (body : ∀ κ : bx_K, kl κ = l → kR κ = rm → (kp κ).tables.exec = Jvm.exec → (kc κ).code = b → (kh κ).sig.returnType = some r → (kh κ).locks = false → bx_G κ (bx_Qs κ post) L 0 0 (fun H locs => va_S (fun _ => False) (ks κ).heap H locs) 0 (As ++ List.replicate k .null) []) : bx_Ms l y b L r rm As post := by
  refine Met.ofW (cc := b) (maxL := L) (ret := some r) hy rfl ?_
  intro p e s m args below meth c s₁ B hml hv
  obtain ⟨rfl, -⟩ := hv
  have hsl : ∀ (av : List Value), (∀ v ∈ av, v.category = 1) → (lg_sl av).length = av.length := by
    intro av
    induction av with
    | nil => intro _; rfl
    | cons w t ih =>
      intro hc
      have hw : w.category = 1 := hc w List.mem_cons_self
      have hn : ¬ w.category = 2 := by omega
      have := ih (fun v hv => hc v (List.mem_cons_of_mem _ hv))
      unfold lg_sl at this ⊢
      rw [List.flatMap_cons, if_neg hn, List.length_append, this]
      simp
      omega
  have hl := lv_entry As (n := L) (by rw [hsl _ hcat]; omega)
  rw [lg_entry_eq]
  exact body (p, l, e, rm, s, m, As.toArray, below, meth, c) rfl rfl B.exec B.bytes B.returns B.notSynchronized s.heap [] _ va_S.rf (bx_L.entry hl hcat)
end BXH
end
section
/-! PLAIN LAWS, no program in sight: counts, sums, best of a window, the queue of candidates -/
/-- how many j below n have p -/
def cn_ (p : Nat → Bool) : Nat → Nat
  | 0 => 0
  | n + 1 => cn_ p n + (if p n = true then 1 else 0)
theorem cn_congr {p q : Nat → Bool} {n : Nat} (h : ∀ j, j < n → p j = q j) : cn_ p n = cn_ q n := by
  induction n with
  | zero => rfl
  | succ n ih =>
    unfold cn_
    rw [ih (fun j hj => h j (by omega)), h n (by omega)]
theorem cn_le (p : Nat → Bool) (n : Nat) : cn_ p n ≤ n := by
  induction n with
  | zero => exact Nat.le_refl _
  | succ n ih =>
    unfold cn_
    split <;> omega
theorem cn_t {p : Nat → Bool} {n : Nat} (h : p n = true) : cn_ p (n + 1) = cn_ p n + 1 := by
  show cn_ p n + (if p n = true then 1 else 0) = _
  rw [if_pos h]
theorem cn_f {p : Nat → Bool} {n : Nat} (h : ¬ p n = true) : cn_ p (n + 1) = cn_ p n := by
  show cn_ p n + (if p n = true then 1 else 0) = _
  rw [if_neg h]; rfl
/-- the sum of f below n -/
def sm_ (f : Nat → Int32) : Nat → Int32
  | 0 => 0
  | n + 1 => sm_ f n + f n
theorem sm_s (f : Nat → Int32) (n : Nat) : sm_ f (n + 1) = sm_ f n + f n := rfl
theorem sm_congr {f g : Nat → Int32} {n : Nat} (h : ∀ j, j < n → f j = g j) : sm_ f n = sm_ g n := by
  induction n with
  | zero => rfl
  | succ n ih =>
    unfold sm_
    rw [ih (fun j hj => h j (by omega)), h n (by omega)]
theorem sm_sub (f g : Nat → Int32) (n : Nat) : sm_ (fun j => f j - g j) n = sm_ f n - sm_ g n := by
  induction n with
  | zero => show (0 : Int32) = 0 - 0; decide
  | succ n ih =>
    rw [sm_s, sm_s, sm_s, ih]
    grind
theorem sm_0 (n : Nat) : sm_ (fun _ => 0) n = 0 := by
  induction n with
  | zero => rfl
  | succ n ih => rw [sm_s, ih]; rfl
/-- x is as good as y: as great (true) or as small (false) -/
def ge_ : Bool → Int32 → Int32 → Prop
  | true, x, y => y ≤ x
  | false, x, y => x ≤ y
theorem ge_refl (g : Bool) (x : Int32) : ge_ g x x := by cases g <;> exact Int32.le_refl x
theorem ge_trans {g : Bool} {x y z : Int32} (h1 : ge_ g x y) (h2 : ge_ g y z) : ge_ g x z := by
  cases g
  · exact Int32.le_trans (show x ≤ y from h1) (show y ≤ z from h2)
  · exact Int32.le_trans (show z ≤ y from h2) (show y ≤ x from h1)
theorem ge_total (g : Bool) (x y : Int32) : ge_ g x y ∨ ge_ g y x := by
  cases g
  · exact Int32.le_total x y
  · exact Int32.le_total y x
theorem ge_of_not {g : Bool} {x y : Int32} (h : ¬ ge_ g x y) : ge_ g y x := (ge_total g x y).resolve_left h
theorem ge_anti {g : Bool} {x y : Int32} (h1 : ge_ g x y) (h2 : ge_ g y x) : x = y := by
  cases g
  · exact Int32.le_antisymm (show x ≤ y from h1) (show y ≤ x from h2)
  · exact Int32.le_antisymm (show x ≤ y from h2) (show y ≤ x from h1)
/-- b is the best of f on P -/
def Best (g : Bool) (P : Nat → Prop) (f : Nat → Int32) (b : Int32) : Prop := (∃ k, P k ∧ b = f k) ∧ ∀ k, P k → ge_ g b (f k)
theorem Best.uniq {g : Bool} {P : Nat → Prop} {f : Nat → Int32} {b c : Int32} (h1 : Best g P f b) (h2 : Best g P f c) : b = c := by
  obtain ⟨⟨k, hk, e⟩, h1⟩ := h1
  obtain ⟨⟨j, hj, e2⟩, h2⟩ := h2
  refine ge_anti (g := g) ?_ ?_
  · rw [e2]; exact h1 j hj
  · rw [e]; exact h2 k hk
theorem Best.congr {g : Bool} {P P' : Nat → Prop} {f f' : Nat → Int32} {b : Int32} (h : Best g P f b) (hP : ∀ k, P k ↔ P' k) (hf : ∀ k, P k → f k = f' k) : Best g P' f' b := by
  obtain ⟨⟨k, hk, e⟩, h1⟩ := h
  refine ⟨⟨k, (hP k).mp hk, by rw [e, hf k hk]⟩, fun j hj => ?_⟩
  have hj' := (hP j).mpr hj
  rw [← hf j hj']
  exact h1 j hj'
/-- k lies in the window of t along a line of sixteen -/
def w1_ (half t k : Nat) : Prop := k < 16 ∧ t ≤ k + half ∧ k ≤ t + half
/-- pixel q lies in the window of pixel i -/
def w2_ (w h i q : Nat) : Prop := q < 256 ∧ w1_ h (i / 16) (q / 16) ∧ w1_ w (i % 16) (q % 16)
theorem best_sep {g : Bool} {w h : Nat} {f f1 f2 : Nat → Int32} (h1 : ∀ j, j < 256 → Best g (w1_ w (j % 16)) (fun k => f (j / 16 * 16 + k)) (f1 j)) (h2 : ∀ j, j < 256 → Best g (w1_ h (j / 16)) (fun k => f1 (k * 16 + j % 16)) (f2 j)) : ∀ j, j < 256 → Best g (w2_ w h j) f (f2 j) := by
  intro j hj
  obtain ⟨⟨k, hk, e⟩, ha⟩ := h2 j hj
  have hk16 : k < 16 := hk.1
  have d1 : (k * 16 + j % 16) / 16 = k := by omega
  have m1 : (k * 16 + j % 16) % 16 = j % 16 := by omega
  obtain ⟨⟨k2, hk2, e2⟩, hb⟩ := h1 (k * 16 + j % 16) (by omega)
  rw [m1] at hk2
  simp only [d1] at e2
  have hk216 : k2 < 16 := hk2.1
  have d2 : (k * 16 + k2) / 16 = k := by omega
  have m2 : (k * 16 + k2) % 16 = k2 := by omega
  refine ⟨⟨k * 16 + k2, ⟨by omega, by rw [d2]; exact hk, by rw [m2]; exact hk2⟩, e.trans e2⟩, fun q hq => ?_⟩
  obtain ⟨hq0, hqr, hqc⟩ := hq
  have d3 : (q / 16 * 16 + j % 16) / 16 = q / 16 := by omega
  have m3 : (q / 16 * 16 + j % 16) % 16 = j % 16 := by omega
  have hr := ha (q / 16) hqr
  have hc := (h1 (q / 16 * 16 + j % 16) (by omega)).2 (q % 16) (by rw [m3]; exact hqc)
  simp only [d3] at hc
  rw [show q / 16 * 16 + q % 16 = q by omega] at hc
  exact ge_trans hr hc
/-- the queue at place i: its candidates hd .. tl - 1 are the places qq, all before i, in the window of the last centre, each better than those behind it; every place in that window is outdone by one of them that isn't before it -/
def fl_I (g : Bool) (half : Nat) (L : Nat → Int32) (i hd tl : Nat) (qq : Nat → Nat) : Prop :=
  hd ≤ tl ∧ tl ≤ i ∧ tl ≤ 16 ∧ (0 < i → hd < tl ∧ qq (tl - 1) + 1 = min i 16) ∧
  (∀ j, hd ≤ j → j < tl → qq j < i ∧ qq j < 16 ∧ i ≤ qq j + 2 * half + 1) ∧
  (∀ j j', hd ≤ j → j < j' → j' < tl → qq j < qq j' ∧ ¬ ge_ g (L (qq j')) (L (qq j))) ∧
  (∀ k, k < i → k < 16 → i ≤ k + 2 * half + 1 → ∃ j, hd ≤ j ∧ j < tl ∧ k ≤ qq j ∧ ge_ g (L (qq j)) (L k))
/-- the same behind the entry of place i -/
def fl_J (g : Bool) (half : Nat) (L : Nat → Int32) (i hd tl : Nat) (qq : Nat → Nat) : Prop :=
  hd < tl ∧ tl ≤ i + 1 ∧ tl ≤ 16 ∧ qq (tl - 1) + 1 = min (i + 1) 16 ∧
  (∀ j, hd ≤ j → j < tl → qq j < i + 1 ∧ qq j < 16 ∧ i ≤ qq j + 2 * half + 1) ∧
  (∀ j j', hd ≤ j → j < j' → j' < tl → qq j < qq j' ∧ ¬ ge_ g (L (qq j')) (L (qq j))) ∧
  (∀ k, k < i + 1 → k < 16 → i ≤ k + 2 * half + 1 → ∃ j, hd ≤ j ∧ j < tl ∧ k ≤ qq j ∧ ge_ g (L (qq j)) (L k))
/-- candidates tl .. t0 - 1 are already taken off, outdone by place i -/
def fl_P (g : Bool) (half : Nat) (L : Nat → Int32) (i hd tl t0 : Nat) (qq : Nat → Nat) : Prop :=
  fl_I g half L i hd t0 qq ∧ hd ≤ tl ∧ tl ≤ t0 ∧ ∀ j, tl ≤ j → j < t0 → ge_ g (L i) (L (qq j))
theorem fl_0 (g : Bool) (half : Nat) (L : Nat → Int32) (qq : Nat → Nat) : fl_I g half L 0 0 0 qq :=
  ⟨Nat.le_refl _, Nat.le_refl _, by decide, fun h => absurd h (by decide), fun j _ h => absurd h (Nat.not_lt_zero _), fun j j' _ _ h => absurd h (Nat.not_lt_zero _), fun k h => absurd h (Nat.not_lt_zero _)⟩
theorem fl_P0 {g : Bool} {half : Nat} {L : Nat → Int32} {i hd tl : Nat} {qq : Nat → Nat} (h : fl_I g half L i hd tl qq) : fl_P g half L i hd tl tl qq := ⟨h, h.1, Nat.le_refl _, fun j h1 h2 => by omega⟩
theorem fl_pop {g : Bool} {half : Nat} {L : Nat → Int32} {i hd tl t0 : Nat} {qq : Nat → Nat} (h : fl_P g half L i hd tl t0 qq) (h1 : hd < tl) (h2 : ge_ g (L i) (L (qq (tl - 1)))) : fl_P g half L i hd (tl - 1) t0 qq := by
  obtain ⟨hI, a1, a2, a3⟩ := h
  refine ⟨hI, by omega, by omega, fun j b1 b2 => ?_⟩
  by_cases e : j = tl - 1
  · rw [e]; exact h2
  · exact a3 j (by omega) b2
theorem fl_push {g : Bool} {half : Nat} {L : Nat → Int32} {i hd tl t0 : Nat} {qq q2 : Nat → Nat} (h : fl_P g half L i hd tl t0 qq) (hi : i < 16) (hx : tl = hd ∨ ¬ ge_ g (L i) (L (qq (tl - 1)))) (hq : ∀ j, q2 j = if j = tl then i else qq j) : fl_J g half L i hd (tl + 1) q2 := by
  obtain ⟨⟨b1, b2, b3, b4, b5, b6, b7⟩, a1, a2, a3⟩ := h
  have qt : q2 tl = i := by rw [hq]; simp
  have qo : ∀ j, j < tl → q2 j = qq j := fun j hj => by rw [hq, if_neg (by omega)]
  refine ⟨by omega, by omega, by omega, ?_, ?_, ?_, ?_⟩
  · rw [show tl + 1 - 1 = tl by omega, qt]; omega
  · intro j c1 c2
    by_cases e : j = tl
    · rw [e, qt]; omega
    · rw [qo j (by omega)]
      have := b5 j c1 (by omega)
      omega
  · intro j j' c1 c2 c3
    rw [qo j (by omega)]
    by_cases e : j' = tl
    · rw [e, qt]
      refine ⟨(b5 j c1 (by omega)).1, fun hge => ?_⟩
      rcases hx with hx | hx
      · omega
      · by_cases e2 : j = tl - 1
        · rw [e2] at hge; exact hx hge
        · exact (b6 j (tl - 1) c1 (by omega) (by omega)).2 (ge_trans (ge_of_not hx) hge)
    · rw [qo j' (by omega)]
      exact b6 j j' c1 c2 (by omega)
  · intro k c1 c2 c3
    by_cases e : k = i
    · exact ⟨tl, by omega, by omega, by rw [qt]; omega, by rw [qt, e]; exact ge_refl _ _⟩
    · obtain ⟨j, d1, d2, d3, d4⟩ := b7 k (by omega) c2 c3
      by_cases e2 : j < tl
      · exact ⟨j, d1, by omega, by rw [qo j e2]; exact d3, by rw [qo j e2]; exact d4⟩
      · exact ⟨tl, by omega, by omega, by rw [qt]; omega, by rw [qt]; exact ge_trans (a3 j (by omega) d2) d4⟩
theorem fl_full {g : Bool} {half : Nat} {L : Nat → Int32} {i hd tl : Nat} {qq : Nat → Nat} (h : fl_I g half L i hd tl qq) (hi : 16 ≤ i) : fl_J g half L i hd tl qq := by
  obtain ⟨b1, b2, b3, b4, b5, b6, b7⟩ := h
  have b4 := b4 (by omega)
  refine ⟨b4.1, by omega, b3, by omega, fun j c1 c2 => ?_, b6, fun k c1 c2 c3 => b7 k (by omega) c2 c3⟩
  have := b5 j c1 c2
  omega
theorem fl_low {g : Bool} {half : Nat} {L : Nat → Int32} {i hd tl : Nat} {qq : Nat → Nat} (h : fl_J g half L i hd tl qq) {j : Nat} (h1 : hd ≤ j) (h2 : j < tl) : qq hd ≤ qq j := by
  obtain ⟨b1, b2, b3, b4, b5, b6, b7⟩ := h
  by_cases e : j = hd
  · rw [e]; exact Nat.le_refl _
  · exact Nat.le_of_lt (b6 hd j (Nat.le_refl _) (by omega) h2).1
theorem fl_stay {g : Bool} {half : Nat} {L : Nat → Int32} {i hd tl : Nat} {qq : Nat → Nat} (h : fl_J g half L i hd tl qq) (hc : i < half ∨ i ≤ qq hd + 2 * half) : fl_I g half L (i + 1) hd tl qq := by
  have lo := @fl_low g half L i hd tl qq h
  obtain ⟨b1, b2, b3, b4, b5, b6, b7⟩ := h
  refine ⟨by omega, b2, b3, fun _ => ⟨b1, b4⟩, fun j c1 c2 => ?_, b6, fun k c1 c2 c3 => b7 k c1 c2 (by omega)⟩
  have := b5 j c1 c2
  have := lo c1 c2
  omega
theorem fl_leave {g : Bool} {half : Nat} {L : Nat → Int32} {i hd tl : Nat} {qq : Nat → Nat} (h : fl_J g half L i hd tl qq) (hi : i < 16 + half) (hc : qq hd + 2 * half < i) : hd + 1 < tl ∧ fl_I g half L (i + 1) (hd + 1) tl qq := by
  obtain ⟨b1, b2, b3, b4, b5, b6, b7⟩ := h
  have hb := b5 hd (Nat.le_refl _) b1
  have h1 : hd + 1 < tl := by
    by_cases e : hd + 1 = tl
    · rw [show tl - 1 = hd by omega] at b4
      omega
    · omega
  refine ⟨h1, by omega, b2, b3, fun _ => ⟨h1, b4⟩, fun j c1 c2 => ?_, fun j j' c1 c2 c3 => b6 j j' (by omega) c2 c3, fun k c1 c2 c3 => ?_⟩
  · have := b5 j (by omega) c2
    have := (b6 hd j (Nat.le_refl _) (by omega) c2).1
    omega
  · obtain ⟨j, d1, d2, d3, d4⟩ := b7 k c1 c2 (by omega)
    have : j ≠ hd := fun e => by rw [e] at d3; omega
    exact ⟨j, by omega, d2, d3, d4⟩
theorem fl_best {g : Bool} {half : Nat} {L : Nat → Int32} {i hd tl t : Nat} {qq : Nat → Nat} (h : fl_I g half L (i + 1) hd tl qq) (ht : t + half = i) : Best g (w1_ half t) L (L (qq hd)) := by
  obtain ⟨b1, b2, b3, b4, b5, b6, b7⟩ := h
  have b4 := b4 (by omega)
  have hb := b5 hd (Nat.le_refl _) b4.1
  refine ⟨⟨qq hd, ⟨by omega, by omega, by omega⟩, rfl⟩, fun k hk => ?_⟩
  obtain ⟨k1, k2, k3⟩ := hk
  obtain ⟨j, d1, d2, d3, d4⟩ := b7 k (by omega) k1 (by omega)
  by_cases e : j = hd
  · rw [e] at d4; exact d4
  · exact ge_trans (ge_of_not (b6 hd j (Nat.le_refl _) (by omega) d2).2) d4
/-- what is written of a line before place i of the scan -/
def fl_R (g : Bool) (start step half : Nat) (f : Nat → Int32) (i : Nat) (u : Nat → Int32) : Prop :=
  (∀ t, t < 16 → t + half < i → Best g (w1_ half t) (fun k => f (start + k * step)) (u (start + t * step))) ∧ ∀ j, (∀ t, t < 16 → t + half < i → j ≠ start + t * step) → u j = f j
/-- a line, filtered -/
def fl_D (g : Bool) (start step half : Nat) (f u : Nat → Int32) : Prop :=
  (∀ t, t < 16 → Best g (w1_ half t) (fun k => f (start + k * step)) (u (start + t * step))) ∧ ∀ j, (∀ t, t < 16 → j ≠ start + t * step) → u j = f j
theorem fl_R0 (g : Bool) (start step half : Nat) (f : Nat → Int32) : fl_R g start step half f 0 f := ⟨fun t _ h => absurd h (Nat.not_lt_zero _), fun _ _ => rfl⟩
theorem fl_Rlow {g : Bool} {start step half : Nat} {f u : Nat → Int32} {i : Nat} (h : fl_R g start step half f i u) (hi : i < half) : fl_R g start step half f (i + 1) u := by
  refine ⟨fun t h1 h2 => by omega, fun j hj => h.2 j (fun t h1 h2 => by omega)⟩
theorem fl_Rput {g : Bool} {start step half : Nat} {f u : Nat → Int32} {i t : Nat} {v : Int32} (h : fl_R g start step half f i u) (hs : 0 < step) (ht : t + half = i) (ht16 : t < 16) (hv : Best g (w1_ half t) (fun k => f (start + k * step)) v) : fl_R g start step half f (i + 1) (upd u (start + t * step) v) := by
  have ne : ∀ t1, t1 ≠ t → start + t1 * step ≠ start + t * step := by
    intro t1 h1 h2
    exact h1 (Nat.eq_of_mul_eq_mul_right hs (by omega))
  refine ⟨fun t1 h1 h2 => ?_, fun j hj => ?_⟩
  · by_cases e : t1 = t
    · subst e
      rw [pk_us]; exact hv
    · rw [pk_un (ne t1 e)]
      exact h.1 t1 h1 (by omega)
  · rw [pk_un (hj t ht16 (by omega))]
    exact h.2 j (fun t1 h1 h2 => hj t1 h1 (by omega))
theorem fl_Rend {g : Bool} {start step half : Nat} {f u : Nat → Int32} {i : Nat} (h : fl_R g start step half f i u) (hi : 16 + half ≤ i) : fl_D g start step half f u := ⟨fun t h1 => h.1 t h1 (by omega), fun j hj => h.2 j (fun t h1 _ => hj t h1)⟩
/-- rows below r are filtered -/
def fr_R (g : Bool) (w : Nat) (f : Nat → Int32) (r : Nat) (u : Nat → Int32) : Prop := ∀ j, j < 256 → (j / 16 < r → Best g (w1_ w (j % 16)) (fun k => f (j / 16 * 16 + k)) (u j)) ∧ (r ≤ j / 16 → u j = f j)
theorem fr_R0 (g : Bool) (w : Nat) (f : Nat → Int32) : fr_R g w f 0 f := fun j _ => ⟨fun h => absurd h (Nat.not_lt_zero _), fun _ => rfl⟩
theorem fr_Rs {g : Bool} {w r : Nat} {f u u2 : Nat → Int32} (h : fr_R g w f r u) (hr : r < 16) (hd : fl_D g (r * 16) 1 w u u2) : fr_R g w f (r + 1) u2 := by
  intro j hj
  by_cases e : j / 16 = r
  · refine ⟨fun _ => ?_, fun h2 => by omega⟩
    have := hd.1 (j % 16) (by omega)
    rw [show r * 16 + j % 16 * 1 = j by omega] at this
    refine this.congr (fun k => Iff.rfl) (fun k hk => ?_)
    have hk16 : k < 16 := hk.1
    show u (r * 16 + k * 1) = f (j / 16 * 16 + k)
    rw [show r * 16 + k * 1 = j / 16 * 16 + k by omega]
    exact (h _ (by omega)).2 (by omega)
  · have hu : u2 j = u j := hd.2 j (fun t ht => by omega)
    rw [hu]
    exact ⟨fun h2 => (h j hj).1 (by omega), fun h2 => (h j hj).2 (by omega)⟩
/-- columns below c are filtered -/
def fc_R (g : Bool) (h : Nat) (f : Nat → Int32) (c : Nat) (u : Nat → Int32) : Prop := ∀ j, j < 256 → (j % 16 < c → Best g (w1_ h (j / 16)) (fun k => f (k * 16 + j % 16)) (u j)) ∧ (c ≤ j % 16 → u j = f j)
theorem fc_R0 (g : Bool) (h : Nat) (f : Nat → Int32) : fc_R g h f 0 f := fun j _ => ⟨fun h => absurd h (Nat.not_lt_zero _), fun _ => rfl⟩
theorem fc_Rs {g : Bool} {h c : Nat} {f u u2 : Nat → Int32} (hh : fc_R g h f c u) (hr : c < 16) (hd : fl_D g c 16 h u u2) : fc_R g h f (c + 1) u2 := by
  intro j hj
  by_cases e : j % 16 = c
  · refine ⟨fun _ => ?_, fun h2 => by omega⟩
    have := hd.1 (j / 16) (by omega)
    rw [show c + j / 16 * 16 = j by omega] at this
    refine this.congr (fun k => Iff.rfl) (fun k hk => ?_)
    have hk16 : k < 16 := hk.1
    show u (c + k * 16) = f (k * 16 + j % 16)
    rw [show c + k * 16 = k * 16 + j % 16 by omega]
    exact (hh _ (by omega)).2 (by omega)
  · have hu : u2 j = u j := hd.2 j (fun t ht => by omega)
    rw [hu]
    exact ⟨fun h2 => (hh j hj).1 (by omega), fun h2 => (hh j hj).2 (by omega)⟩
/-- u is f, filtered by greatest (true) or least (false) values -/
def fi_ (g : Bool) (w h : Nat) (f u : Nat → Int32) : Prop := ∀ j, j < 256 → Best g (w2_ w h j) f (u j)
theorem fi_of {g : Bool} {w h : Nat} {f f1 f2 : Nat → Int32} (h1 : fr_R g w f 16 f1) (h2 : fc_R g h f1 16 f2) : fi_ g w h f f2 :=
  best_sep (fun j hj => (h1 j hj).1 (by omega)) (fun j hj => (h2 j hj).1 (by omega))
theorem fi_uniq {g : Bool} {w h : Nat} {f f' u u' : Nat → Int32} (h1 : fi_ g w h f u) (h2 : fi_ g w h f' u') (he : ∀ j, j < 256 → f j = f' j) : ∀ j, j < 256 → u j = u' j := by
  intro j hj
  exact ((h1 j hj).congr (fun k => Iff.rfl) (fun k hk => he k hk.1)).uniq (h2 j hj)
end
section
/-! PLAIN LAWS: means over windows, by prefix sums and by scanning -/
def S2_ (f : Nat → Int32) (r c : Nat) : Int32 := sm_ (fun p => sm_ (fun k => f (p * 16 + k)) c) r
theorem S2_s (f : Nat → Int32) (r c : Nat) : S2_ f (r + 1) c = S2_ f r c + sm_ (fun k => f (r * 16 + k)) c := rfl
theorem S2_r0 (f : Nat → Int32) (c : Nat) : S2_ f 0 c = 0 := rfl
theorem S2_c0 (f : Nat → Int32) (r : Nat) : S2_ f r 0 = 0 := sm_0 r
theorem S2_congr {f g : Nat → Int32} (h : ∀ j, j < 256 → f j = g j) {r c : Nat} (hr : r ≤ 16) (hc : c ≤ 16) : S2_ f r c = S2_ g r c := by
  unfold S2_
  refine sm_congr fun p hp => sm_congr fun k hk => h _ ?_
  omega
/-- the window of pixel i: rows mt_ .. mb_ - 1, columns ml_ .. mr_ - 1 -/
def mt_ (h i : Nat) : Nat := i / 16 - h
def mb_ (h i : Nat) : Nat := min 16 (i / 16 + h + 1)
def ml_ (w i : Nat) : Nat := i % 16 - w
def mr_ (w i : Nat) : Nat := min 16 (i % 16 + w + 1)
def me_ (f : Nat → Int32) (w h i : Nat) : Int32 := (S2_ f (mb_ h i) (mr_ w i) - S2_ f (mt_ h i) (mr_ w i) - S2_ f (mb_ h i) (ml_ w i) + S2_ f (mt_ h i) (ml_ w i)) / nI ((mb_ h i - mt_ h i) * (mr_ w i - ml_ w i))
theorem me_congr {f g : Nat → Int32} (he : ∀ j, j < 256 → f j = g j) (w h : Nat) {i : Nat} (hi : i < 256) : me_ f w h i = me_ g w h i := by
  unfold me_
  have a1 : mb_ h i ≤ 16 := by unfold mb_; omega
  have a2 : mt_ h i ≤ 16 := by unfold mt_; omega
  have a3 : mr_ w i ≤ 16 := by unfold mr_; omega
  have a4 : ml_ w i ≤ 16 := by unfold ml_; omega
  rw [S2_congr he a1 a3, S2_congr he a2 a3, S2_congr he a1 a4, S2_congr he a2 a4]
theorem mw_pos {h i : Nat} (hi : i < 256) : 0 < mb_ h i - mt_ h i ∧ mb_ h i - mt_ h i ≤ 16 := by unfold mb_ mt_; omega
theorem mc_pos (w i : Nat) : 0 < mr_ w i - ml_ w i ∧ mr_ w i - ml_ w i ≤ 16 := by unfold mr_ ml_; omega
theorem mn_pos {w h i : Nat} (hi : i < 256) : 0 < (mb_ h i - mt_ h i) * (mr_ w i - ml_ w i) ∧ (mb_ h i - mt_ h i) * (mr_ w i - ml_ w i) ≤ 256 := by
  have h1 := @mw_pos h i hi
  have h2 := mc_pos w i
  refine ⟨Nat.mul_pos h1.1 h2.1, ?_⟩
  have := Nat.mul_le_mul h1.2 h2.2
  omega
/-- clamping -/
def wi_ (v : Int32) : Int32 := if v < 0 then nI 0 else if v ≤ nI 16 then v else nI 16
theorem sx_lt {x y h : Nat} (hx : x < 2 ^ 30) (hy : y < 2 ^ 30) (hh : h < 2 ^ 30) : nI y < nI x - nI h ↔ y + h < x := by
  rw [Int32.lt_iff_toInt_lt, pk_sub_toInt hx hh, nI_toInt (by omega)]
  omega
theorem sx_neg {x h : Nat} (hx : x < 2 ^ 30) (hh : h < 2 ^ 30) : nI x - nI h < 0 ↔ x < h := by
  rw [Int32.lt_iff_toInt_lt, pk_sub_toInt hx hh]
  show (x : Int) - h < 0 ↔ _
  omega
theorem sx_inc (x h : Nat) : nI x - nI h + 1 = nI (x + 1) - nI h := by
  rw [← nI_1]; grind
theorem wi_sub {x y : Nat} (hx : x ≤ 16) (hy : y < 2 ^ 30) : wi_ (nI x - nI y) = nI (x - y) := by
  unfold wi_
  by_cases e : x < y
  · rw [if_pos ((sx_neg (by omega) hy).mpr e), show x - y = 0 by omega]
  · rw [if_neg (fun q => e ((sx_neg (by omega) hy).mp q)), pk_sub (by omega), if_pos ((nI_leI (by omega) (by decide)).mpr (by omega))]
theorem wi_nat {z : Nat} (hz : z < 2 ^ 30) : wi_ (nI z) = nI (min 16 z) := by
  unfold wi_
  rw [if_neg (nI_pos (by omega))]
  by_cases e : z ≤ 16
  · rw [if_pos ((nI_leI (by omega) (by decide)).mpr e), show min 16 z = z by omega]
  · rw [if_neg (fun q => e ((nI_leI (by omega) (by decide)).mp q)), show min 16 z = 16 by omega]
/-- the pixels seen when a rows and b places of the next one are looked through -/
def lk_V (w h i a b q : Nat) : Prop := q < 256 ∧ ((h + q / 16 < i / 16 + a ∧ i / 16 ≤ q / 16 + h ∧ w1_ w (i % 16) (q % 16)) ∨ (h + q / 16 = i / 16 + a ∧ i % 16 ≤ q % 16 + w ∧ w + q % 16 < i % 16 + b))
def lk_P (w h i a b q : Nat) : Prop := q = i ∨ lk_V w h i a b q
def rc_ (h i a : Nat) : Nat := min 16 (i / 16 + a - h)
def cc_ (w i b : Nat) : Nat := min 16 (i % 16 + b - w)
def rp_ (f : Nat → Int32) (w i p : Nat) : Int32 := sm_ (fun k => f (p * 16 + k)) (mr_ w i) - sm_ (fun k => f (p * 16 + k)) (ml_ w i)
def lk_s (f : Nat → Int32) (w h i a b : Nat) : Int32 := (sm_ (rp_ f w i) (rc_ h i a) - sm_ (rp_ f w i) (mt_ h i)) + (if h ≤ i / 16 + a ∧ i / 16 + a < h + 16 then sm_ (fun k => f ((i / 16 + a - h) * 16 + k)) (cc_ w i b) - sm_ (fun k => f ((i / 16 + a - h) * 16 + k)) (ml_ w i) else 0)
def lk_n (w h i a b : Nat) : Nat := (rc_ h i a - mt_ h i) * (mr_ w i - ml_ w i) + (if h ≤ i / 16 + a ∧ i / 16 + a < h + 16 then cc_ w i b - ml_ w i else 0)
/-- a row and a place of it that are in the picture -/
def lk_ok (w h i a b : Nat) : Prop := h ≤ i / 16 + a ∧ i / 16 + a < h + 16 ∧ w ≤ i % 16 + b ∧ i % 16 + b < w + 16
def lk_q (w h i a b : Nat) : Nat := (i / 16 + a - h) * 16 + (i % 16 + b - w)
theorem lk_s0 (f : Nat → Int32) (w h : Nat) {i : Nat} (hi : i < 256) : lk_s f w h i 0 0 = nI 0 := by
  unfold lk_s
  rw [show rc_ h i 0 = mt_ h i by unfold rc_ mt_; omega, show cc_ w i 0 = ml_ w i by unfold cc_ ml_; omega]
  rw [nI_0]
  split <;> grind
theorem lk_n0 (w h : Nat) {i : Nat} (hi : i < 256) : lk_n w h i 0 0 = 0 := by
  unfold lk_n
  rw [show rc_ h i 0 = mt_ h i by unfold rc_ mt_; omega, show cc_ w i 0 = ml_ w i by unfold cc_ ml_; omega]
  split <;> simp
theorem lk_sh {f : Nat → Int32} {w h i a b : Nat} (ok : lk_ok w h i a b) : lk_s f w h i a b + f (lk_q w h i a b) = lk_s f w h i a (b + 1) := by
  obtain ⟨o1, o2, o3, o4⟩ := ok
  unfold lk_s lk_q
  rw [if_pos ⟨o1, o2⟩, if_pos ⟨o1, o2⟩, show cc_ w i (b + 1) = cc_ w i b + 1 by unfold cc_; omega, sm_s, show cc_ w i b = i % 16 + b - w by unfold cc_; omega]
  grind
theorem lk_nh {w h i a b : Nat} (ok : lk_ok w h i a b) : lk_n w h i a b + 1 = lk_n w h i a (b + 1) := by
  obtain ⟨o1, o2, o3, o4⟩ := ok
  unfold lk_n
  rw [if_pos ⟨o1, o2⟩, if_pos ⟨o1, o2⟩]
  have : cc_ w i (b + 1) = cc_ w i b + 1 := by unfold cc_; omega
  have : ml_ w i ≤ cc_ w i b := by unfold ml_ cc_; omega
  omega
theorem lk_cm {w h i a b : Nat} (ok : ¬ lk_ok w h i a b) (hr : h ≤ i / 16 + a ∧ i / 16 + a < h + 16) : cc_ w i (b + 1) = cc_ w i b := by
  have : ¬ (w ≤ i % 16 + b ∧ i % 16 + b < w + 16) := fun q => ok ⟨hr.1, hr.2, q.1, q.2⟩
  unfold cc_; omega
theorem lk_sm {f : Nat → Int32} {w h i a b : Nat} (ok : ¬ lk_ok w h i a b) : lk_s f w h i a (b + 1) = lk_s f w h i a b := by
  unfold lk_s
  by_cases hr : h ≤ i / 16 + a ∧ i / 16 + a < h + 16
  · rw [if_pos hr, if_pos hr, lk_cm ok hr]
  · rw [if_neg hr, if_neg hr]
theorem lk_nm {w h i a b : Nat} (ok : ¬ lk_ok w h i a b) : lk_n w h i a (b + 1) = lk_n w h i a b := by
  unfold lk_n
  by_cases hr : h ≤ i / 16 + a ∧ i / 16 + a < h + 16
  · rw [if_pos hr, if_pos hr, lk_cm ok hr]
  · rw [if_neg hr, if_neg hr]
theorem lk_e0 (w i : Nat) : cc_ w i 0 = ml_ w i := by unfold cc_ ml_; omega
theorem lk_e1 (w i : Nat) : cc_ w i (2 * w + 1) = mr_ w i := by unfold cc_ mr_; omega
theorem lk_sr (f : Nat → Int32) (w h i a : Nat) : lk_s f w h i a (2 * w + 1) = lk_s f w h i (a + 1) 0 := by
  unfold lk_s
  rw [lk_e0, lk_e1]
  have z : ∀ p : Prop, ∀ _ : Decidable p, ∀ x : Int32, (if p then x - x else 0) = 0 := by
    intro p _ x
    split <;> grind
  rw [z]
  by_cases hr : h ≤ i / 16 + a ∧ i / 16 + a < h + 16
  · rw [if_pos hr, show rc_ h i (a + 1) = rc_ h i a + 1 by unfold rc_; omega, sm_s, show rc_ h i a = i / 16 + a - h by unfold rc_; omega]
    show _ = sm_ (rp_ f w i) (i / 16 + a - h) + (sm_ (fun k => f ((i / 16 + a - h) * 16 + k)) (mr_ w i) - sm_ (fun k => f ((i / 16 + a - h) * 16 + k)) (ml_ w i)) - sm_ (rp_ f w i) (mt_ h i) + 0
    grind
  · rw [if_neg hr, show rc_ h i (a + 1) = rc_ h i a by unfold rc_; omega]
theorem lk_nr (w h i a : Nat) (hi : i < 256) : lk_n w h i a (2 * w + 1) = lk_n w h i (a + 1) 0 := by
  unfold lk_n
  rw [lk_e0, lk_e1]
  have z : ∀ p : Prop, ∀ _ : Decidable p, ∀ x : Nat, (if p then x - x else 0) = 0 := by
    intro p _ x
    split <;> omega
  rw [z]
  by_cases hr : h ≤ i / 16 + a ∧ i / 16 + a < h + 16
  · have e1 : rc_ h i (a + 1) = rc_ h i a + 1 := by unfold rc_; omega
    have e2 : mt_ h i ≤ rc_ h i a := by unfold mt_ rc_; omega
    rw [if_pos hr, e1, show rc_ h i a + 1 - mt_ h i = (rc_ h i a - mt_ h i) + 1 by omega, Nat.add_mul]
    omega
  · rw [if_neg hr, show rc_ h i (a + 1) = rc_ h i a by unfold rc_; omega]
theorem lk_nle {w h i a b : Nat} (hi : i < 256) : lk_n w h i a b ≤ 300 := by
  unfold lk_n
  have h1 : rc_ h i a - mt_ h i ≤ 16 := by unfold rc_; omega
  have h2 := (mc_pos w i).2
  have h3 := Nat.mul_le_mul h1 h2
  have h4 : cc_ w i b ≤ 16 := by unfold cc_; omega
  split <;> omega
theorem lk_sE (f : Nat → Int32) (w h i : Nat) : lk_s f w h i (2 * h + 1) 0 = S2_ f (mb_ h i) (mr_ w i) - S2_ f (mt_ h i) (mr_ w i) - S2_ f (mb_ h i) (ml_ w i) + S2_ f (mt_ h i) (ml_ w i) := by
  unfold lk_s
  have z : ∀ p : Prop, ∀ _ : Decidable p, ∀ x : Int32, (if p then x - x else 0) = 0 := by
    intro p _ x
    split <;> grind
  have e : ∀ n, sm_ (rp_ f w i) n = S2_ f n (mr_ w i) - S2_ f n (ml_ w i) := fun n => sm_sub _ _ n
  rw [lk_e0, z, show rc_ h i (2 * h + 1) = mb_ h i by unfold rc_ mb_; omega, e, e]
  grind
theorem lk_nE (w h i : Nat) : lk_n w h i (2 * h + 1) 0 = (mb_ h i - mt_ h i) * (mr_ w i - ml_ w i) := by
  unfold lk_n
  rw [lk_e0, show rc_ h i (2 * h + 1) = mb_ h i by unfold rc_ mb_; omega]
  split <;> omega
theorem lk_P0 (w h i q : Nat) : lk_P w h i 0 0 q ↔ q = i := by
  unfold lk_P lk_V
  constructor
  · rintro (e | ⟨_, e | e⟩)
    · exact e
    · omega
    · omega
  · exact Or.inl
theorem lk_Ph {w h i a b : Nat} (ok : lk_ok w h i a b) (q : Nat) : lk_P w h i a (b + 1) q ↔ (q = lk_q w h i a b ∨ lk_P w h i a b q) := by
  obtain ⟨o1, o2, o3, o4⟩ := ok
  unfold lk_P lk_V lk_q w1_
  omega
theorem lk_Pm {w h i a b : Nat} (ok : ¬ lk_ok w h i a b) (q : Nat) : lk_P w h i a (b + 1) q ↔ lk_P w h i a b q := by
  unfold lk_ok at ok
  unfold lk_P lk_V w1_
  omega
theorem lk_Pr (w h i a q : Nat) : lk_P w h i (a + 1) 0 q ↔ lk_P w h i a (2 * w + 1) q := by
  unfold lk_P lk_V w1_
  omega
theorem lk_PE {w h i : Nat} (hi : i < 256) (q : Nat) : lk_P w h i (2 * h + 1) 0 q ↔ w2_ w h i q := by
  unfold lk_P lk_V w2_ w1_
  omega
theorem lk_qlt {w h i a b : Nat} (ok : lk_ok w h i a b) : lk_q w h i a b < 256 := by
  obtain ⟨o1, o2, o3, o4⟩ := ok
  unfold lk_q
  omega
theorem best_one (g : Bool) {P : Nat → Prop} {i : Nat} (h : ∀ q, P q ↔ q = i) (f : Nat → Int32) : Best g P f (f i) := ⟨⟨i, (h i).mpr rfl, rfl⟩, fun k hk => by rw [(h k).mp hk]; exact ge_refl _ _⟩
theorem best_keep {g : Bool} {P P' : Nat → Prop} {f : Nat → Int32} {m : Int32} {q : Nat} (h : Best g P f m) (hP : ∀ k, P' k ↔ (k = q ∨ P k)) (hge : ge_ g m (f q)) : Best g P' f m := by
  obtain ⟨⟨k, hk, e⟩, h1⟩ := h
  refine ⟨⟨k, (hP k).mpr (Or.inr hk), e⟩, fun j hj => ?_⟩
  rcases (hP j).mp hj with e | e
  · rw [e]; exact hge
  · exact h1 j e
theorem best_new {g : Bool} {P P' : Nat → Prop} {f : Nat → Int32} {m : Int32} {q : Nat} (h : Best g P f m) (hP : ∀ k, P' k ↔ (k = q ∨ P k)) (hge : ¬ ge_ g m (f q)) : Best g P' f (f q) := by
  refine ⟨⟨q, (hP q).mpr (Or.inl rfl), rfl⟩, fun j hj => ?_⟩
  rcases (hP j).mp hj with e | e
  · rw [e]; exact ge_refl _ _
  · exact ge_trans (ge_of_not hge) (h.2 j e)
/-- the sums filled in: rows up to r, in the row behind them the places up to c -/
def fs_I (f s : Nat → Int32) (r : Nat) : Prop := (∀ p c, p ≤ r → c ≤ 16 → s (p * 17 + c) = S2_ f p c) ∧ ∀ p, p ≤ 16 → s (p * 17) = 0
def fs_J (f s : Nat → Int32) (r c : Nat) : Prop := fs_I f s r ∧ ∀ k, k ≤ c → s ((r + 1) * 17 + k) = S2_ f (r + 1) k
theorem fs_0 {f s : Nat → Int32} (h1 : ∀ c, c ≤ 16 → s c = 0) (h2 : ∀ p, p ≤ 16 → s (p * 17) = 0) : fs_I f s 0 := by
  refine ⟨fun p c hp hc => ?_, h2⟩
  rw [show p = 0 by omega, S2_r0, Nat.zero_mul, Nat.zero_add]
  exact h1 c hc
theorem fs_J0 {f s : Nat → Int32} {r : Nat} (h : fs_I f s r) (hr : r < 16) : fs_J f s r 0 := ⟨h, fun k hk => by rw [show k = 0 by omega, S2_c0]; exact h.2 (r + 1) (by omega)⟩
theorem fs_Js {f s : Nat → Int32} {r c : Nat} (h : fs_J f s r c) (hr : r < 16) (hc : c < 16) : fs_J f (upd s ((r + 1) * 17 + c + 1) (s (r * 17 + c + 1) + sm_ (fun k => f (r * 16 + k)) (c + 1))) r (c + 1) := by
  obtain ⟨⟨h1, h2⟩, h3⟩ := h
  refine ⟨⟨fun p k hp hk => ?_, fun p hp => ?_⟩, fun k hk => ?_⟩
  · rw [pk_un (by omega)]; exact h1 p k hp hk
  · rw [pk_un (by omega)]; exact h2 p hp
  · by_cases e : k = c + 1
    · subst e
      rw [show (r + 1) * 17 + (c + 1) = (r + 1) * 17 + c + 1 by omega, pk_us, S2_s]
      have := h1 r (c + 1) (by omega) (by omega)
      rw [show r * 17 + (c + 1) = r * 17 + c + 1 by omega] at this
      rw [this]
    · rw [pk_un (by omega)]; exact h3 k (by omega)
theorem fs_s {f s : Nat → Int32} {r : Nat} (h : fs_J f s r 16) : fs_I f s (r + 1) := by
  refine ⟨fun p c hp hc => ?_, h.1.2⟩
  by_cases e : p = r + 1
  · rw [e]; exact h.2 c hc
  · exact h.1.1 p c (by omega) hc
end
section
/-! PLAIN LAWS: patches, by joined labels and by spreading marks -/
/-- pixels x and y (before x) of the set touch -/
def ed_ (v : Nat → Int32) (x y : Nat) : Prop := x < 256 ∧ 0 < v x ∧ 0 < v y ∧ ((0 < x % 16 ∧ y + 1 = x) ∨ y + 16 = x)
/-- x and y are in one patch: whatever is the same on touching pixels is the same on them -/
def cj_ (v : Nat → Int32) (x y : Nat) : Prop := ∀ E : Nat → Nat, (∀ p q, ed_ v p q → E p = E q) → E x = E y
theorem cj_refl (v : Nat → Int32) (x : Nat) : cj_ v x x := fun _ _ => rfl
theorem cj_symm {v : Nat → Int32} {x y : Nat} (h : cj_ v x y) : cj_ v y x := fun E hE => (h E hE).symm
theorem cj_trans {v : Nat → Int32} {x y z : Nat} (h1 : cj_ v x y) (h2 : cj_ v y z) : cj_ v x z := fun E hE => (h1 E hE).trans (h2 E hE)
theorem cj_ed {v : Nat → Int32} {x y : Nat} (h : ed_ v x y) : cj_ v x y := fun E hE => hE x y h
theorem cj_in {v : Nat → Int32} {x y : Nat} (h : cj_ v x y) (hx : x < 256) (hv : 0 < v x) : y < 256 ∧ 0 < v y := by
  have := h (fun q => if q < 256 ∧ 0 < v q then 1 else 0) (fun p q hpq => by
    obtain ⟨a1, a2, a3, a4⟩ := hpq
    have hq : q < 256 := by omega
    simp [a1, a2, a3, hq])
  simp only [if_pos (show x < 256 ∧ 0 < v x from ⟨hx, hv⟩)] at this
  by_cases e : y < 256 ∧ 0 < v y
  · exact e
  · rw [if_neg e] at this; cases this
theorem cj_congr {v v' : Nat → Int32} (he : ∀ j, j < 256 → v j = v' j) {x y : Nat} (h : cj_ v x y) : cj_ v' x y := by
  intro E hE
  refine h E (fun p q hpq => hE p q ?_)
  obtain ⟨a1, a2, a3, a4⟩ := hpq
  have hq : q < 256 := by omega
  exact ⟨a1, he p a1 ▸ a2, he q hq ▸ a3, a4⟩
/-- the number of patches: pixels of the set that are the first ones of their patch -/
noncomputable def np_ (v : Nat → Int32) : Nat := cn_ (fun k => @decide (0 < v k ∧ ∀ j, cj_ v k j → k ≤ j) (Classical.propDecidable _)) 256
theorem np_congr {v v' : Nat → Int32} (he : ∀ j, j < 256 → v j = v' j) : np_ v = np_ v' := by
  unfold np_
  refine cn_congr fun k hk => ?_
  refine decide_eq_decide.mpr ?_
  rw [he k hk]
  constructor
  · rintro ⟨a1, a2⟩
    exact ⟨a1, fun j hj => a2 j (cj_congr (fun q hq => (he q hq).symm) hj)⟩
  · rintro ⟨a1, a2⟩
    exact ⟨a1, fun j hj => a2 j (cj_congr he hj)⟩
theorem np_of {v : Nat → Int32} {r : Nat → Nat} {p : Nat → Bool} (h1 : ∀ k, k < 256 → 0 < v k → r k ≤ k ∧ cj_ v k (r k)) (h2 : ∀ x y, ed_ v x y → r x = r y) (h3 : ∀ k, k < 256 → (p k = true ↔ (0 < v k ∧ r k = k))) : cn_ p 256 = np_ v := by
  unfold np_
  refine cn_congr fun k hk => ?_
  rw [Bool.eq_iff_iff, h3 k hk, @decide_eq_true_iff _ (Classical.propDecidable _)]
  refine and_congr_right fun hv => ?_
  constructor
  · intro e j hj
    obtain ⟨j1, j2⟩ := cj_in hj hk hv
    have := hj r h2
    rw [e] at this
    rw [this]
    exact (h1 j j1 j2).1
  · intro hm
    have a := h1 k hk hv
    have := hm (r k) a.2
    omega
/-- labels below m, with the root that each leads to -/
def ul_ (m : Nat) (lab r : Nat → Nat) : Prop := ∀ k, k < m → lab k ≤ k ∧ r (lab k) = r k ∧ lab (r k) = r k ∧ (lab k = k → r k = k) ∧ r k ≤ k
theorem ul_0 (lab r : Nat → Nat) : ul_ 0 lab r := fun k h => absurd h (Nat.not_lt_zero _)
def un_ (f : Nat → Nat) (k x : Nat) : Nat → Nat := fun j => if j = k then x else f j
theorem un_s (f : Nat → Nat) (k x : Nat) : un_ f k x k = x := by simp [un_]
theorem un_n {f : Nat → Nat} {k j x : Nat} (h : j ≠ k) : un_ f k x j = f j := by simp [un_, h]
theorem ul_new {m : Nat} {lab r : Nat → Nat} (h : ul_ m lab r) : ul_ (m + 1) (un_ lab m m) (un_ r m m) := by
  intro k hk
  by_cases e : k = m
  · subst e
    simp [un_s]
  · obtain ⟨a1, a2, a3, a4, a5⟩ := h k (by omega)
    rw [un_n e, un_n (f := r) e, un_n (f := r) (j := lab k) (by omega), un_n (f := lab) (j := r k) (by omega)]
    exact ⟨a1, a2, a3, a4, a5⟩
/-- root hi comes under root lo -/
def ur_ (r : Nat → Nat) (lo hi : Nat) : Nat → Nat := fun k => if r k = hi then lo else r k
theorem ul_join {m : Nat} {lab r : Nat → Nat} (h : ul_ m lab r) {lo hi : Nat} (hlt : lo < hi) (hm : hi < m) (hl : lab lo = lo) (hh : lab hi = hi) : ul_ m (un_ lab hi lo) (ur_ r lo hi) := by
  have rl : r lo = lo := (h lo (by omega)).2.2.2.1 hl
  have rh : r hi = hi := (h hi hm).2.2.2.1 hh
  intro k hk
  obtain ⟨a1, a2, a3, a4, a5⟩ := h k hk
  by_cases e : k = hi
  · subst e
    rw [un_s]
    unfold ur_
    rw [rl, rh, if_neg (by omega), if_pos rfl, un_n (by omega)]
    exact ⟨by omega, rfl, hl, fun q => q, by omega⟩
  · rw [un_n e]
    unfold ur_
    rw [a2]
    by_cases e2 : r k = hi
    · rw [if_pos e2, un_n (by omega)]
      refine ⟨a1, rfl, hl, fun q => ?_, by omega⟩
      have := a4 q
      omega
    · rw [if_neg e2, un_n e2]
      exact ⟨a1, rfl, a3, a4, a5⟩
theorem cn_off {p q : Nat → Bool} {n j : Nat} (hj : j < n) (hp : p j = true) (hq : q j = false) (ho : ∀ k, k ≠ j → p k = q k) : cn_ p n = cn_ q n + 1 := by
  induction n with
  | zero => exact absurd hj (Nat.not_lt_zero _)
  | succ n ih =>
    by_cases e : j = n
    · subst e
      rw [cn_t hp, cn_f (by rw [hq]; decide), cn_congr (fun k hk => ho k (by omega))]
    · have := ih (by omega)
      unfold cn_
      rw [this, ho n (fun q => e q.symm)]
      omega
/-- the state of the labels before pixel m: their roots, who is joined, how many roots -/
def up_ (v : Nat → Int32) (m : Nat) (lab r : Nat → Nat) : Prop := ul_ m lab r ∧ ∀ k, k < m → cj_ v k (r k)
def ub_ (v : Nat → Int32) (lab : Nat → Nat) : Nat → Bool := fun k => decide (0 < v k ∧ lab k = k)
theorem up_new {v : Nat → Int32} {m : Nat} {lab r : Nat → Nat} (h : up_ v m lab r) : up_ v (m + 1) (un_ lab m m) (un_ r m m) := by
  refine ⟨ul_new h.1, fun k hk => ?_⟩
  by_cases e : k = m
  · rw [e, un_s]; exact cj_refl _ _
  · rw [un_n e]; exact h.2 k (by omega)
theorem ub_new {v : Nat → Int32} {m : Nat} {lab : Nat → Nat} : cn_ (ub_ v (un_ lab m m)) m = cn_ (ub_ v lab) m := by
  refine cn_congr fun k hk => ?_
  unfold ub_
  rw [un_n (by omega)]
/-- two pixels of one patch, their roots joined -/
theorem up_join {v : Nat → Int32} {m x y : Nat} {lab r : Nat → Nat} (h : up_ v m lab r) (hm : m ≤ 256) (hx : x < m) (hy : y < m) (hv : 0 < v x) (hc : cj_ v x y) (hne : r x ≠ r y) :
    up_ v m (un_ lab (max (r x) (r y)) (min (r x) (r y))) (ur_ r (min (r x) (r y)) (max (r x) (r y))) ∧ cn_ (ub_ v lab) m = cn_ (ub_ v (un_ lab (max (r x) (r y)) (min (r x) (r y)))) m + 1 := by
  have hrx := h.1 x hx
  have hry := h.1 y hy
  have cx := h.2 x hx
  have cy := h.2 y hy
  have vx := cj_in cx (by omega) hv
  have vy0 := cj_in hc (by omega) hv
  have vy := cj_in cy vy0.1 vy0.2
  have cxy : cj_ v (r x) (r y) := cj_trans (cj_symm cx) (cj_trans hc cy)
  have key : ∀ lo hi : Nat, lo < hi → hi < m → lab lo = lo → lab hi = hi → 0 < v hi → cj_ v hi lo → up_ v m (un_ lab hi lo) (ur_ r lo hi) ∧ cn_ (ub_ v lab) m = cn_ (ub_ v (un_ lab hi lo)) m + 1 := by
    intro lo hi q1 q2 q3 q4 q5 q6
    refine ⟨⟨ul_join h.1 q1 q2 q3 q4, fun k hk => ?_⟩, cn_off (j := hi) q2 ?_ ?_ (fun k hk => ?_)⟩
    · unfold ur_
      by_cases e : r k = hi
      · rw [if_pos e]
        exact cj_trans (e ▸ h.2 k hk) q6
      · rw [if_neg e]; exact h.2 k hk
    · unfold ub_; exact decide_eq_true ⟨q5, q4⟩
    · unfold ub_; rw [un_s]; exact decide_eq_false (fun q => by omega)
    · unfold ub_; rw [un_n hk]
  rcases Nat.lt_or_ge (r x) (r y) with q | q
  · rw [show max (r x) (r y) = r y by omega, show min (r x) (r y) = r x by omega]
    exact key _ _ q (by omega) hrx.2.2.1 hry.2.2.1 vy.2 (cj_symm cxy)
  · rw [show max (r x) (r y) = r x by omega, show min (r x) (r y) = r y by omega]
    exact key _ _ (by omega) (by omega) hry.2.2.1 hrx.2.2.1 vx.2 cxy
theorem ur_same (r : Nat → Nat) (x y : Nat) : ur_ r (min (r x) (r y)) (max (r x) (r y)) x = ur_ r (min (r x) (r y)) (max (r x) (r y)) y := by
  unfold ur_
  split <;> split <;> omega
theorem ur_kept {r : Nat → Nat} {p q : Nat} (h : r p = r q) (lo hi : Nat) : ur_ r lo hi p = ur_ r lo hi q := by
  unfold ur_; rw [h]
/-- edges to pixels below m lead to one root -/
def ue_ (v : Nat → Int32) (m : Nat) (r : Nat → Nat) : Prop := ∀ p q, ed_ v p q → p < m → r p = r q
theorem ue_new {v : Nat → Int32} {m : Nat} {r : Nat → Nat} (h : ue_ v m r) : ue_ v m (un_ r m m) := by
  intro p q hpq hp
  have : q < p := by
    obtain ⟨_, _, _, a⟩ := hpq
    omega
  rw [un_n (by omega), un_n (by omega)]
  exact h p q hpq hp
theorem ue_kept {v : Nat → Int32} {m : Nat} {r : Nat → Nat} (h : ue_ v m r) (lo hi : Nat) : ue_ v m (ur_ r lo hi) := fun p q hpq hp => ur_kept (h p q hpq hp) lo hi
theorem np_X {v : Nat → Int32} {lab r : Nat → Nat} (h : up_ v 256 lab r) (he : ue_ v 256 r) : cn_ (ub_ v lab) 256 = np_ v := by
  refine np_of (r := r) (fun k hk _ => ⟨(h.1 k hk).2.2.2.2, h.2 k hk⟩) (fun x y hxy => he x y hxy hxy.1) (fun k hk => ?_)
  unfold ub_
  rw [decide_eq_true_iff]
  refine and_congr_right fun _ => ?_
  have := h.1 k hk
  constructor
  · exact this.2.2.2.1
  · intro e
    have := this.2.2.1
    rwa [e] at this
/-- marks: a pixel of the set has one of its patch, not behind itself -/
def mk_I (v M : Nat → Int32) : Prop := ∀ k, k < 256 → (0 < v k → ∃ m : Nat, M k = nI m ∧ m ≤ k ∧ cj_ v k m) ∧ (¬ 0 < v k → M k = -1)
def sn_ (f : Nat → Nat) : Nat → Nat
  | 0 => 0
  | n + 1 => sn_ f n + f n
theorem sn_lt {f g : Nat → Nat} {n j : Nat} (hj : j < n) (h : g j < f j) (ho : ∀ k, k ≠ j → g k = f k) : sn_ g n < sn_ f n := by
  have cong : ∀ m, m ≤ j → sn_ g m = sn_ f m := by
    intro m
    induction m with
    | zero => intro _; rfl
    | succ m ih =>
      intro hm
      unfold sn_
      rw [ih (by omega), ho m (by omega)]
  induction n with
  | zero => exact absurd hj (Nat.not_lt_zero _)
  | succ n ih =>
    unfold sn_
    by_cases e : j = n
    · subst e
      rw [cong j (Nat.le_refl _)]
      omega
    · have := ih (by omega)
      rw [ho n (fun q => e q.symm)]
      omega
def ms_ (M : Nat → Int32) : Nat := sn_ (fun k => (M k).toNatClampNeg) 256
/-- j is a neighbour of i -/
def nb_ (i j : Nat) : Prop := (0 < i % 16 ∧ j + 1 = i) ∨ (i % 16 < 15 ∧ j = i + 1) ∨ (0 < i / 16 ∧ j + 16 = i) ∨ (i / 16 < 15 ∧ j = i + 16)
theorem nb_cj {v : Nat → Int32} {i j : Nat} (h : nb_ i j) (hi : i < 256) (v1 : 0 < v i) (v2 : 0 < v j) : cj_ v i j := by
  unfold nb_ at h
  rcases h with h | h | h | h
  · exact cj_ed ⟨hi, v1, v2, Or.inl h⟩
  · exact cj_symm (cj_ed ⟨by omega, v2, v1, Or.inl (by omega)⟩)
  · exact cj_ed ⟨hi, v1, v2, Or.inr h.2⟩
  · exact cj_symm (cj_ed ⟨by omega, v2, v1, Or.inr (by omega)⟩)
theorem nb_lt {i j : Nat} (h : nb_ i j) (hi : i < 256) : j < 256 := by unfold nb_ at h; omega
theorem mk_pos {v M : Nat → Int32} (h : mk_I v M) {k : Nat} (hk : k < 256) : ¬ M k < 0 ↔ 0 < v k := by
  constructor
  · intro q
    by_cases e : 0 < v k
    · exact e
    · rw [(h k hk).2 e] at q
      exact absurd (by decide) q
  · intro q
    obtain ⟨m, e, hm, -⟩ := (h k hk).1 q
    rw [e]
    exact nI_pos (by omega)
theorem mk_take {v M : Nat → Int32} {i j : Nat} (h : mk_I v M) (hn : nb_ i j) (hi : i < 256) (hv : 0 < v i) (h1 : ¬ M j < 0) (h2 : M j < M i) : mk_I v (upd M i (M j)) ∧ ms_ (upd M i (M j)) < ms_ M := by
  have hj := nb_lt hn hi
  have hvj := (mk_pos h hj).mp h1
  obtain ⟨mi, ei, li, ci⟩ := (h i hi).1 hv
  obtain ⟨mj, ej, lj, cj⟩ := (h j hj).1 hvj
  rw [ei, ej, nI_ltI (by omega) (by omega)] at h2
  refine ⟨fun k hk => ?_, ?_⟩
  · by_cases e : k = i
    · subst e
      rw [pk_us]
      exact ⟨fun _ => ⟨mj, ej, by omega, cj_trans (nb_cj hn hi hv hvj) cj⟩, fun q => absurd hv q⟩
    · rw [pk_un e]; exact h k hk
  · unfold ms_
    refine sn_lt (j := i) hi ?_ (fun k hk => by rw [pk_un hk])
    show (upd M i (M j) i).toNatClampNeg < _
    rw [pk_us, ei, ej, nI_clamp (by omega), nI_clamp (by omega)]
    exact h2
/-- nothing is to be taken over at i -/
def mk_S (M : Nat → Int32) (i : Nat) : Prop := ∀ j, nb_ i j → M j < 0 ∨ M i ≤ M j
theorem np_M {v M : Nat → Int32} (h : mk_I v M) (hs : ∀ i, i < 256 → 0 < v i → mk_S M i) : cn_ (fun k => decide (M k = nI k)) 256 = np_ v := by
  refine np_of (r := fun k => (M k).toNatClampNeg) (fun k hk hv => ?_) (fun x y hxy => ?_) (fun k hk => ?_)
  · obtain ⟨m, e, hm, hc⟩ := (h k hk).1 hv
    show (M k).toNatClampNeg ≤ k ∧ cj_ v k (M k).toNatClampNeg
    rw [e, nI_clamp (by omega)]
    exact ⟨hm, hc⟩
  · obtain ⟨a1, a2, a3, a4⟩ := hxy
    have hy : y < 256 := by omega
    have n1 : nb_ x y := by unfold nb_; omega
    have n2 : nb_ y x := by unfold nb_; omega
    have p1 := (mk_pos h a1).mpr a2
    have p2 := (mk_pos h hy).mpr a3
    have q1 := (hs x a1 a2 y n1).resolve_left p2
    have q2 := (hs y hy a3 x n2).resolve_left p1
    show (M x).toNatClampNeg = (M y).toNatClampNeg
    rw [Int32.le_antisymm q1 q2]
  · rw [decide_eq_true_iff]
    by_cases hv : 0 < v k
    · obtain ⟨m, e, hm, -⟩ := (h k hk).1 hv
      show _ ↔ _ ∧ (M k).toNatClampNeg = k
      rw [e, nI_clamp (by omega), nI_eq (by omega) (by omega)]
      exact ⟨fun q => ⟨hv, q⟩, fun q => q.2⟩
    · rw [(h k hk).2 hv]
      constructor
      · intro q
        have := nI_pos (n := k) (by omega)
        rw [← q] at this
        exact absurd (by decide) this
      · intro q; exact absurd q.1 hv
end
section
/-! what the methods say: rooms, words of the arguments, posts -/
abbrev rmb0 : Room := { frames := 0, cells := 0, slots := 0, locals := 0 }
abbrev rmb1 : Room := { frames := 1, cells := 0, slots := 0, locals := 40 }
abbrev rmb2 : Room := { frames := 2, cells := 0, slots := 0, locals := 80 }
abbrev rmb3 : Room := { frames := 3, cells := 0, slots := 0, locals := 120 }
abbrev rmb4 : Room := { frames := 4, cells := 0, slots := 0, locals := 160 }
theorem cat_ints (xs : List Int32) : ∀ v ∈ xs.map Value.int, v.category = 1 := by
  intro v hv
  obtain ⟨x, -, rfl⟩ := List.mem_map.mp hv
  rfl
def okP (r c : Int32) : Prop := ¬ r < 0 ∧ ¬ nI 16 ≤ r ∧ ¬ c < 0 ∧ ¬ nI 16 ≤ c
def okS (w h : Int32) : Prop := ¬ w < 0 ∧ ¬ nI 7 < w ∧ ¬ h < 0 ∧ ¬ nI 7 < h
theorem okP_nat {r c : Int32} (q : okP r c) : ∃ i j : Nat, i < 16 ∧ j < 16 ∧ r = nI i ∧ c = nI j := by
  obtain ⟨q1, q2, q3, q4⟩ := q
  obtain ⟨i, hi, rfl⟩ := nI_of q1
  obtain ⟨j, hj, rfl⟩ := nI_of q3
  rw [nI_leI (by decide) hi] at q2
  rw [nI_leI (by decide) hj] at q4
  exact ⟨i, j, by omega, by omega, rfl, rfl⟩
theorem okP_of {i j : Nat} (hi : i < 16) (hj : j < 16) : okP (nI i) (nI j) := by
  refine ⟨nI_pos (by omega), ?_, nI_pos (by omega), ?_⟩
  · rw [nI_leI (by decide) (by omega)]; omega
  · rw [nI_leI (by decide) (by omega)]; omega
theorem okS_nat {w h : Int32} (q : okS w h) : ∃ i j : Nat, i ≤ 7 ∧ j ≤ 7 ∧ w = nI i ∧ h = nI j := by
  obtain ⟨q1, q2, q3, q4⟩ := q
  obtain ⟨i, hi, rfl⟩ := nI_of q1
  obtain ⟨j, hj, rfl⟩ := nI_of q3
  rw [nI_ltI (by decide) hi] at q2
  rw [nI_ltI (by decide) hj] at q4
  exact ⟨i, j, by omega, by omega, rfl, rfl⟩
def po_bad (ok : Prop) (x : Int32) : Prop := (ok → x = nI 0) ∧ (¬ ok → x = nI 1)
def po_is (F : bx_F) (ok : Prop) (x : Int32) (u : bx_F) : Prop := u = F ∧ (ok → x = nI 1) ∧ (¬ ok → x = nI 0)
/-- the words of a pixel's place -/
def ix_ (r c : Int32) : Nat := r.toNatClampNeg * 16 + c.toNatClampNeg
def po_set (F : bx_F) (r c v : Int32) (x : Int32) (u : bx_F) : Prop := (¬ okP r c → x = -1 ∧ u = F) ∧ (okP r c → (v < 0 ∨ nI 255 < v) → x = -2 ∧ u = F) ∧ (okP r c → ¬ (v < 0 ∨ nI 255 < v) → x = F 0 (ix_ r c) ∧ u = va_up F 0 (upd (F 0) (ix_ r c) v))
def pt_ (p q : Int32) (j : Nat) : Int32 := (nI (j / 16) * p + nI (j % 16) * q + nI (j / 16) * nI (j % 16)) &&& nI 255
def po_pattern (F : bx_F) (p q : Int32) (u : bx_F) : Prop := (∀ k, k ≠ 0 → u k = F k) ∧ ∀ j, j < 256 → u 0 j = pt_ p q j
def po_copy (F : bx_F) (b c : Nat) (u : bx_F) : Prop := (∀ k, k ≠ b → u k = F k) ∧ ∀ j, j < 256 → u b j = F c j
def po_cnt (F : bx_F) (p : Nat → Bool) (x : Int32) (u : bx_F) : Prop := u = F ∧ x = nI (cn_ p 256)
def po_sum (F : bx_F) (x : Int32) (u : bx_F) : Prop := u = F ∧ x = sm_ (F 0) 256
def th_ (b v : Int32) : Int32 := if b ≤ v then nI 255 else nI 0
def po_threshold (F : bx_F) (b : Int32) (x : Int32) (u : bx_F) : Prop := (∀ k, k ≠ 0 → u k = F k) ∧ (∀ j, j < 256 → u 0 j = th_ b (F 0 j)) ∧ x = nI (cn_ (fun j => decide (b ≤ F 0 j)) 256)
def po_exchange (F : bx_F) (u : bx_F) : Prop := (∀ k, k ≠ 0 → k ≠ 1 → u k = F k) ∧ ∀ j, j < 256 → u 0 j = F 1 j ∧ u 1 j = F 0 j
def po_pixel (F : bx_F) (r c : Int32) (x : Int32) (u : bx_F) : Prop := u = F ∧ (¬ okP r c → x = -1) ∧ (okP r c → x = F 0 (ix_ r c))
theorem ix_nat {i j : Nat} (hi : i < 16) (hj : j < 16) : ix_ (nI i) (nI j) = i * 16 + j := by
  unfold ix_
  rw [nI_clamp (by omega), nI_clamp (by omega)]
theorem okP_lk {w h i a b : Nat} (hi : i < 256) (hw : w ≤ 7) (hh : h ≤ 7) (ha : a ≤ 16) (hb : b ≤ 16) : okP (nI (i / 16 + a) - nI h) (nI (i % 16 + b) - nI w) ↔ lk_ok w h i a b := by
  have ge : ∀ x y : Nat, x < 1000 → y < 1000 → ((¬ nI x - nI y < 0 ∧ ¬ nI 16 ≤ nI x - nI y) ↔ (y ≤ x ∧ x < y + 16)) := by
    intro x y hx hy
    rw [sx_neg (by omega) (by omega), Int32.le_iff_toInt_le, pk_sub_toInt (by omega) (by omega), nI_toInt (by decide)]
    omega
  unfold okP lk_ok
  have g1 := ge (i / 16 + a) h (by omega) (by omega)
  have g2 := ge (i % 16 + b) w (by omega) (by omega)
  constructor
  · rintro ⟨q1, q2, q3, q4⟩
    exact ⟨(g1.mp ⟨q1, q2⟩).1, (g1.mp ⟨q1, q2⟩).2, (g2.mp ⟨q3, q4⟩).1, (g2.mp ⟨q3, q4⟩).2⟩
  · rintro ⟨q1, q2, q3, q4⟩
    exact ⟨(g1.mpr ⟨q1, q2⟩).1, (g1.mpr ⟨q1, q2⟩).2, (g2.mpr ⟨q3, q4⟩).1, (g2.mpr ⟨q3, q4⟩).2⟩
end
section
set_option maxRecDepth 100000
set_option maxHeartbeats 4000000 in
theorem mX_badPixel (l : Launch) (r c : Int32) : bx_Ms l yX0_badPixel cX0_badPixel 2 .boolean rmb0 [.int r, .int c] (po_bad (okP r c)) := by
  refine g_metS (by decide) (cat_ints [r, c]) 0 rfl ?_
  intro κ el eR hx hb hr hlk
  refine g_vs (vs' := [.int r, .int c]) rfl ?_
  refine g_iload_n hx hb dX0_badPixel_0 rfl rfl ?_
  refine g_if_lt hx hb 20 dX0_badPixel_1 (by decide) (fun c_1 => ?_) (fun c_1 => ?_)
  · refine g_iconst hx hb (nI 1) dX0_badPixel_20 (by decide) ?_
    refine g_goto hx hb 25 dX0_badPixel_21 (by decide) ?_
    exact g_sret hx hb hr hlk rfl (⟨fun q => absurd c_1 q.1, fun _ => rfl⟩) dX0_badPixel_25
  · refine g_iload_n hx hb dX0_badPixel_4 rfl rfl ?_
    refine g_bipush hx hb (nI 16) dX0_badPixel_5 (by decide) ?_
    refine g_icmp_ge hx hb 20 dX0_badPixel_7 (by decide) (fun c_7 => ?_) (fun c_7 => ?_)
    · refine g_iconst hx hb (nI 1) dX0_badPixel_20 (by decide) ?_
      refine g_goto hx hb 25 dX0_badPixel_21 (by decide) ?_
      exact g_sret hx hb hr hlk rfl (⟨fun q => absurd c_7 q.2.1, fun _ => rfl⟩) dX0_badPixel_25
    · refine g_iload_n hx hb dX0_badPixel_10 rfl rfl ?_
      refine g_if_lt hx hb 20 dX0_badPixel_11 (by decide) (fun c_11 => ?_) (fun c_11 => ?_)
      · refine g_iconst hx hb (nI 1) dX0_badPixel_20 (by decide) ?_
        refine g_goto hx hb 25 dX0_badPixel_21 (by decide) ?_
        exact g_sret hx hb hr hlk rfl (⟨fun q => absurd c_11 q.2.2.1, fun _ => rfl⟩) dX0_badPixel_25
      · refine g_iload_n hx hb dX0_badPixel_14 rfl rfl ?_
        refine g_bipush hx hb (nI 16) dX0_badPixel_15 (by decide) ?_
        refine g_icmp_lt hx hb 24 dX0_badPixel_17 (by decide) (fun c_17 => ?_) (fun c_17 => ?_)
        · refine g_iconst hx hb (nI 0) dX0_badPixel_24 (by decide) ?_
          exact g_sret hx hb hr hlk rfl (⟨fun _ => rfl, fun q => absurd ⟨c_1, c_7, c_11, Int32.not_le.mpr c_17⟩ q⟩) dX0_badPixel_25
        · refine g_iconst hx hb (nI 1) dX0_badPixel_20 (by decide) ?_
          refine g_goto hx hb 25 dX0_badPixel_21 (by decide) ?_
          exact g_sret hx hb hr hlk rfl (⟨fun q => absurd (Int32.not_le.mp q.2.2.2) c_17, fun _ => rfl⟩) dX0_badPixel_25

set_option maxHeartbeats 4000000 in
theorem mX_badSize (l : Launch) (w h : Int32) : bx_Ms l yX0_badSize cX0_badSize 2 .boolean rmb0 [.int w, .int h] (po_bad (okS w h)) := by
  refine g_metS (by decide) (cat_ints [w, h]) 0 rfl ?_
  intro κ el eR hx hb hr hlk
  refine g_vs (vs' := [.int w, .int h]) rfl ?_
  refine g_iload_n hx hb dX0_badSize_0 rfl rfl ?_
  refine g_if_lt hx hb 20 dX0_badSize_1 (by decide) (fun c_1 => ?_) (fun c_1 => ?_)
  · refine g_iconst hx hb (nI 1) dX0_badSize_20 (by decide) ?_
    refine g_goto hx hb 25 dX0_badSize_21 (by decide) ?_
    exact g_sret hx hb hr hlk rfl (⟨fun q => absurd c_1 q.1, fun _ => rfl⟩) dX0_badSize_25
  · refine g_iload_n hx hb dX0_badSize_4 rfl rfl ?_
    refine g_bipush hx hb (nI 7) dX0_badSize_5 (by decide) ?_
    refine g_icmp_gt hx hb 20 dX0_badSize_7 (by decide) (fun c_7 => ?_) (fun c_7 => ?_)
    · refine g_iconst hx hb (nI 1) dX0_badSize_20 (by decide) ?_
      refine g_goto hx hb 25 dX0_badSize_21 (by decide) ?_
      exact g_sret hx hb hr hlk rfl (⟨fun q => absurd c_7 q.2.1, fun _ => rfl⟩) dX0_badSize_25
    · refine g_iload_n hx hb dX0_badSize_10 rfl rfl ?_
      refine g_if_lt hx hb 20 dX0_badSize_11 (by decide) (fun c_11 => ?_) (fun c_11 => ?_)
      · refine g_iconst hx hb (nI 1) dX0_badSize_20 (by decide) ?_
        refine g_goto hx hb 25 dX0_badSize_21 (by decide) ?_
        exact g_sret hx hb hr hlk rfl (⟨fun q => absurd c_11 q.2.2.1, fun _ => rfl⟩) dX0_badSize_25
      · refine g_iload_n hx hb dX0_badSize_14 rfl rfl ?_
        refine g_bipush hx hb (nI 7) dX0_badSize_15 (by decide) ?_
        refine g_icmp_le hx hb 24 dX0_badSize_17 (by decide) (fun c_17 => ?_) (fun c_17 => ?_)
        · refine g_iconst hx hb (nI 0) dX0_badSize_24 (by decide) ?_
          exact g_sret hx hb hr hlk rfl (⟨fun _ => rfl, fun q => absurd ⟨c_1, c_7, c_11, Int32.not_lt.mpr c_17⟩ q⟩) dX0_badSize_25
        · refine g_iconst hx hb (nI 1) dX0_badSize_20 (by decide) ?_
          refine g_goto hx hb 25 dX0_badSize_21 (by decide) ?_
          exact g_sret hx hb hr hlk rfl (⟨fun q => absurd (Int32.not_lt.mp q.2.2.2) c_17, fun _ => rfl⟩) dX0_badSize_25

set_option maxHeartbeats 4000000 in
theorem mM_isPixel (l : Launch) (D : va_G) (d : ClassId) (h : Nat) (a : Nat → Nat) (F : bx_F) (r c : Int32) : bx_Mi l yX1_isPixel cX1_isPixel 3 .boolean rmb0 D 1 nsM h a d F [.int r, .int c] (po_is F (okP r c)) := by
  refine g_meti (Cn := RX1) (T := TX1) (by decide) rfl in_X1 rfl (cat_ints [r, c]) 0 rfl ?_
  intro κ el eR C hr hlk
  have hx := C.1
  have hb := C.2.1
  have hA : ∀ q, (ks κ).heap.size ≤ q → bx_A 1 nsM h a d F (ks κ).heap.size q := fun q hq => Or.inr hq
  refine g_vs (vs' := [.ref h, .int r, .int c]) rfl ?_
  refine g_iload_n hx hb dX1_isPixel_0 rfl rfl ?_
  refine g_if_lt hx hb 24 dX1_isPixel_1 (by decide) (fun c_1 => ?_) (fun c_1 => ?_)
  · refine g_iconst hx hb (nI 0) dX1_isPixel_24 (by decide) ?_
    exact g_zret C hr hlk rfl (⟨rfl, fun q => absurd c_1 q.1, fun _ => rfl⟩) dX1_isPixel_25
  · refine g_iload_n hx hb dX1_isPixel_4 rfl rfl ?_
    refine g_bipush hx hb (nI 16) dX1_isPixel_5 (by decide) ?_
    refine g_icmp_ge hx hb 24 dX1_isPixel_7 (by decide) (fun c_7 => ?_) (fun c_7 => ?_)
    · refine g_iconst hx hb (nI 0) dX1_isPixel_24 (by decide) ?_
      exact g_zret C hr hlk rfl (⟨rfl, fun q => absurd c_7 q.2.1, fun _ => rfl⟩) dX1_isPixel_25
    · refine g_iload_n hx hb dX1_isPixel_10 rfl rfl ?_
      refine g_if_lt hx hb 24 dX1_isPixel_11 (by decide) (fun c_11 => ?_) (fun c_11 => ?_)
      · refine g_iconst hx hb (nI 0) dX1_isPixel_24 (by decide) ?_
        exact g_zret C hr hlk rfl (⟨rfl, fun q => absurd c_11 q.2.2.1, fun _ => rfl⟩) dX1_isPixel_25
      · refine g_iload_n hx hb dX1_isPixel_14 rfl rfl ?_
        refine g_bipush hx hb (nI 16) dX1_isPixel_15 (by decide) ?_
        refine g_icmp_ge hx hb 24 dX1_isPixel_17 (by decide) (fun c_17 => ?_) (fun c_17 => ?_)
        · refine g_iconst hx hb (nI 0) dX1_isPixel_24 (by decide) ?_
          exact g_zret C hr hlk rfl (⟨rfl, fun q => absurd c_17 q.2.2.2, fun _ => rfl⟩) dX1_isPixel_25
        · refine g_iconst hx hb (nI 1) dX1_isPixel_20 (by decide) ?_
          refine g_goto hx hb 25 dX1_isPixel_21 (by decide) ?_
          exact g_zret C hr hlk rfl (⟨rfl, fun _ => rfl, fun q => absurd ⟨c_1, c_7, c_11, c_17⟩ q⟩) dX1_isPixel_25

set_option maxHeartbeats 4000000 in
theorem mX_set (l : Launch) (D : va_G) (d : ClassId) (h : Nat) (a : Nat → Nat) (F : bx_F) (r c v : Int32) : bx_Mi l yX0_set cX0_set 5 .int rmb1 D 0 nsX h a d F [.int r, .int c, .int v] (po_set F r c v) := by
  refine g_meti (Cn := RX0) (T := TX0) (by decide) rfl in_X0 rfl (cat_ints [r, c, v]) 1 rfl ?_
  intro κ el eR C hr hlk
  have hx := C.1
  have hb := C.2.1
  have hA : ∀ q, (ks κ).heap.size ≤ q → bx_A 0 nsX h a d F (ks κ).heap.size q := fun q hq => Or.inr hq
  refine g_vs (vs' := [.ref h, .int r, .int c, .int v, .null]) rfl ?_
  refine g_iload_n hx hb dX0_set_0 rfl rfl ?_
  refine g_iload_n hx hb dX0_set_1 rfl rfl ?_
  refine g_callS C (n := 2) (rest := []) (mX_badPixel (kl κ) r c) (lw_S q53 q54 q16 q55) (by decide +kernel) rfl ⟨rfl, rfl⟩ ⟨by rw [eR]; decide, by rw [eR]; decide⟩ rfl (Nat.le_of_ble_eq_true rfl) dX0_set_2 (fun x_2 p_2 => ?_)
  by_cases ok_ : okP r c
  · obtain ⟨i, j, hi, hj, rfl, rfl⟩ := okP_nat ok_
    rw [p_2.1 ok_]
    refine g_if_eq hx hb 10 dX0_set_5 (by decide) (fun c_5 => ?_) (fun c_5 => ?_)
    · refine g_iload_n hx hb dX0_set_10 rfl rfl ?_
      refine g_if_lt hx hb 21 dX0_set_11 (by decide) (fun c_11 => ?_) (fun c_11 => ?_)
      · refine g_bipush hx hb ((-2)) dX0_set_21 (by decide) ?_
        exact g_iret C hr hlk (⟨fun q => absurd ok_ q, fun _ _ => ⟨rfl, rfl⟩, fun _ q => absurd (Or.inl c_11) q⟩) dX0_set_23
      · refine g_iload_n hx hb dX0_set_14 rfl rfl ?_
        refine g_sipush hx hb (nI 255) dX0_set_15 (by decide) ?_
        refine g_icmp_le hx hb 24 dX0_set_18 (by decide) (fun c_18 => ?_) (fun c_18 => ?_)
        · refine g_aload_n hx hb dX0_set_24 rfl rfl ?_
          refine g_get C 0 (by decide) q26 rfl dX0_set_25 ?_
          refine g_iload_n hx hb dX0_set_28 rfl rfl ?_
          refine g_bipush hx hb (nI 16) dX0_set_29 (by decide) ?_
          refine n_imul hx hb dX0_set_31 ?_
          refine g_iload_n hx hb dX0_set_32 rfl rfl ?_
          refine n_iadd hx hb dX0_set_33 ?_
          refine g_ld C 0 256 rfl (by omega) (by decide) dX0_set_34 ?_
          refine g_istore (vs' := [.ref h, .int (nI i), .int (nI j), .int v, .int (F 0 ((i * 16) + j))]) hx hb dX0_set_35 (by decide) rfl ?_
          refine g_aload_n hx hb dX0_set_37 rfl rfl ?_
          refine g_get C 0 (by decide) q26 rfl dX0_set_38 ?_
          refine g_iload_n hx hb dX0_set_41 rfl rfl ?_
          refine g_bipush hx hb (nI 16) dX0_set_42 (by decide) ?_
          refine n_imul hx hb dX0_set_44 ?_
          refine g_iload_n hx hb dX0_set_45 rfl rfl ?_
          refine n_iadd hx hb dX0_set_46 ?_
          refine g_iload_n hx hb dX0_set_47 rfl rfl ?_
          refine g_st C 0 256 rfl (by omega) (by decide) dX0_set_48 ?_
          refine g_iload hx hb dX0_set_49 rfl ?_
          exact g_iret C hr hlk (⟨fun q => absurd ok_ q, fun _ q => absurd q (fun z => z.elim c_11 (Int32.not_lt.mpr c_18)), fun _ _ => by rw [ix_nat hi hj]; exact ⟨rfl, rfl⟩⟩) dX0_set_51
        · refine g_bipush hx hb ((-2)) dX0_set_21 (by decide) ?_
          exact g_iret C hr hlk (⟨fun q => absurd ok_ q, fun _ _ => ⟨rfl, rfl⟩, fun _ q => absurd (Or.inr (Int32.not_le.mp c_18)) q⟩) dX0_set_23
    · exact absurd rfl c_5
  · rw [p_2.2 ok_]
    refine g_if_eq hx hb 10 dX0_set_5 (by decide) (fun c_5 => ?_) (fun c_5 => ?_)
    · exact absurd c_5 (by decide)
    · refine g_iconst hx hb ((-1)) dX0_set_8 (by decide) ?_
      exact g_iret C hr hlk (⟨fun _ => ⟨rfl, rfl⟩, fun q => absurd q ok_, fun q => absurd q ok_⟩) dX0_set_9

set_option maxHeartbeats 4000000 in
theorem mM_set (l : Launch) (D : va_G) (d : ClassId) (h : Nat) (a : Nat → Nat) (F : bx_F) (r c v : Int32) : bx_Mi l yX1_set cX1_set 5 .int rmb1 D 1 nsM h a d F [.int r, .int c, .int v] (po_set F r c v) := by
  refine g_meti (Cn := RX1) (T := TX1) (by decide) rfl in_X1 rfl (cat_ints [r, c, v]) 1 rfl ?_
  intro κ el eR C hr hlk
  have hx := C.1
  have hb := C.2.1
  have hA : ∀ q, (ks κ).heap.size ≤ q → bx_A 1 nsM h a d F (ks κ).heap.size q := fun q hq => Or.inr hq
  refine g_vs (vs' := [.ref h, .int r, .int c, .int v, .null]) rfl ?_
  refine g_aload_n hx hb dX1_set_0 rfl rfl ?_
  refine g_iload_n hx hb dX1_set_1 rfl rfl ?_
  refine g_iload_n hx hb dX1_set_2 rfl rfl ?_
  refine g_calli C hA (n := 2) (rest := []) (mM_isPixel (kl κ) D d h a F r c) (lw_V q180 q182 qs9 q17 q183) (by decide +kernel) rfl ⟨rfl, rfl⟩ ⟨by rw [eR]; decide, by rw [eR]; decide⟩ rfl (Nat.le_of_ble_eq_true rfl) dX1_set_3 (fun x_3 u_3 p_3 => ?_)
  obtain ⟨e_, p_3⟩ := p_3
  rw [e_]
  by_cases ok_ : okP r c
  · obtain ⟨i, j, hi, hj, rfl, rfl⟩ := okP_nat ok_
    rw [p_3.1 ok_]
    refine g_if_ne hx hb 11 dX1_set_6 (by decide) (fun c_6 => ?_) (fun c_6 => ?_)
    · refine g_iload_n hx hb dX1_set_11 rfl rfl ?_
      refine g_if_lt hx hb 22 dX1_set_12 (by decide) (fun c_12 => ?_) (fun c_12 => ?_)
      · refine g_bipush hx hb ((-2)) dX1_set_22 (by decide) ?_
        exact g_iret C hr hlk (⟨fun q => absurd ok_ q, fun _ _ => ⟨rfl, rfl⟩, fun _ q => absurd (Or.inl c_12) q⟩) dX1_set_24
      · refine g_iload_n hx hb dX1_set_15 rfl rfl ?_
        refine g_sipush hx hb (nI 255) dX1_set_16 (by decide) ?_
        refine g_icmp_le hx hb 25 dX1_set_19 (by decide) (fun c_19 => ?_) (fun c_19 => ?_)
        · refine g_aload_n hx hb dX1_set_25 rfl rfl ?_
          refine g_get C 0 (by decide) q160 rfl dX1_set_26 ?_
          refine g_iload_n hx hb dX1_set_29 rfl rfl ?_
          refine g_bipush hx hb (nI 16) dX1_set_30 (by decide) ?_
          refine n_imul hx hb dX1_set_32 ?_
          refine g_iload_n hx hb dX1_set_33 rfl rfl ?_
          refine n_iadd hx hb dX1_set_34 ?_
          refine g_ld C 0 256 rfl (by omega) (by decide) dX1_set_35 ?_
          refine g_istore (vs' := [.ref h, .int (nI i), .int (nI j), .int v, .int (F 0 ((i * 16) + j))]) hx hb dX1_set_36 (by decide) rfl ?_
          refine g_aload_n hx hb dX1_set_38 rfl rfl ?_
          refine g_get C 0 (by decide) q160 rfl dX1_set_39 ?_
          refine g_iload_n hx hb dX1_set_42 rfl rfl ?_
          refine g_bipush hx hb (nI 16) dX1_set_43 (by decide) ?_
          refine n_imul hx hb dX1_set_45 ?_
          refine g_iload_n hx hb dX1_set_46 rfl rfl ?_
          refine n_iadd hx hb dX1_set_47 ?_
          refine g_iload_n hx hb dX1_set_48 rfl rfl ?_
          refine g_st C 0 256 rfl (by omega) (by decide) dX1_set_49 ?_
          refine g_iload hx hb dX1_set_50 rfl ?_
          exact g_iret C hr hlk (⟨fun q => absurd ok_ q, fun _ q => absurd q (fun z => z.elim c_12 (Int32.not_lt.mpr c_19)), fun _ _ => by rw [ix_nat hi hj]; exact ⟨rfl, rfl⟩⟩) dX1_set_52
        · refine g_bipush hx hb ((-2)) dX1_set_22 (by decide) ?_
          exact g_iret C hr hlk (⟨fun q => absurd ok_ q, fun _ _ => ⟨rfl, rfl⟩, fun _ q => absurd (Or.inr (Int32.not_le.mp c_19)) q⟩) dX1_set_24
    · exact absurd c_6 (by decide)
  · rw [p_3.2 ok_]
    refine g_if_ne hx hb 11 dX1_set_6 (by decide) (fun c_6 => ?_) (fun c_6 => ?_)
    · exact absurd rfl c_6
    · refine g_iconst hx hb ((-1)) dX1_set_9 (by decide) ?_
      exact g_iret C hr hlk (⟨fun _ => ⟨rfl, rfl⟩, fun q => absurd q ok_, fun q => absurd q ok_⟩) dX1_set_10

set_option maxHeartbeats 4000000 in
theorem mX_pixel (l : Launch) (D : va_G) (d : ClassId) (h : Nat) (a : Nat → Nat) (F : bx_F) (r c : Int32) : bx_Mi l yX0_pixel cX0_pixel 3 .int rmb1 D 0 nsX h a d F [.int r, .int c] (po_pixel F r c) := by
  refine g_meti (Cn := RX0) (T := TX0) (by decide) rfl in_X0 rfl (cat_ints [r, c]) 0 rfl ?_
  intro κ el eR C hr hlk
  have hx := C.1
  have hb := C.2.1
  have hA : ∀ q, (ks κ).heap.size ≤ q → bx_A 0 nsX h a d F (ks κ).heap.size q := fun q hq => Or.inr hq
  refine g_vs (vs' := [.ref h, .int r, .int c]) rfl ?_
  refine g_iload_n hx hb dX0_pixel_0 rfl rfl ?_
  refine g_iload_n hx hb dX0_pixel_1 rfl rfl ?_
  refine g_callS C (n := 2) (rest := []) (mX_badPixel (kl κ) r c) (lw_S q53 q54 q16 q55) (by decide +kernel) rfl ⟨rfl, rfl⟩ ⟨by rw [eR]; decide, by rw [eR]; decide⟩ rfl (Nat.le_of_ble_eq_true rfl) dX0_pixel_2 (fun x_2 p_2 => ?_)
  by_cases ok_ : okP r c
  · obtain ⟨i, j, hi, hj, rfl, rfl⟩ := okP_nat ok_
    rw [p_2.1 ok_]
    refine g_if_eq hx hb 12 dX0_pixel_5 (by decide) (fun c_5 => ?_) (fun c_5 => ?_)
    · refine g_aload_n hx hb dX0_pixel_12 rfl rfl ?_
      refine g_get C 0 (by decide) q26 rfl dX0_pixel_13 ?_
      refine g_iload_n hx hb dX0_pixel_16 rfl rfl ?_
      refine g_bipush hx hb (nI 16) dX0_pixel_17 (by decide) ?_
      refine n_imul hx hb dX0_pixel_19 ?_
      refine g_iload_n hx hb dX0_pixel_20 rfl rfl ?_
      refine n_iadd hx hb dX0_pixel_21 ?_
      refine g_ld C 0 256 rfl (by omega) (by decide) dX0_pixel_22 ?_
      exact g_iret C hr hlk (⟨rfl, fun q => absurd ok_ q, fun _ => by rw [ix_nat hi hj]⟩) dX0_pixel_23
    · exact absurd rfl c_5
  · rw [p_2.2 ok_]
    refine g_if_eq hx hb 12 dX0_pixel_5 (by decide) (fun c_5 => ?_) (fun c_5 => ?_)
    · exact absurd c_5 (by decide)
    · refine g_iconst hx hb ((-1)) dX0_pixel_8 (by decide) ?_
      refine g_goto hx hb 23 dX0_pixel_9 (by decide) ?_
      exact g_iret C hr hlk (⟨rfl, fun _ => rfl, fun q => absurd q ok_⟩) dX0_pixel_23

set_option maxHeartbeats 4000000 in
theorem mM_pixel (l : Launch) (D : va_G) (d : ClassId) (h : Nat) (a : Nat → Nat) (F : bx_F) (r c : Int32) : bx_Mi l yX1_pixel cX1_pixel 3 .int rmb1 D 1 nsM h a d F [.int r, .int c] (po_pixel F r c) := by
  refine g_meti (Cn := RX1) (T := TX1) (by decide) rfl in_X1 rfl (cat_ints [r, c]) 0 rfl ?_
  intro κ el eR C hr hlk
  have hx := C.1
  have hb := C.2.1
  have hA : ∀ q, (ks κ).heap.size ≤ q → bx_A 1 nsM h a d F (ks κ).heap.size q := fun q hq => Or.inr hq
  refine g_vs (vs' := [.ref h, .int r, .int c]) rfl ?_
  refine g_aload_n hx hb dX1_pixel_0 rfl rfl ?_
  refine g_iload_n hx hb dX1_pixel_1 rfl rfl ?_
  refine g_iload_n hx hb dX1_pixel_2 rfl rfl ?_
  refine g_calli C hA (n := 2) (rest := []) (mM_isPixel (kl κ) D d h a F r c) (lw_V q180 q182 qs9 q17 q183) (by decide +kernel) rfl ⟨rfl, rfl⟩ ⟨by rw [eR]; decide, by rw [eR]; decide⟩ rfl (Nat.le_of_ble_eq_true rfl) dX1_pixel_3 (fun x_3 u_3 p_3 => ?_)
  obtain ⟨e_, p_3⟩ := p_3
  rw [e_]
  by_cases ok_ : okP r c
  · obtain ⟨i, j, hi, hj, rfl, rfl⟩ := okP_nat ok_
    rw [p_3.1 ok_]
    refine g_if_eq hx hb 23 dX1_pixel_6 (by decide) (fun c_6 => ?_) (fun c_6 => ?_)
    · exact absurd c_6 (by decide)
    · refine g_aload_n hx hb dX1_pixel_9 rfl rfl ?_
      refine g_get C 0 (by decide) q160 rfl dX1_pixel_10 ?_
      refine g_iload_n hx hb dX1_pixel_13 rfl rfl ?_
      refine g_bipush hx hb (nI 16) dX1_pixel_14 (by decide) ?_
      refine n_imul hx hb dX1_pixel_16 ?_
      refine g_iload_n hx hb dX1_pixel_17 rfl rfl ?_
      refine n_iadd hx hb dX1_pixel_18 ?_
      refine g_ld C 0 256 rfl (by omega) (by decide) dX1_pixel_19 ?_
      refine g_goto hx hb 24 dX1_pixel_20 (by decide) ?_
      exact g_iret C hr hlk (⟨rfl, fun q => absurd ok_ q, fun _ => by rw [ix_nat hi hj]⟩) dX1_pixel_24
  · rw [p_3.2 ok_]
    refine g_if_eq hx hb 23 dX1_pixel_6 (by decide) (fun c_6 => ?_) (fun c_6 => ?_)
    · refine g_iconst hx hb ((-1)) dX1_pixel_23 (by decide) ?_
      exact g_iret C hr hlk (⟨rfl, fun _ => rfl, fun q => absurd q ok_⟩) dX1_pixel_24
    · exact absurd rfl c_6
end
section
set_option maxRecDepth 100000
set_option maxHeartbeats 4000000 in
theorem mX_remember (l : Launch) (D : va_G) (d : ClassId) (h : Nat) (a : Nat → Nat) (F : bx_F)  : bx_Mv l yX0_remember cX0_remember 2 rmb0 D 0 nsX h a d F [] (po_copy F 2 0) := by
  refine g_metv (Cn := RX0) (T := TX0) (by decide) rfl in_X0 rfl (cat_ints []) 1 rfl ?_
  intro κ el eR C hr hlk
  have hx := C.1
  have hb := C.2.1
  have hA : ∀ q, (ks κ).heap.size ≤ q → bx_A 0 nsX h a d F (ks κ).heap.size q := fun q hq => Or.inr hq
  refine g_vs (vs' := [.ref h, .null]) rfl ?_
  refine g_iconst hx hb (nI 0) dX0_remember_0 (by decide) ?_
  refine g_istore_n (vs' := [.ref h, .int (nI 0)]) hx hb dX0_remember_1 rfl (by decide) rfl ?_
  have loop : ∀ (n i : Nat) (G : bx_F), i + n = 256 → (∀ k, k ≠ 2 → G k = F k) → (∀ j, j < i → G 2 j = F 0 j) → bx_G κ (bx_Qv κ D 0 nsX h a d F (po_copy F 2 0)) 2 0 0 (bx_S D 0 nsX h a d (bx_A 0 nsX h a d F (ks κ).heap.size) (ks κ).heap G) 2 [.ref h, .int (nI i)] [] := by
    intro n
    induction n with
    | zero =>
      intro i G hn h1 h2
      refine g_iload_n hx hb dX0_remember_2 rfl rfl ?_
      refine g_sipush hx hb (nI 256) dX0_remember_3 (by decide) ?_
      refine n_icmp_ge hx hb 27 dX0_remember_6 (by decide) (by omega) (by omega) (fun c_6 => ?_) (fun c_6 => ?_)
      · exact g_vret C hr hlk (⟨h1, fun j hj => h2 j (by omega)⟩) dX0_remember_27
      · omega
    | succ n ih =>
      intro i G hn h1 h2
      refine g_iload_n hx hb dX0_remember_2 rfl rfl ?_
      refine g_sipush hx hb (nI 256) dX0_remember_3 (by decide) ?_
      refine n_icmp_ge hx hb 27 dX0_remember_6 (by decide) (by omega) (by omega) (fun c_6 => ?_) (fun c_6 => ?_)
      · omega
      · refine g_aload_n hx hb dX0_remember_9 rfl rfl ?_
        refine g_get C 2 (by decide) q28 rfl dX0_remember_10 ?_
        refine g_iload_n hx hb dX0_remember_13 rfl rfl ?_
        refine g_aload_n hx hb dX0_remember_14 rfl rfl ?_
        refine g_get C 0 (by decide) q26 rfl dX0_remember_15 ?_
        refine g_iload_n hx hb dX0_remember_18 rfl rfl ?_
        refine g_ld C 0 256 rfl (by omega) (by decide) dX0_remember_19 ?_
        refine g_st C 2 256 rfl (by omega) (by decide) dX0_remember_20 ?_
        refine n_iinc (vs' := [.ref h, .int (nI (i + 1))]) hx hb dX0_remember_21 rfl (by decide) rfl ?_
        refine g_goto hx hb 2 dX0_remember_24 (by decide) ?_
        exact ih (i + 1) _ (by omega) (fun k hk => (va_up_ne _ _ hk).trans (h1 k hk)) (fun j hj => by
          rw [va_up_self]
          by_cases e : j = i
          · rw [e, pk_us, h1 0 (by decide)]
          · rw [pk_un e]; exact h2 j (by omega))
  exact loop 256 0 F rfl (fun _ _ => rfl) (fun j hj => absurd hj (Nat.not_lt_zero _))

set_option maxHeartbeats 4000000 in
theorem mX_keep (l : Launch) (D : va_G) (d : ClassId) (h : Nat) (a : Nat → Nat) (F : bx_F)  : bx_Mv l yX0_keep cX0_keep 2 rmb0 D 0 nsX h a d F [] (po_copy F 1 0) := by
  refine g_metv (Cn := RX0) (T := TX0) (by decide) rfl in_X0 rfl (cat_ints []) 1 rfl ?_
  intro κ el eR C hr hlk
  have hx := C.1
  have hb := C.2.1
  have hA : ∀ q, (ks κ).heap.size ≤ q → bx_A 0 nsX h a d F (ks κ).heap.size q := fun q hq => Or.inr hq
  refine g_vs (vs' := [.ref h, .null]) rfl ?_
  refine g_iconst hx hb (nI 0) dX0_keep_0 (by decide) ?_
  refine g_istore_n (vs' := [.ref h, .int (nI 0)]) hx hb dX0_keep_1 rfl (by decide) rfl ?_
  have loop : ∀ (n i : Nat) (G : bx_F), i + n = 256 → (∀ k, k ≠ 1 → G k = F k) → (∀ j, j < i → G 1 j = F 0 j) → bx_G κ (bx_Qv κ D 0 nsX h a d F (po_copy F 1 0)) 2 0 0 (bx_S D 0 nsX h a d (bx_A 0 nsX h a d F (ks κ).heap.size) (ks κ).heap G) 2 [.ref h, .int (nI i)] [] := by
    intro n
    induction n with
    | zero =>
      intro i G hn h1 h2
      refine g_iload_n hx hb dX0_keep_2 rfl rfl ?_
      refine g_sipush hx hb (nI 256) dX0_keep_3 (by decide) ?_
      refine n_icmp_ge hx hb 27 dX0_keep_6 (by decide) (by omega) (by omega) (fun c_6 => ?_) (fun c_6 => ?_)
      · exact g_vret C hr hlk (⟨h1, fun j hj => h2 j (by omega)⟩) dX0_keep_27
      · omega
    | succ n ih =>
      intro i G hn h1 h2
      refine g_iload_n hx hb dX0_keep_2 rfl rfl ?_
      refine g_sipush hx hb (nI 256) dX0_keep_3 (by decide) ?_
      refine n_icmp_ge hx hb 27 dX0_keep_6 (by decide) (by omega) (by omega) (fun c_6 => ?_) (fun c_6 => ?_)
      · omega
      · refine g_aload_n hx hb dX0_keep_9 rfl rfl ?_
        refine g_get C 1 (by decide) q27 rfl dX0_keep_10 ?_
        refine g_iload_n hx hb dX0_keep_13 rfl rfl ?_
        refine g_aload_n hx hb dX0_keep_14 rfl rfl ?_
        refine g_get C 0 (by decide) q26 rfl dX0_keep_15 ?_
        refine g_iload_n hx hb dX0_keep_18 rfl rfl ?_
        refine g_ld C 0 256 rfl (by omega) (by decide) dX0_keep_19 ?_
        refine g_st C 1 256 rfl (by omega) (by decide) dX0_keep_20 ?_
        refine n_iinc (vs' := [.ref h, .int (nI (i + 1))]) hx hb dX0_keep_21 rfl (by decide) rfl ?_
        refine g_goto hx hb 2 dX0_keep_24 (by decide) ?_
        exact ih (i + 1) _ (by omega) (fun k hk => (va_up_ne _ _ hk).trans (h1 k hk)) (fun j hj => by
          rw [va_up_self]
          by_cases e : j = i
          · rw [e, pk_us, h1 0 (by decide)]
          · rw [pk_un e]; exact h2 j (by omega))
  exact loop 256 0 F rfl (fun _ _ => rfl) (fun j hj => absurd hj (Nat.not_lt_zero _))

set_option maxHeartbeats 4000000 in
theorem mM_keep (l : Launch) (D : va_G) (d : ClassId) (h : Nat) (a : Nat → Nat) (F : bx_F)  : bx_Mv l yX1_keep cX1_keep 2 rmb0 D 1 nsM h a d F [] (po_copy F 1 0) := by
  refine g_metv (Cn := RX1) (T := TX1) (by decide) rfl in_X1 rfl (cat_ints []) 1 rfl ?_
  intro κ el eR C hr hlk
  have hx := C.1
  have hb := C.2.1
  have hA : ∀ q, (ks κ).heap.size ≤ q → bx_A 1 nsM h a d F (ks κ).heap.size q := fun q hq => Or.inr hq
  refine g_vs (vs' := [.ref h, .null]) rfl ?_
  refine g_iconst hx hb (nI 0) dX1_keep_0 (by decide) ?_
  refine g_istore_n (vs' := [.ref h, .int (nI 0)]) hx hb dX1_keep_1 rfl (by decide) rfl ?_
  have loop : ∀ (n i : Nat) (G : bx_F), i + n = 256 → (∀ k, k ≠ 1 → G k = F k) → (∀ j, j < i → G 1 j = F 0 j) → bx_G κ (bx_Qv κ D 1 nsM h a d F (po_copy F 1 0)) 2 0 0 (bx_S D 1 nsM h a d (bx_A 1 nsM h a d F (ks κ).heap.size) (ks κ).heap G) 2 [.ref h, .int (nI i)] [] := by
    intro n
    induction n with
    | zero =>
      intro i G hn h1 h2
      refine g_iload_n hx hb dX1_keep_2 rfl rfl ?_
      refine g_sipush hx hb (nI 256) dX1_keep_3 (by decide) ?_
      refine n_icmp_ge hx hb 27 dX1_keep_6 (by decide) (by omega) (by omega) (fun c_6 => ?_) (fun c_6 => ?_)
      · exact g_vret C hr hlk (⟨h1, fun j hj => h2 j (by omega)⟩) dX1_keep_27
      · omega
    | succ n ih =>
      intro i G hn h1 h2
      refine g_iload_n hx hb dX1_keep_2 rfl rfl ?_
      refine g_sipush hx hb (nI 256) dX1_keep_3 (by decide) ?_
      refine n_icmp_ge hx hb 27 dX1_keep_6 (by decide) (by omega) (by omega) (fun c_6 => ?_) (fun c_6 => ?_)
      · omega
      · refine g_aload_n hx hb dX1_keep_9 rfl rfl ?_
        refine g_get C 1 (by decide) q161 rfl dX1_keep_10 ?_
        refine g_iload_n hx hb dX1_keep_13 rfl rfl ?_
        refine g_aload_n hx hb dX1_keep_14 rfl rfl ?_
        refine g_get C 0 (by decide) q160 rfl dX1_keep_15 ?_
        refine g_iload_n hx hb dX1_keep_18 rfl rfl ?_
        refine g_ld C 0 256 rfl (by omega) (by decide) dX1_keep_19 ?_
        refine g_st C 1 256 rfl (by omega) (by decide) dX1_keep_20 ?_
        refine n_iinc (vs' := [.ref h, .int (nI (i + 1))]) hx hb dX1_keep_21 rfl (by decide) rfl ?_
        refine g_goto hx hb 2 dX1_keep_24 (by decide) ?_
        exact ih (i + 1) _ (by omega) (fun k hk => (va_up_ne _ _ hk).trans (h1 k hk)) (fun j hj => by
          rw [va_up_self]
          by_cases e : j = i
          · rw [e, pk_us, h1 0 (by decide)]
          · rw [pk_un e]; exact h2 j (by omega))
  exact loop 256 0 F rfl (fun _ _ => rfl) (fun j hj => absurd hj (Nat.not_lt_zero _))

set_option maxHeartbeats 4000000 in
theorem mX_changed (l : Launch) (D : va_G) (d : ClassId) (h : Nat) (a : Nat → Nat) (F : bx_F)  : bx_Mi l yX0_changed cX0_changed 3 .int rmb0 D 0 nsX h a d F [] (po_cnt F (fun j => decide (¬ F 0 j = F 2 j))) := by
  refine g_meti (Cn := RX0) (T := TX0) (by decide) rfl in_X0 rfl (cat_ints []) 2 rfl ?_
  intro κ el eR C hr hlk
  have hx := C.1
  have hb := C.2.1
  have hA : ∀ q, (ks κ).heap.size ≤ q → bx_A 0 nsX h a d F (ks κ).heap.size q := fun q hq => Or.inr hq
  refine g_vs (vs' := [.ref h, .null, .null]) rfl ?_
  refine g_iconst hx hb (nI 0) dX0_changed_0 (by decide) ?_
  refine g_istore_n (vs' := [.ref h, .int (nI 0), .null]) hx hb dX0_changed_1 rfl (by decide) rfl ?_
  refine g_iconst hx hb (nI 0) dX0_changed_2 (by decide) ?_
  refine g_istore_n (vs' := [.ref h, .int (nI 0), .int (nI 0)]) hx hb dX0_changed_3 rfl (by decide) rfl ?_
  have loop : ∀ (n i : Nat), i + n = 256 → bx_G κ (bx_Qi κ D 0 nsX h a d F (po_cnt F (fun j => decide (¬ F 0 j = F 2 j)))) 3 0 0 (bx_S D 0 nsX h a d (bx_A 0 nsX h a d F (ks κ).heap.size) (ks κ).heap F) 4 [.ref h, .int (nI (cn_ (fun j => decide (¬ F 0 j = F 2 j)) i)), .int (nI i)] [] := by
    intro n
    induction n with
    | zero =>
      intro i hn
      refine g_iload_n hx hb dX0_changed_4 rfl rfl ?_
      refine g_sipush hx hb (nI 256) dX0_changed_5 (by decide) ?_
      refine n_icmp_ge hx hb 35 dX0_changed_8 (by decide) (by omega) (by omega) (fun c_8 => ?_) (fun c_8 => ?_)
      · refine g_iload_n hx hb dX0_changed_35 rfl rfl ?_
        exact g_iret C hr hlk (⟨rfl, by rw [show i = 256 by omega]⟩) dX0_changed_36
      · omega
    | succ n ih =>
      intro i hn
      refine g_iload_n hx hb dX0_changed_4 rfl rfl ?_
      refine g_sipush hx hb (nI 256) dX0_changed_5 (by decide) ?_
      refine n_icmp_ge hx hb 35 dX0_changed_8 (by decide) (by omega) (by omega) (fun c_8 => ?_) (fun c_8 => ?_)
      · omega
      · refine g_aload_n hx hb dX0_changed_11 rfl rfl ?_
        refine g_get C 0 (by decide) q26 rfl dX0_changed_12 ?_
        refine g_iload_n hx hb dX0_changed_15 rfl rfl ?_
        refine g_ld C 0 256 rfl (by omega) (by decide) dX0_changed_16 ?_
        refine g_aload_n hx hb dX0_changed_17 rfl rfl ?_
        refine g_get C 2 (by decide) q28 rfl dX0_changed_18 ?_
        refine g_iload_n hx hb dX0_changed_21 rfl rfl ?_
        refine g_ld C 2 256 rfl (by omega) (by decide) dX0_changed_22 ?_
        refine g_icmp_eq hx hb 29 dX0_changed_23 (by decide) (fun c_23 => ?_) (fun c_23 => ?_)
        · refine n_iinc (vs' := [.ref h, .int (nI (cn_ (fun j => decide (¬ F 0 j = F 2 j)) i)), .int (nI (i + 1))]) hx hb dX0_changed_29 rfl (by decide) rfl ?_
          refine g_goto hx hb 4 dX0_changed_32 (by decide) ?_
          have e_ := @cn_f (fun j => decide (¬ F 0 j = F 2 j)) i (by simp [c_23])
          rw [← e_]
          exact ih (i + 1) (by omega)
        · refine n_iinc (vs' := [.ref h, .int (nI (cn_ (fun j => decide (¬ F 0 j = F 2 j)) i + 1)), .int (nI i)]) hx hb dX0_changed_26 rfl (by decide) rfl ?_
          refine n_iinc (vs' := [.ref h, .int (nI (cn_ (fun j => decide (¬ F 0 j = F 2 j)) i + 1)), .int (nI (i + 1))]) hx hb dX0_changed_29 rfl (by decide) rfl ?_
          refine g_goto hx hb 4 dX0_changed_32 (by decide) ?_
          have e_ := @cn_t (fun j => decide (¬ F 0 j = F 2 j)) i (by simp [c_23])
          rw [← e_]
          exact ih (i + 1) (by omega)
  exact loop 256 0 rfl

set_option maxHeartbeats 4000000 in
theorem mX_equal (l : Launch) (D : va_G) (d : ClassId) (h : Nat) (a : Nat → Nat) (F : bx_F)  : bx_Mi l yX0_equal cX0_equal 3 .int rmb0 D 0 nsX h a d F [] (po_cnt F (fun j => decide (F 0 j = F 1 j))) := by
  refine g_meti (Cn := RX0) (T := TX0) (by decide) rfl in_X0 rfl (cat_ints []) 2 rfl ?_
  intro κ el eR C hr hlk
  have hx := C.1
  have hb := C.2.1
  have hA : ∀ q, (ks κ).heap.size ≤ q → bx_A 0 nsX h a d F (ks κ).heap.size q := fun q hq => Or.inr hq
  refine g_vs (vs' := [.ref h, .null, .null]) rfl ?_
  refine g_iconst hx hb (nI 0) dX0_equal_0 (by decide) ?_
  refine g_istore_n (vs' := [.ref h, .int (nI 0), .null]) hx hb dX0_equal_1 rfl (by decide) rfl ?_
  refine g_iconst hx hb (nI 0) dX0_equal_2 (by decide) ?_
  refine g_istore_n (vs' := [.ref h, .int (nI 0), .int (nI 0)]) hx hb dX0_equal_3 rfl (by decide) rfl ?_
  have loop : ∀ (n i : Nat), i + n = 256 → bx_G κ (bx_Qi κ D 0 nsX h a d F (po_cnt F (fun j => decide (F 0 j = F 1 j)))) 3 0 0 (bx_S D 0 nsX h a d (bx_A 0 nsX h a d F (ks κ).heap.size) (ks κ).heap F) 4 [.ref h, .int (nI (cn_ (fun j => decide (F 0 j = F 1 j)) i)), .int (nI i)] [] := by
    intro n
    induction n with
    | zero =>
      intro i hn
      refine g_iload_n hx hb dX0_equal_4 rfl rfl ?_
      refine g_sipush hx hb (nI 256) dX0_equal_5 (by decide) ?_
      refine n_icmp_ge hx hb 35 dX0_equal_8 (by decide) (by omega) (by omega) (fun c_8 => ?_) (fun c_8 => ?_)
      · refine g_iload_n hx hb dX0_equal_35 rfl rfl ?_
        exact g_iret C hr hlk (⟨rfl, by rw [show i = 256 by omega]⟩) dX0_equal_36
      · omega
    | succ n ih =>
      intro i hn
      refine g_iload_n hx hb dX0_equal_4 rfl rfl ?_
      refine g_sipush hx hb (nI 256) dX0_equal_5 (by decide) ?_
      refine n_icmp_ge hx hb 35 dX0_equal_8 (by decide) (by omega) (by omega) (fun c_8 => ?_) (fun c_8 => ?_)
      · omega
      · refine g_aload_n hx hb dX0_equal_11 rfl rfl ?_
        refine g_get C 0 (by decide) q26 rfl dX0_equal_12 ?_
        refine g_iload_n hx hb dX0_equal_15 rfl rfl ?_
        refine g_ld C 0 256 rfl (by omega) (by decide) dX0_equal_16 ?_
        refine g_aload_n hx hb dX0_equal_17 rfl rfl ?_
        refine g_get C 1 (by decide) q27 rfl dX0_equal_18 ?_
        refine g_iload_n hx hb dX0_equal_21 rfl rfl ?_
        refine g_ld C 1 256 rfl (by omega) (by decide) dX0_equal_22 ?_
        refine g_icmp_ne hx hb 29 dX0_equal_23 (by decide) (fun c_23 => ?_) (fun c_23 => ?_)
        · refine n_iinc (vs' := [.ref h, .int (nI (cn_ (fun j => decide (F 0 j = F 1 j)) i)), .int (nI (i + 1))]) hx hb dX0_equal_29 rfl (by decide) rfl ?_
          refine g_goto hx hb 4 dX0_equal_32 (by decide) ?_
          have e_ := @cn_f (fun j => decide (F 0 j = F 1 j)) i (by simp [c_23])
          rw [← e_]
          exact ih (i + 1) (by omega)
        · refine n_iinc (vs' := [.ref h, .int (nI (cn_ (fun j => decide (F 0 j = F 1 j)) i + 1)), .int (nI i)]) hx hb dX0_equal_26 rfl (by decide) rfl ?_
          refine n_iinc (vs' := [.ref h, .int (nI (cn_ (fun j => decide (F 0 j = F 1 j)) i + 1)), .int (nI (i + 1))]) hx hb dX0_equal_29 rfl (by decide) rfl ?_
          refine g_goto hx hb 4 dX0_equal_32 (by decide) ?_
          have e_ := @cn_t (fun j => decide (F 0 j = F 1 j)) i (by simp [c_23])
          rw [← e_]
          exact ih (i + 1) (by omega)
  exact loop 256 0 rfl

set_option maxHeartbeats 4000000 in
theorem mX_above (l : Launch) (D : va_G) (d : ClassId) (h : Nat) (a : Nat → Nat) (F : bx_F)  : bx_Mi l yX0_above cX0_above 3 .int rmb0 D 0 nsX h a d F [] (po_cnt F (fun j => decide (F 1 j < F 0 j))) := by
  refine g_meti (Cn := RX0) (T := TX0) (by decide) rfl in_X0 rfl (cat_ints []) 2 rfl ?_
  intro κ el eR C hr hlk
  have hx := C.1
  have hb := C.2.1
  have hA : ∀ q, (ks κ).heap.size ≤ q → bx_A 0 nsX h a d F (ks κ).heap.size q := fun q hq => Or.inr hq
  refine g_vs (vs' := [.ref h, .null, .null]) rfl ?_
  refine g_iconst hx hb (nI 0) dX0_above_0 (by decide) ?_
  refine g_istore_n (vs' := [.ref h, .int (nI 0), .null]) hx hb dX0_above_1 rfl (by decide) rfl ?_
  refine g_iconst hx hb (nI 0) dX0_above_2 (by decide) ?_
  refine g_istore_n (vs' := [.ref h, .int (nI 0), .int (nI 0)]) hx hb dX0_above_3 rfl (by decide) rfl ?_
  have loop : ∀ (n i : Nat), i + n = 256 → bx_G κ (bx_Qi κ D 0 nsX h a d F (po_cnt F (fun j => decide (F 1 j < F 0 j)))) 3 0 0 (bx_S D 0 nsX h a d (bx_A 0 nsX h a d F (ks κ).heap.size) (ks κ).heap F) 4 [.ref h, .int (nI (cn_ (fun j => decide (F 1 j < F 0 j)) i)), .int (nI i)] [] := by
    intro n
    induction n with
    | zero =>
      intro i hn
      refine g_iload_n hx hb dX0_above_4 rfl rfl ?_
      refine g_sipush hx hb (nI 256) dX0_above_5 (by decide) ?_
      refine n_icmp_ge hx hb 35 dX0_above_8 (by decide) (by omega) (by omega) (fun c_8 => ?_) (fun c_8 => ?_)
      · refine g_iload_n hx hb dX0_above_35 rfl rfl ?_
        exact g_iret C hr hlk (⟨rfl, by rw [show i = 256 by omega]⟩) dX0_above_36
      · omega
    | succ n ih =>
      intro i hn
      refine g_iload_n hx hb dX0_above_4 rfl rfl ?_
      refine g_sipush hx hb (nI 256) dX0_above_5 (by decide) ?_
      refine n_icmp_ge hx hb 35 dX0_above_8 (by decide) (by omega) (by omega) (fun c_8 => ?_) (fun c_8 => ?_)
      · omega
      · refine g_aload_n hx hb dX0_above_11 rfl rfl ?_
        refine g_get C 0 (by decide) q26 rfl dX0_above_12 ?_
        refine g_iload_n hx hb dX0_above_15 rfl rfl ?_
        refine g_ld C 0 256 rfl (by omega) (by decide) dX0_above_16 ?_
        refine g_aload_n hx hb dX0_above_17 rfl rfl ?_
        refine g_get C 1 (by decide) q27 rfl dX0_above_18 ?_
        refine g_iload_n hx hb dX0_above_21 rfl rfl ?_
        refine g_ld C 1 256 rfl (by omega) (by decide) dX0_above_22 ?_
        refine g_icmp_le hx hb 29 dX0_above_23 (by decide) (fun c_23 => ?_) (fun c_23 => ?_)
        · refine n_iinc (vs' := [.ref h, .int (nI (cn_ (fun j => decide (F 1 j < F 0 j)) i)), .int (nI (i + 1))]) hx hb dX0_above_29 rfl (by decide) rfl ?_
          refine g_goto hx hb 4 dX0_above_32 (by decide) ?_
          have e_ := @cn_f (fun j => decide (F 1 j < F 0 j)) i (fun q => absurd (of_decide_eq_true q) (Int32.not_lt.mpr c_23))
          rw [← e_]
          exact ih (i + 1) (by omega)
        · refine n_iinc (vs' := [.ref h, .int (nI (cn_ (fun j => decide (F 1 j < F 0 j)) i + 1)), .int (nI i)]) hx hb dX0_above_26 rfl (by decide) rfl ?_
          refine n_iinc (vs' := [.ref h, .int (nI (cn_ (fun j => decide (F 1 j < F 0 j)) i + 1)), .int (nI (i + 1))]) hx hb dX0_above_29 rfl (by decide) rfl ?_
          refine g_goto hx hb 4 dX0_above_32 (by decide) ?_
          have e_ := @cn_t (fun j => decide (F 1 j < F 0 j)) i (decide_eq_true (Int32.not_le.mp c_23))
          rw [← e_]
          exact ih (i + 1) (by omega)
  exact loop 256 0 rfl

set_option maxHeartbeats 4000000 in
theorem mM_equal (l : Launch) (D : va_G) (d : ClassId) (h : Nat) (a : Nat → Nat) (F : bx_F)  : bx_Mi l yX1_equal cX1_equal 3 .int rmb0 D 1 nsM h a d F [] (po_cnt F (fun j => decide (F 0 j = F 1 j))) := by
  refine g_meti (Cn := RX1) (T := TX1) (by decide) rfl in_X1 rfl (cat_ints []) 2 rfl ?_
  intro κ el eR C hr hlk
  have hx := C.1
  have hb := C.2.1
  have hA : ∀ q, (ks κ).heap.size ≤ q → bx_A 1 nsM h a d F (ks κ).heap.size q := fun q hq => Or.inr hq
  refine g_vs (vs' := [.ref h, .null, .null]) rfl ?_
  refine g_iconst hx hb (nI 0) dX1_equal_0 (by decide) ?_
  refine g_istore_n (vs' := [.ref h, .int (nI 0), .null]) hx hb dX1_equal_1 rfl (by decide) rfl ?_
  refine g_iconst hx hb (nI 0) dX1_equal_2 (by decide) ?_
  refine g_istore_n (vs' := [.ref h, .int (nI 0), .int (nI 0)]) hx hb dX1_equal_3 rfl (by decide) rfl ?_
  have loop : ∀ (n i : Nat), i + n = 256 → bx_G κ (bx_Qi κ D 1 nsM h a d F (po_cnt F (fun j => decide (F 0 j = F 1 j)))) 3 0 0 (bx_S D 1 nsM h a d (bx_A 1 nsM h a d F (ks κ).heap.size) (ks κ).heap F) 4 [.ref h, .int (nI (cn_ (fun j => decide (F 0 j = F 1 j)) i)), .int (nI i)] [] := by
    intro n
    induction n with
    | zero =>
      intro i hn
      refine g_iload_n hx hb dX1_equal_4 rfl rfl ?_
      refine g_sipush hx hb (nI 256) dX1_equal_5 (by decide) ?_
      refine n_icmp_ge hx hb 35 dX1_equal_8 (by decide) (by omega) (by omega) (fun c_8 => ?_) (fun c_8 => ?_)
      · refine g_iload_n hx hb dX1_equal_35 rfl rfl ?_
        exact g_iret C hr hlk (⟨rfl, by rw [show i = 256 by omega]⟩) dX1_equal_36
      · omega
    | succ n ih =>
      intro i hn
      refine g_iload_n hx hb dX1_equal_4 rfl rfl ?_
      refine g_sipush hx hb (nI 256) dX1_equal_5 (by decide) ?_
      refine n_icmp_ge hx hb 35 dX1_equal_8 (by decide) (by omega) (by omega) (fun c_8 => ?_) (fun c_8 => ?_)
      · omega
      · refine g_aload_n hx hb dX1_equal_11 rfl rfl ?_
        refine g_get C 0 (by decide) q160 rfl dX1_equal_12 ?_
        refine g_iload_n hx hb dX1_equal_15 rfl rfl ?_
        refine g_ld C 0 256 rfl (by omega) (by decide) dX1_equal_16 ?_
        refine g_aload_n hx hb dX1_equal_17 rfl rfl ?_
        refine g_get C 1 (by decide) q161 rfl dX1_equal_18 ?_
        refine g_iload_n hx hb dX1_equal_21 rfl rfl ?_
        refine g_ld C 1 256 rfl (by omega) (by decide) dX1_equal_22 ?_
        refine g_icmp_ne hx hb 29 dX1_equal_23 (by decide) (fun c_23 => ?_) (fun c_23 => ?_)
        · refine n_iinc (vs' := [.ref h, .int (nI (cn_ (fun j => decide (F 0 j = F 1 j)) i)), .int (nI (i + 1))]) hx hb dX1_equal_29 rfl (by decide) rfl ?_
          refine g_goto hx hb 4 dX1_equal_32 (by decide) ?_
          have e_ := @cn_f (fun j => decide (F 0 j = F 1 j)) i (by simp [c_23])
          rw [← e_]
          exact ih (i + 1) (by omega)
        · refine n_iinc (vs' := [.ref h, .int (nI (cn_ (fun j => decide (F 0 j = F 1 j)) i + 1)), .int (nI i)]) hx hb dX1_equal_26 rfl (by decide) rfl ?_
          refine n_iinc (vs' := [.ref h, .int (nI (cn_ (fun j => decide (F 0 j = F 1 j)) i + 1)), .int (nI (i + 1))]) hx hb dX1_equal_29 rfl (by decide) rfl ?_
          refine g_goto hx hb 4 dX1_equal_32 (by decide) ?_
          have e_ := @cn_t (fun j => decide (F 0 j = F 1 j)) i (by simp [c_23])
          rw [← e_]
          exact ih (i + 1) (by omega)
  exact loop 256 0 rfl

set_option maxHeartbeats 4000000 in
theorem mM_above (l : Launch) (D : va_G) (d : ClassId) (h : Nat) (a : Nat → Nat) (F : bx_F)  : bx_Mi l yX1_above cX1_above 3 .int rmb0 D 1 nsM h a d F [] (po_cnt F (fun j => decide (F 1 j < F 0 j))) := by
  refine g_meti (Cn := RX1) (T := TX1) (by decide) rfl in_X1 rfl (cat_ints []) 2 rfl ?_
  intro κ el eR C hr hlk
  have hx := C.1
  have hb := C.2.1
  have hA : ∀ q, (ks κ).heap.size ≤ q → bx_A 1 nsM h a d F (ks κ).heap.size q := fun q hq => Or.inr hq
  refine g_vs (vs' := [.ref h, .null, .null]) rfl ?_
  refine g_iconst hx hb (nI 0) dX1_above_0 (by decide) ?_
  refine g_istore_n (vs' := [.ref h, .int (nI 0), .null]) hx hb dX1_above_1 rfl (by decide) rfl ?_
  refine g_iconst hx hb (nI 0) dX1_above_2 (by decide) ?_
  refine g_istore_n (vs' := [.ref h, .int (nI 0), .int (nI 0)]) hx hb dX1_above_3 rfl (by decide) rfl ?_
  have loop : ∀ (n i : Nat), i + n = 256 → bx_G κ (bx_Qi κ D 1 nsM h a d F (po_cnt F (fun j => decide (F 1 j < F 0 j)))) 3 0 0 (bx_S D 1 nsM h a d (bx_A 1 nsM h a d F (ks κ).heap.size) (ks κ).heap F) 4 [.ref h, .int (nI (cn_ (fun j => decide (F 1 j < F 0 j)) i)), .int (nI i)] [] := by
    intro n
    induction n with
    | zero =>
      intro i hn
      refine g_iload_n hx hb dX1_above_4 rfl rfl ?_
      refine g_sipush hx hb (nI 256) dX1_above_5 (by decide) ?_
      refine n_icmp_ge hx hb 35 dX1_above_8 (by decide) (by omega) (by omega) (fun c_8 => ?_) (fun c_8 => ?_)
      · refine g_iload_n hx hb dX1_above_35 rfl rfl ?_
        exact g_iret C hr hlk (⟨rfl, by rw [show i = 256 by omega]⟩) dX1_above_36
      · omega
    | succ n ih =>
      intro i hn
      refine g_iload_n hx hb dX1_above_4 rfl rfl ?_
      refine g_sipush hx hb (nI 256) dX1_above_5 (by decide) ?_
      refine n_icmp_ge hx hb 35 dX1_above_8 (by decide) (by omega) (by omega) (fun c_8 => ?_) (fun c_8 => ?_)
      · omega
      · refine g_aload_n hx hb dX1_above_11 rfl rfl ?_
        refine g_get C 0 (by decide) q160 rfl dX1_above_12 ?_
        refine g_iload_n hx hb dX1_above_15 rfl rfl ?_
        refine g_ld C 0 256 rfl (by omega) (by decide) dX1_above_16 ?_
        refine g_aload_n hx hb dX1_above_17 rfl rfl ?_
        refine g_get C 1 (by decide) q161 rfl dX1_above_18 ?_
        refine g_iload_n hx hb dX1_above_21 rfl rfl ?_
        refine g_ld C 1 256 rfl (by omega) (by decide) dX1_above_22 ?_
        refine g_icmp_le hx hb 29 dX1_above_23 (by decide) (fun c_23 => ?_) (fun c_23 => ?_)
        · refine n_iinc (vs' := [.ref h, .int (nI (cn_ (fun j => decide (F 1 j < F 0 j)) i)), .int (nI (i + 1))]) hx hb dX1_above_29 rfl (by decide) rfl ?_
          refine g_goto hx hb 4 dX1_above_32 (by decide) ?_
          have e_ := @cn_f (fun j => decide (F 1 j < F 0 j)) i (fun q => absurd (of_decide_eq_true q) (Int32.not_lt.mpr c_23))
          rw [← e_]
          exact ih (i + 1) (by omega)
        · refine n_iinc (vs' := [.ref h, .int (nI (cn_ (fun j => decide (F 1 j < F 0 j)) i + 1)), .int (nI i)]) hx hb dX1_above_26 rfl (by decide) rfl ?_
          refine n_iinc (vs' := [.ref h, .int (nI (cn_ (fun j => decide (F 1 j < F 0 j)) i + 1)), .int (nI (i + 1))]) hx hb dX1_above_29 rfl (by decide) rfl ?_
          refine g_goto hx hb 4 dX1_above_32 (by decide) ?_
          have e_ := @cn_t (fun j => decide (F 1 j < F 0 j)) i (decide_eq_true (Int32.not_le.mp c_23))
          rw [← e_]
          exact ih (i + 1) (by omega)
  exact loop 256 0 rfl

set_option maxHeartbeats 4000000 in
theorem mX_sum (l : Launch) (D : va_G) (d : ClassId) (h : Nat) (a : Nat → Nat) (F : bx_F)  : bx_Mi l yX0_sum cX0_sum 3 .int rmb0 D 0 nsX h a d F [] (po_sum F) := by
  refine g_meti (Cn := RX0) (T := TX0) (by decide) rfl in_X0 rfl (cat_ints []) 2 rfl ?_
  intro κ el eR C hr hlk
  have hx := C.1
  have hb := C.2.1
  have hA : ∀ q, (ks κ).heap.size ≤ q → bx_A 0 nsX h a d F (ks κ).heap.size q := fun q hq => Or.inr hq
  refine g_vs (vs' := [.ref h, .null, .null]) rfl ?_
  refine g_iconst hx hb (nI 0) dX0_sum_0 (by decide) ?_
  refine g_istore_n (vs' := [.ref h, .int (nI 0), .null]) hx hb dX0_sum_1 rfl (by decide) rfl ?_
  refine g_iconst hx hb (nI 0) dX0_sum_2 (by decide) ?_
  refine g_istore_n (vs' := [.ref h, .int (nI 0), .int (nI 0)]) hx hb dX0_sum_3 rfl (by decide) rfl ?_
  have loop : ∀ (n i : Nat), i + n = 256 → bx_G κ (bx_Qi κ D 0 nsX h a d F (po_sum F)) 3 0 0 (bx_S D 0 nsX h a d (bx_A 0 nsX h a d F (ks κ).heap.size) (ks κ).heap F) 4 [.ref h, .int (sm_ (F 0) i), .int (nI i)] [] := by
    intro n
    induction n with
    | zero =>
      intro i hn
      refine g_iload_n hx hb dX0_sum_4 rfl rfl ?_
      refine g_sipush hx hb (nI 256) dX0_sum_5 (by decide) ?_
      refine n_icmp_ge hx hb 26 dX0_sum_8 (by decide) (by omega) (by omega) (fun c_8 => ?_) (fun c_8 => ?_)
      · refine g_iload_n hx hb dX0_sum_26 rfl rfl ?_
        exact g_iret C hr hlk (⟨rfl, by rw [show i = 256 by omega]⟩) dX0_sum_27
      · omega
    | succ n ih =>
      intro i hn
      refine g_iload_n hx hb dX0_sum_4 rfl rfl ?_
      refine g_sipush hx hb (nI 256) dX0_sum_5 (by decide) ?_
      refine n_icmp_ge hx hb 26 dX0_sum_8 (by decide) (by omega) (by omega) (fun c_8 => ?_) (fun c_8 => ?_)
      · omega
      · refine g_iload_n hx hb dX0_sum_11 rfl rfl ?_
        refine g_aload_n hx hb dX0_sum_12 rfl rfl ?_
        refine g_get C 0 (by decide) q26 rfl dX0_sum_13 ?_
        refine g_iload_n hx hb dX0_sum_16 rfl rfl ?_
        refine g_ld C 0 256 rfl (by omega) (by decide) dX0_sum_17 ?_
        refine g_iadd hx hb dX0_sum_18 ?_
        refine g_istore_n (vs' := [.ref h, .int ((sm_ (F 0) i) + (F 0 i)), .int (nI i)]) hx hb dX0_sum_19 rfl (by decide) rfl ?_
        refine n_iinc (vs' := [.ref h, .int ((sm_ (F 0) i) + (F 0 i)), .int (nI (i + 1))]) hx hb dX0_sum_20 rfl (by decide) rfl ?_
        refine g_goto hx hb 4 dX0_sum_23 (by decide) ?_
        exact ih (i + 1) (by omega)
  exact loop 256 0 rfl

set_option maxHeartbeats 4000000 in
theorem mM_sum (l : Launch) (D : va_G) (d : ClassId) (h : Nat) (a : Nat → Nat) (F : bx_F)  : bx_Mi l yX1_sum cX1_sum 3 .int rmb0 D 1 nsM h a d F [] (po_sum F) := by
  refine g_meti (Cn := RX1) (T := TX1) (by decide) rfl in_X1 rfl (cat_ints []) 2 rfl ?_
  intro κ el eR C hr hlk
  have hx := C.1
  have hb := C.2.1
  have hA : ∀ q, (ks κ).heap.size ≤ q → bx_A 1 nsM h a d F (ks κ).heap.size q := fun q hq => Or.inr hq
  refine g_vs (vs' := [.ref h, .null, .null]) rfl ?_
  refine g_iconst hx hb (nI 0) dX1_sum_0 (by decide) ?_
  refine g_istore_n (vs' := [.ref h, .int (nI 0), .null]) hx hb dX1_sum_1 rfl (by decide) rfl ?_
  refine g_iconst hx hb (nI 0) dX1_sum_2 (by decide) ?_
  refine g_istore_n (vs' := [.ref h, .int (nI 0), .int (nI 0)]) hx hb dX1_sum_3 rfl (by decide) rfl ?_
  have loop : ∀ (n i : Nat), i + n = 256 → bx_G κ (bx_Qi κ D 1 nsM h a d F (po_sum F)) 3 0 0 (bx_S D 1 nsM h a d (bx_A 1 nsM h a d F (ks κ).heap.size) (ks κ).heap F) 4 [.ref h, .int (sm_ (F 0) i), .int (nI i)] [] := by
    intro n
    induction n with
    | zero =>
      intro i hn
      refine g_iload_n hx hb dX1_sum_4 rfl rfl ?_
      refine g_sipush hx hb (nI 256) dX1_sum_5 (by decide) ?_
      refine n_icmp_ge hx hb 26 dX1_sum_8 (by decide) (by omega) (by omega) (fun c_8 => ?_) (fun c_8 => ?_)
      · refine g_iload_n hx hb dX1_sum_26 rfl rfl ?_
        exact g_iret C hr hlk (⟨rfl, by rw [show i = 256 by omega]⟩) dX1_sum_27
      · omega
    | succ n ih =>
      intro i hn
      refine g_iload_n hx hb dX1_sum_4 rfl rfl ?_
      refine g_sipush hx hb (nI 256) dX1_sum_5 (by decide) ?_
      refine n_icmp_ge hx hb 26 dX1_sum_8 (by decide) (by omega) (by omega) (fun c_8 => ?_) (fun c_8 => ?_)
      · omega
      · refine g_iload_n hx hb dX1_sum_11 rfl rfl ?_
        refine g_aload_n hx hb dX1_sum_12 rfl rfl ?_
        refine g_get C 0 (by decide) q160 rfl dX1_sum_13 ?_
        refine g_iload_n hx hb dX1_sum_16 rfl rfl ?_
        refine g_ld C 0 256 rfl (by omega) (by decide) dX1_sum_17 ?_
        refine g_iadd hx hb dX1_sum_18 ?_
        refine g_istore_n (vs' := [.ref h, .int ((sm_ (F 0) i) + (F 0 i)), .int (nI i)]) hx hb dX1_sum_19 rfl (by decide) rfl ?_
        refine n_iinc (vs' := [.ref h, .int ((sm_ (F 0) i) + (F 0 i)), .int (nI (i + 1))]) hx hb dX1_sum_20 rfl (by decide) rfl ?_
        refine g_goto hx hb 4 dX1_sum_23 (by decide) ?_
        exact ih (i + 1) (by omega)
  exact loop 256 0 rfl

set_option maxHeartbeats 4000000 in
theorem mX_exchange (l : Launch) (D : va_G) (d : ClassId) (h : Nat) (a : Nat → Nat) (F : bx_F)  : bx_Mv l yX0_exchange cX0_exchange 3 rmb0 D 0 nsX h a d F [] (po_exchange F) := by
  refine g_metv (Cn := RX0) (T := TX0) (by decide) rfl in_X0 rfl (cat_ints []) 2 rfl ?_
  intro κ el eR C hr hlk
  have hx := C.1
  have hb := C.2.1
  have hA : ∀ q, (ks κ).heap.size ≤ q → bx_A 0 nsX h a d F (ks κ).heap.size q := fun q hq => Or.inr hq
  refine g_vs (vs' := [.ref h, .null, .null]) rfl ?_
  refine g_iconst hx hb (nI 0) dX0_exchange_0 (by decide) ?_
  refine g_istore_n (vs' := [.ref h, .int (nI 0), .null]) hx hb dX0_exchange_1 rfl (by decide) rfl ?_
  have loop : ∀ (n i : Nat) (G : bx_F), i + n = 256 → (∀ k, k ≠ 0 → k ≠ 1 → G k = F k) → (∀ j, j < i → G 0 j = F 1 j ∧ G 1 j = F 0 j) → (∀ j, i ≤ j → G 0 j = F 0 j ∧ G 1 j = F 1 j) → bx_G κ (bx_Qv κ D 0 nsX h a d F (po_exchange F)) 3 0 0 (bx_S D 0 nsX h a d (bx_A 0 nsX h a d F (ks κ).heap.size) (ks κ).heap G) 2 [.ref h, .int (nI i), .null] [] := by
    intro n
    induction n with
    | zero =>
      intro i G hn h1 h2 h3
      refine g_iload_n hx hb dX0_exchange_2 rfl rfl ?_
      refine g_sipush hx hb (nI 256) dX0_exchange_3 (by decide) ?_
      refine n_icmp_ge hx hb 41 dX0_exchange_6 (by decide) (by omega) (by omega) (fun c_6 => ?_) (fun c_6 => ?_)
      · exact g_vret C hr hlk (⟨h1, fun j hj => h2 j (by omega)⟩) dX0_exchange_41
      · omega
    | succ n ih =>
      intro i G hn h1 h2 h3
      refine g_iload_n hx hb dX0_exchange_2 rfl rfl ?_
      refine g_sipush hx hb (nI 256) dX0_exchange_3 (by decide) ?_
      refine n_icmp_ge hx hb 41 dX0_exchange_6 (by decide) (by omega) (by omega) (fun c_6 => ?_) (fun c_6 => ?_)
      · omega
      · refine g_aload_n hx hb dX0_exchange_9 rfl rfl ?_
        refine g_get C 0 (by decide) q26 rfl dX0_exchange_10 ?_
        refine g_iload_n hx hb dX0_exchange_13 rfl rfl ?_
        refine g_ld C 0 256 rfl (by omega) (by decide) dX0_exchange_14 ?_
        refine g_istore_n (vs' := [.ref h, .int (nI i), .int (G 0 i)]) hx hb dX0_exchange_15 rfl (by decide) rfl ?_
        refine g_aload_n hx hb dX0_exchange_16 rfl rfl ?_
        refine g_get C 0 (by decide) q26 rfl dX0_exchange_17 ?_
        refine g_iload_n hx hb dX0_exchange_20 rfl rfl ?_
        refine g_aload_n hx hb dX0_exchange_21 rfl rfl ?_
        refine g_get C 1 (by decide) q27 rfl dX0_exchange_22 ?_
        refine g_iload_n hx hb dX0_exchange_25 rfl rfl ?_
        refine g_ld C 1 256 rfl (by omega) (by decide) dX0_exchange_26 ?_
        refine g_st C 0 256 rfl (by omega) (by decide) dX0_exchange_27 ?_
        refine g_aload_n hx hb dX0_exchange_28 rfl rfl ?_
        refine g_get C 1 (by decide) q27 rfl dX0_exchange_29 ?_
        refine g_iload_n hx hb dX0_exchange_32 rfl rfl ?_
        refine g_iload_n hx hb dX0_exchange_33 rfl rfl ?_
        refine g_st C 1 256 rfl (by omega) (by decide) dX0_exchange_34 ?_
        refine n_iinc (vs' := [.ref h, .int (nI (i + 1)), .int (G 0 i)]) hx hb dX0_exchange_35 rfl (by decide) rfl ?_
        refine g_goto hx hb 2 dX0_exchange_38 (by decide) ?_
        refine g_less (vs' := [.ref h, .int (nI (i + 1)), .null]) (fun q v hv => by rcases q with _ | _ | _ | q <;> simp at hv ⊢ <;> simp [hv]) ?_
        exact ih (i + 1) _ (by omega) (fun k hk hk2 => (va_up_ne _ _ hk2).trans ((va_up_ne _ _ hk).trans (h1 k hk hk2))) (fun j hj => by
          show upd (G 0) i (G 1 i) j = F 1 j ∧ upd (G 1) i (G 0 i) j = F 0 j
          by_cases e : j = i
          · rw [e, pk_us, pk_us]; exact ⟨(h3 i (Nat.le_refl _)).2, (h3 i (Nat.le_refl _)).1⟩
          · rw [pk_un e, pk_un e]; exact h2 j (by omega)) (fun j hj => by
          show upd (G 0) i (G 1 i) j = F 0 j ∧ upd (G 1) i (G 0 i) j = F 1 j
          rw [pk_un (by omega), pk_un (by omega)]; exact h3 j (by omega))
  exact loop 256 0 F rfl (fun _ _ _ => rfl) (fun j hj => absurd hj (Nat.not_lt_zero _)) (fun j _ => ⟨rfl, rfl⟩)

set_option maxHeartbeats 4000000 in
theorem mM_exchange (l : Launch) (D : va_G) (d : ClassId) (h : Nat) (a : Nat → Nat) (F : bx_F)  : bx_Mv l yX1_exchange cX1_exchange 3 rmb0 D 1 nsM h a d F [] (po_exchange F) := by
  refine g_metv (Cn := RX1) (T := TX1) (by decide) rfl in_X1 rfl (cat_ints []) 2 rfl ?_
  intro κ el eR C hr hlk
  have hx := C.1
  have hb := C.2.1
  have hA : ∀ q, (ks κ).heap.size ≤ q → bx_A 1 nsM h a d F (ks κ).heap.size q := fun q hq => Or.inr hq
  refine g_vs (vs' := [.ref h, .null, .null]) rfl ?_
  refine g_iconst hx hb (nI 0) dX1_exchange_0 (by decide) ?_
  refine g_istore_n (vs' := [.ref h, .int (nI 0), .null]) hx hb dX1_exchange_1 rfl (by decide) rfl ?_
  have loop : ∀ (n i : Nat) (G : bx_F), i + n = 256 → (∀ k, k ≠ 0 → k ≠ 1 → G k = F k) → (∀ j, j < i → G 0 j = F 1 j ∧ G 1 j = F 0 j) → (∀ j, i ≤ j → G 0 j = F 0 j ∧ G 1 j = F 1 j) → bx_G κ (bx_Qv κ D 1 nsM h a d F (po_exchange F)) 3 0 0 (bx_S D 1 nsM h a d (bx_A 1 nsM h a d F (ks κ).heap.size) (ks κ).heap G) 2 [.ref h, .int (nI i), .null] [] := by
    intro n
    induction n with
    | zero =>
      intro i G hn h1 h2 h3
      refine g_iload_n hx hb dX1_exchange_2 rfl rfl ?_
      refine g_sipush hx hb (nI 256) dX1_exchange_3 (by decide) ?_
      refine n_icmp_ge hx hb 41 dX1_exchange_6 (by decide) (by omega) (by omega) (fun c_6 => ?_) (fun c_6 => ?_)
      · exact g_vret C hr hlk (⟨h1, fun j hj => h2 j (by omega)⟩) dX1_exchange_41
      · omega
    | succ n ih =>
      intro i G hn h1 h2 h3
      refine g_iload_n hx hb dX1_exchange_2 rfl rfl ?_
      refine g_sipush hx hb (nI 256) dX1_exchange_3 (by decide) ?_
      refine n_icmp_ge hx hb 41 dX1_exchange_6 (by decide) (by omega) (by omega) (fun c_6 => ?_) (fun c_6 => ?_)
      · omega
      · refine g_aload_n hx hb dX1_exchange_9 rfl rfl ?_
        refine g_get C 0 (by decide) q160 rfl dX1_exchange_10 ?_
        refine g_iload_n hx hb dX1_exchange_13 rfl rfl ?_
        refine g_ld C 0 256 rfl (by omega) (by decide) dX1_exchange_14 ?_
        refine g_istore_n (vs' := [.ref h, .int (nI i), .int (G 0 i)]) hx hb dX1_exchange_15 rfl (by decide) rfl ?_
        refine g_aload_n hx hb dX1_exchange_16 rfl rfl ?_
        refine g_get C 0 (by decide) q160 rfl dX1_exchange_17 ?_
        refine g_iload_n hx hb dX1_exchange_20 rfl rfl ?_
        refine g_aload_n hx hb dX1_exchange_21 rfl rfl ?_
        refine g_get C 1 (by decide) q161 rfl dX1_exchange_22 ?_
        refine g_iload_n hx hb dX1_exchange_25 rfl rfl ?_
        refine g_ld C 1 256 rfl (by omega) (by decide) dX1_exchange_26 ?_
        refine g_st C 0 256 rfl (by omega) (by decide) dX1_exchange_27 ?_
        refine g_aload_n hx hb dX1_exchange_28 rfl rfl ?_
        refine g_get C 1 (by decide) q161 rfl dX1_exchange_29 ?_
        refine g_iload_n hx hb dX1_exchange_32 rfl rfl ?_
        refine g_iload_n hx hb dX1_exchange_33 rfl rfl ?_
        refine g_st C 1 256 rfl (by omega) (by decide) dX1_exchange_34 ?_
        refine n_iinc (vs' := [.ref h, .int (nI (i + 1)), .int (G 0 i)]) hx hb dX1_exchange_35 rfl (by decide) rfl ?_
        refine g_goto hx hb 2 dX1_exchange_38 (by decide) ?_
        refine g_less (vs' := [.ref h, .int (nI (i + 1)), .null]) (fun q v hv => by rcases q with _ | _ | _ | q <;> simp at hv ⊢ <;> simp [hv]) ?_
        exact ih (i + 1) _ (by omega) (fun k hk hk2 => (va_up_ne _ _ hk2).trans ((va_up_ne _ _ hk).trans (h1 k hk hk2))) (fun j hj => by
          show upd (G 0) i (G 1 i) j = F 1 j ∧ upd (G 1) i (G 0 i) j = F 0 j
          by_cases e : j = i
          · rw [e, pk_us, pk_us]; exact ⟨(h3 i (Nat.le_refl _)).2, (h3 i (Nat.le_refl _)).1⟩
          · rw [pk_un e, pk_un e]; exact h2 j (by omega)) (fun j hj => by
          show upd (G 0) i (G 1 i) j = F 0 j ∧ upd (G 1) i (G 0 i) j = F 1 j
          rw [pk_un (by omega), pk_un (by omega)]; exact h3 j (by omega))
  exact loop 256 0 F rfl (fun _ _ _ => rfl) (fun j hj => absurd hj (Nat.not_lt_zero _)) (fun j _ => ⟨rfl, rfl⟩)

set_option maxHeartbeats 4000000 in
theorem mX_pattern (l : Launch) (D : va_G) (d : ClassId) (h : Nat) (a : Nat → Nat) (F : bx_F) (p q : Int32) : bx_Mv l yX0_pattern cX0_pattern 6 rmb0 D 0 nsX h a d F [.int p, .int q] (po_pattern F p q) := by
  refine g_metv (Cn := RX0) (T := TX0) (by decide) rfl in_X0 rfl (cat_ints [p, q]) 3 rfl ?_
  intro κ el eR C hr hlk
  have hx := C.1
  have hb := C.2.1
  have hA : ∀ q, (ks κ).heap.size ≤ q → bx_A 0 nsX h a d F (ks κ).heap.size q := fun q hq => Or.inr hq
  refine g_vs (vs' := [.ref h, .int p, .int q, .null, .null, .null]) rfl ?_
  refine g_iconst hx hb (nI 0) dX0_pattern_0 (by decide) ?_
  refine g_istore_n (vs' := [.ref h, .int p, .int q, .int (nI 0), .null, .null]) hx hb dX0_pattern_1 rfl (by decide) rfl ?_
  have loop : ∀ (n i : Nat) (G : bx_F), i + n = 256 → (∀ k, k ≠ 0 → G k = F k) → (∀ j, j < i → G 0 j = pt_ p q j) → bx_G κ (bx_Qv κ D 0 nsX h a d F (po_pattern F p q)) 6 0 0 (bx_S D 0 nsX h a d (bx_A 0 nsX h a d F (ks κ).heap.size) (ks κ).heap G) 2 [.ref h, .int p, .int q, .int (nI i), .null, .null] [] := by
    intro n
    induction n with
    | zero =>
      intro i G hn h1 h2
      refine g_iload_n hx hb dX0_pattern_2 rfl rfl ?_
      refine g_sipush hx hb (nI 256) dX0_pattern_3 (by decide) ?_
      refine n_icmp_ge hx hb 52 dX0_pattern_6 (by decide) (by omega) (by omega) (fun c_6 => ?_) (fun c_6 => ?_)
      · exact g_vret C hr hlk (⟨h1, fun j hj => h2 j (by omega)⟩) dX0_pattern_52
      · omega
    | succ n ih =>
      intro i G hn h1 h2
      refine g_iload_n hx hb dX0_pattern_2 rfl rfl ?_
      refine g_sipush hx hb (nI 256) dX0_pattern_3 (by decide) ?_
      refine n_icmp_ge hx hb 52 dX0_pattern_6 (by decide) (by omega) (by omega) (fun c_6 => ?_) (fun c_6 => ?_)
      · omega
      · refine g_iload_n hx hb dX0_pattern_9 rfl rfl ?_
        refine g_bipush hx hb (nI 16) dX0_pattern_10 (by decide) ?_
        refine n_idiv hx hb dX0_pattern_12 (by omega) (by omega) (by omega) ?_
        refine g_istore (vs' := [.ref h, .int p, .int q, .int (nI i), .int (nI (i / 16)), .null]) hx hb dX0_pattern_13 (by decide) rfl ?_
        refine g_iload_n hx hb dX0_pattern_15 rfl rfl ?_
        refine g_bipush hx hb (nI 16) dX0_pattern_16 (by decide) ?_
        refine n_irem hx hb dX0_pattern_18 (by omega) (by omega) (by omega) ?_
        refine g_istore (vs' := [.ref h, .int p, .int q, .int (nI i), .int (nI (i / 16)), .int (nI (i % 16))]) hx hb dX0_pattern_19 (by decide) rfl ?_
        refine g_aload_n hx hb dX0_pattern_21 rfl rfl ?_
        refine g_get C 0 (by decide) q26 rfl dX0_pattern_22 ?_
        refine g_iload_n hx hb dX0_pattern_25 rfl rfl ?_
        refine g_iload hx hb dX0_pattern_26 rfl ?_
        refine g_iload_n hx hb dX0_pattern_28 rfl rfl ?_
        refine g_imul hx hb dX0_pattern_29 ?_
        refine g_iload hx hb dX0_pattern_30 rfl ?_
        refine g_iload_n hx hb dX0_pattern_32 rfl rfl ?_
        refine g_imul hx hb dX0_pattern_33 ?_
        refine g_iadd hx hb dX0_pattern_34 ?_
        refine g_iload hx hb dX0_pattern_35 rfl ?_
        refine g_iload hx hb dX0_pattern_37 rfl ?_
        refine g_imul hx hb dX0_pattern_39 ?_
        refine g_iadd hx hb dX0_pattern_40 ?_
        refine g_sipush hx hb (nI 255) dX0_pattern_41 (by decide) ?_
        refine g_iand hx hb dX0_pattern_44 ?_
        refine g_st C 0 256 rfl (by omega) (by decide) dX0_pattern_45 ?_
        refine n_iinc (vs' := [.ref h, .int p, .int q, .int (nI (i + 1)), .int (nI (i / 16)), .int (nI (i % 16))]) hx hb dX0_pattern_46 rfl (by decide) rfl ?_
        refine g_goto hx hb 2 dX0_pattern_49 (by decide) ?_
        refine g_less (vs' := [.ref h, .int p, .int q, .int (nI (i + 1)), .null, .null]) (fun q v hv => by rcases q with _ | _ | _ | _ | _ | _ | q <;> simp at hv ⊢ <;> simp [hv]) ?_
        exact ih (i + 1) _ (by omega) (fun k hk => (va_up_ne _ _ hk).trans (h1 k hk)) (fun j hj => by
          rw [va_up_self]
          by_cases e : j = i
          · rw [e, pk_us]; rfl
          · rw [pk_un e]; exact h2 j (by omega))
  exact loop 256 0 F rfl (fun _ _ => rfl) (fun j hj => absurd hj (Nat.not_lt_zero _))

set_option maxHeartbeats 4000000 in
theorem mM_pattern (l : Launch) (D : va_G) (d : ClassId) (h : Nat) (a : Nat → Nat) (F : bx_F) (p q : Int32) : bx_Mv l yX1_pattern cX1_pattern 4 rmb0 D 1 nsM h a d F [.int p, .int q] (po_pattern F p q) := by
  refine g_metv (Cn := RX1) (T := TX1) (by decide) rfl in_X1 rfl (cat_ints [p, q]) 1 rfl ?_
  intro κ el eR C hr hlk
  have hx := C.1
  have hb := C.2.1
  have hA : ∀ q, (ks κ).heap.size ≤ q → bx_A 1 nsM h a d F (ks κ).heap.size q := fun q hq => Or.inr hq
  refine g_vs (vs' := [.ref h, .int p, .int q, .null]) rfl ?_
  refine g_iconst hx hb (nI 0) dX1_pattern_0 (by decide) ?_
  refine g_istore_n (vs' := [.ref h, .int p, .int q, .int (nI 0)]) hx hb dX1_pattern_1 rfl (by decide) rfl ?_
  have loop : ∀ (n i : Nat) (G : bx_F), i + n = 256 → (∀ k, k ≠ 0 → G k = F k) → (∀ j, j < i → G 0 j = pt_ p q j) → bx_G κ (bx_Qv κ D 1 nsM h a d F (po_pattern F p q)) 4 0 0 (bx_S D 1 nsM h a d (bx_A 1 nsM h a d F (ks κ).heap.size) (ks κ).heap G) 2 [.ref h, .int p, .int q, .int (nI i)] [] := by
    intro n
    induction n with
    | zero =>
      intro i G hn h1 h2
      refine g_iload_n hx hb dX1_pattern_2 rfl rfl ?_
      refine g_sipush hx hb (nI 256) dX1_pattern_3 (by decide) ?_
      refine n_icmp_ge hx hb 48 dX1_pattern_6 (by decide) (by omega) (by omega) (fun c_6 => ?_) (fun c_6 => ?_)
      · exact g_vret C hr hlk (⟨h1, fun j hj => h2 j (by omega)⟩) dX1_pattern_48
      · omega
    | succ n ih =>
      intro i G hn h1 h2
      refine g_iload_n hx hb dX1_pattern_2 rfl rfl ?_
      refine g_sipush hx hb (nI 256) dX1_pattern_3 (by decide) ?_
      refine n_icmp_ge hx hb 48 dX1_pattern_6 (by decide) (by omega) (by omega) (fun c_6 => ?_) (fun c_6 => ?_)
      · omega
      · refine g_aload_n hx hb dX1_pattern_9 rfl rfl ?_
        refine g_get C 0 (by decide) q160 rfl dX1_pattern_10 ?_
        refine g_iload_n hx hb dX1_pattern_13 rfl rfl ?_
        refine g_iload_n hx hb dX1_pattern_14 rfl rfl ?_
        refine g_bipush hx hb (nI 16) dX1_pattern_15 (by decide) ?_
        refine n_idiv hx hb dX1_pattern_17 (by omega) (by omega) (by omega) ?_
        refine g_iload_n hx hb dX1_pattern_18 rfl rfl ?_
        refine g_imul hx hb dX1_pattern_19 ?_
        refine g_iload_n hx hb dX1_pattern_20 rfl rfl ?_
        refine g_bipush hx hb (nI 16) dX1_pattern_21 (by decide) ?_
        refine n_irem hx hb dX1_pattern_23 (by omega) (by omega) (by omega) ?_
        refine g_iload_n hx hb dX1_pattern_24 rfl rfl ?_
        refine g_imul hx hb dX1_pattern_25 ?_
        refine g_iadd hx hb dX1_pattern_26 ?_
        refine g_iload_n hx hb dX1_pattern_27 rfl rfl ?_
        refine g_bipush hx hb (nI 16) dX1_pattern_28 (by decide) ?_
        refine n_idiv hx hb dX1_pattern_30 (by omega) (by omega) (by omega) ?_
        refine g_iload_n hx hb dX1_pattern_31 rfl rfl ?_
        refine g_bipush hx hb (nI 16) dX1_pattern_32 (by decide) ?_
        refine n_irem hx hb dX1_pattern_34 (by omega) (by omega) (by omega) ?_
        refine g_imul hx hb dX1_pattern_35 ?_
        refine g_iadd hx hb dX1_pattern_36 ?_
        refine g_sipush hx hb (nI 255) dX1_pattern_37 (by decide) ?_
        refine g_iand hx hb dX1_pattern_40 ?_
        refine g_st C 0 256 rfl (by omega) (by decide) dX1_pattern_41 ?_
        refine n_iinc (vs' := [.ref h, .int p, .int q, .int (nI (i + 1))]) hx hb dX1_pattern_42 rfl (by decide) rfl ?_
        refine g_goto hx hb 2 dX1_pattern_45 (by decide) ?_
        exact ih (i + 1) _ (by omega) (fun k hk => (va_up_ne _ _ hk).trans (h1 k hk)) (fun j hj => by
          rw [va_up_self]
          by_cases e : j = i
          · rw [e, pk_us]; rfl
          · rw [pk_un e]; exact h2 j (by omega))
  exact loop 256 0 F rfl (fun _ _ => rfl) (fun j hj => absurd hj (Nat.not_lt_zero _))

set_option maxHeartbeats 4000000 in
theorem mX_threshold (l : Launch) (D : va_G) (d : ClassId) (h : Nat) (a : Nat → Nat) (F : bx_F) (b : Int32) : bx_Mi l yX0_threshold cX0_threshold 5 .int rmb0 D 0 nsX h a d F [.int b] (po_threshold F b) := by
  refine g_meti (Cn := RX0) (T := TX0) (by decide) rfl in_X0 rfl (cat_ints [b]) 3 rfl ?_
  intro κ el eR C hr hlk
  have hx := C.1
  have hb := C.2.1
  have hA : ∀ q, (ks κ).heap.size ≤ q → bx_A 0 nsX h a d F (ks κ).heap.size q := fun q hq => Or.inr hq
  refine g_vs (vs' := [.ref h, .int b, .null, .null, .null]) rfl ?_
  refine g_iconst hx hb (nI 0) dX0_threshold_0 (by decide) ?_
  refine g_istore_n (vs' := [.ref h, .int b, .int (nI 0), .null, .null]) hx hb dX0_threshold_1 rfl (by decide) rfl ?_
  refine g_iconst hx hb (nI 0) dX0_threshold_2 (by decide) ?_
  refine g_istore_n (vs' := [.ref h, .int b, .int (nI 0), .int (nI 0), .null]) hx hb dX0_threshold_3 rfl (by decide) rfl ?_
  have loop : ∀ (n i : Nat) (G : bx_F), i + n = 256 → (∀ k, k ≠ 0 → G k = F k) → (∀ j, j < i → G 0 j = th_ b (F 0 j)) → (∀ j, i ≤ j → G 0 j = F 0 j) → bx_G κ (bx_Qi κ D 0 nsX h a d F (po_threshold F b)) 5 0 0 (bx_S D 0 nsX h a d (bx_A 0 nsX h a d F (ks κ).heap.size) (ks κ).heap G) 4 [.ref h, .int b, .int (nI (cn_ (fun j => decide (b ≤ F 0 j)) i)), .int (nI i), .null] [] := by
    intro n
    induction n with
    | zero =>
      intro i G hn h1 h2 h3
      refine g_iload_n hx hb dX0_threshold_4 rfl rfl ?_
      refine g_sipush hx hb (nI 256) dX0_threshold_5 (by decide) ?_
      refine n_icmp_ge hx hb 60 dX0_threshold_8 (by decide) (by omega) (by omega) (fun c_8 => ?_) (fun c_8 => ?_)
      · refine g_iload_n hx hb dX0_threshold_60 rfl rfl ?_
        exact g_iret C hr hlk (⟨h1, fun j hj => h2 j (by omega), by rw [show i = 256 by omega]⟩) dX0_threshold_61
      · omega
    | succ n ih =>
      intro i G hn h1 h2 h3
      refine g_iload_n hx hb dX0_threshold_4 rfl rfl ?_
      refine g_sipush hx hb (nI 256) dX0_threshold_5 (by decide) ?_
      refine n_icmp_ge hx hb 60 dX0_threshold_8 (by decide) (by omega) (by omega) (fun c_8 => ?_) (fun c_8 => ?_)
      · omega
      · refine g_aload_n hx hb dX0_threshold_11 rfl rfl ?_
        refine g_get C 0 (by decide) q26 rfl dX0_threshold_12 ?_
        refine g_iload_n hx hb dX0_threshold_15 rfl rfl ?_
        refine g_ld C 0 256 rfl (by omega) (by decide) dX0_threshold_16 ?_
        refine g_iload_n hx hb dX0_threshold_17 rfl rfl ?_
        refine g_icmp_lt hx hb 25 dX0_threshold_18 (by decide) (fun c_18 => ?_) (fun c_18 => ?_)
        · refine g_iconst hx hb (nI 0) dX0_threshold_25 (by decide) ?_
          refine g_istore (vs' := [.ref h, .int b, .int (nI (cn_ (fun j => decide (b ≤ F 0 j)) i)), .int (nI i), .int (nI 0)]) hx hb dX0_threshold_26 (by decide) rfl ?_
          refine g_aload_n hx hb dX0_threshold_28 rfl rfl ?_
          refine g_get C 0 (by decide) q26 rfl dX0_threshold_29 ?_
          refine g_iload_n hx hb dX0_threshold_32 rfl rfl ?_
          refine g_iload hx hb dX0_threshold_33 rfl ?_
          refine g_if_eq hx hb 44 dX0_threshold_35 (by decide) (fun c_35 => ?_) (fun c_35 => ?_)
          · refine g_iconst hx hb (nI 0) dX0_threshold_44 (by decide) ?_
            refine g_st C 0 256 rfl (by omega) (by decide) dX0_threshold_45 ?_
            refine g_iload hx hb dX0_threshold_46 rfl ?_
            refine g_if_eq hx hb 54 dX0_threshold_48 (by decide) (fun c_48 => ?_) (fun c_48 => ?_)
            · refine n_iinc (vs' := [.ref h, .int b, .int (nI (cn_ (fun j => decide (b ≤ F 0 j)) i)), .int (nI (i + 1)), .int (nI 0)]) hx hb dX0_threshold_54 rfl (by decide) rfl ?_
              refine g_goto hx hb 4 dX0_threshold_57 (by decide) ?_
              refine g_less (vs' := [.ref h, .int b, .int (nI (cn_ (fun j => decide (b ≤ F 0 j)) i)), .int (nI (i + 1)), .null]) (fun q v hv => by rcases q with _ | _ | _ | _ | _ | q <;> simp at hv ⊢ <;> simp [hv]) ?_
              have e0 : ¬ b ≤ F 0 i := by rw [← h3 i (Nat.le_refl _)]; exact Int32.not_le.mpr c_18
              have e_ := @cn_f (fun j => decide (b ≤ F 0 j)) i (fun q => e0 (of_decide_eq_true q))
              rw [← e_]
              exact ih (i + 1) _ (by omega) (fun k hk => (va_up_ne _ _ hk).trans (h1 k hk)) (fun j hj => by
                rw [va_up_self]
                by_cases e : j = i
                · rw [e, pk_us]; unfold th_; rw [if_neg e0]
                · rw [pk_un e]; exact h2 j (by omega)) (fun j hj => by rw [va_up_self, pk_un (by omega)]; exact h3 j (by omega))
            · exact absurd rfl c_48
          · exact absurd rfl c_35
        · refine g_iconst hx hb (nI 1) dX0_threshold_21 (by decide) ?_
          refine g_goto hx hb 26 dX0_threshold_22 (by decide) ?_
          refine g_istore (vs' := [.ref h, .int b, .int (nI (cn_ (fun j => decide (b ≤ F 0 j)) i)), .int (nI i), .int (nI 1)]) hx hb dX0_threshold_26 (by decide) rfl ?_
          refine g_aload_n hx hb dX0_threshold_28 rfl rfl ?_
          refine g_get C 0 (by decide) q26 rfl dX0_threshold_29 ?_
          refine g_iload_n hx hb dX0_threshold_32 rfl rfl ?_
          refine g_iload hx hb dX0_threshold_33 rfl ?_
          refine g_if_eq hx hb 44 dX0_threshold_35 (by decide) (fun c_35 => ?_) (fun c_35 => ?_)
          · exact absurd c_35 (by decide)
          · refine g_sipush hx hb (nI 255) dX0_threshold_38 (by decide) ?_
            refine g_goto hx hb 45 dX0_threshold_41 (by decide) ?_
            refine g_st C 0 256 rfl (by omega) (by decide) dX0_threshold_45 ?_
            refine g_iload hx hb dX0_threshold_46 rfl ?_
            refine g_if_eq hx hb 54 dX0_threshold_48 (by decide) (fun c_48 => ?_) (fun c_48 => ?_)
            · exact absurd c_48 (by decide)
            · refine n_iinc (vs' := [.ref h, .int b, .int (nI (cn_ (fun j => decide (b ≤ F 0 j)) i + 1)), .int (nI i), .int (nI 1)]) hx hb dX0_threshold_51 rfl (by decide) rfl ?_
              refine n_iinc (vs' := [.ref h, .int b, .int (nI (cn_ (fun j => decide (b ≤ F 0 j)) i + 1)), .int (nI (i + 1)), .int (nI 1)]) hx hb dX0_threshold_54 rfl (by decide) rfl ?_
              refine g_goto hx hb 4 dX0_threshold_57 (by decide) ?_
              refine g_less (vs' := [.ref h, .int b, .int (nI (cn_ (fun j => decide (b ≤ F 0 j)) i + 1)), .int (nI (i + 1)), .null]) (fun q v hv => by rcases q with _ | _ | _ | _ | _ | q <;> simp at hv ⊢ <;> simp [hv]) ?_
              have e0 : b ≤ F 0 i := by rw [← h3 i (Nat.le_refl _)]; exact Int32.not_lt.mp c_18
              have e_ := @cn_t (fun j => decide (b ≤ F 0 j)) i (decide_eq_true e0)
              rw [← e_]
              exact ih (i + 1) _ (by omega) (fun k hk => (va_up_ne _ _ hk).trans (h1 k hk)) (fun j hj => by
                rw [va_up_self]
                by_cases e : j = i
                · rw [e, pk_us]; unfold th_; rw [if_pos e0]
                · rw [pk_un e]; exact h2 j (by omega)) (fun j hj => by rw [va_up_self, pk_un (by omega)]; exact h3 j (by omega))
  exact loop 256 0 F rfl (fun _ _ => rfl) (fun j hj => absurd hj (Nat.not_lt_zero _)) (fun j _ => rfl)

set_option maxHeartbeats 4000000 in
theorem mM_threshold (l : Launch) (D : va_G) (d : ClassId) (h : Nat) (a : Nat → Nat) (F : bx_F) (b : Int32) : bx_Mi l yX1_threshold cX1_threshold 4 .int rmb0 D 1 nsM h a d F [.int b] (po_threshold F b) := by
  refine g_meti (Cn := RX1) (T := TX1) (by decide) rfl in_X1 rfl (cat_ints [b]) 2 rfl ?_
  intro κ el eR C hr hlk
  have hx := C.1
  have hb := C.2.1
  have hA : ∀ q, (ks κ).heap.size ≤ q → bx_A 1 nsM h a d F (ks κ).heap.size q := fun q hq => Or.inr hq
  refine g_vs (vs' := [.ref h, .int b, .null, .null]) rfl ?_
  refine g_iconst hx hb (nI 0) dX1_threshold_0 (by decide) ?_
  refine g_istore_n (vs' := [.ref h, .int b, .int (nI 0), .null]) hx hb dX1_threshold_1 rfl (by decide) rfl ?_
  refine g_iconst hx hb (nI 0) dX1_threshold_2 (by decide) ?_
  refine g_istore_n (vs' := [.ref h, .int b, .int (nI 0), .int (nI 0)]) hx hb dX1_threshold_3 rfl (by decide) rfl ?_
  have loop : ∀ (n i : Nat) (G : bx_F), i + n = 256 → (∀ k, k ≠ 0 → G k = F k) → (∀ j, j < i → G 0 j = th_ b (F 0 j)) → (∀ j, i ≤ j → G 0 j = F 0 j) → bx_G κ (bx_Qi κ D 1 nsM h a d F (po_threshold F b)) 4 0 0 (bx_S D 1 nsM h a d (bx_A 1 nsM h a d F (ks κ).heap.size) (ks κ).heap G) 4 [.ref h, .int b, .int (nI (cn_ (fun j => decide (b ≤ F 0 j)) i)), .int (nI i)] [] := by
    intro n
    induction n with
    | zero =>
      intro i G hn h1 h2 h3
      refine g_iload_n hx hb dX1_threshold_4 rfl rfl ?_
      refine g_sipush hx hb (nI 256) dX1_threshold_5 (by decide) ?_
      refine n_icmp_ge hx hb 55 dX1_threshold_8 (by decide) (by omega) (by omega) (fun c_8 => ?_) (fun c_8 => ?_)
      · refine g_iload_n hx hb dX1_threshold_55 rfl rfl ?_
        exact g_iret C hr hlk (⟨h1, fun j hj => h2 j (by omega), by rw [show i = 256 by omega]⟩) dX1_threshold_56
      · omega
    | succ n ih =>
      intro i G hn h1 h2 h3
      refine g_iload_n hx hb dX1_threshold_4 rfl rfl ?_
      refine g_sipush hx hb (nI 256) dX1_threshold_5 (by decide) ?_
      refine n_icmp_ge hx hb 55 dX1_threshold_8 (by decide) (by omega) (by omega) (fun c_8 => ?_) (fun c_8 => ?_)
      · omega
      · refine g_aload_n hx hb dX1_threshold_11 rfl rfl ?_
        refine g_get C 0 (by decide) q160 rfl dX1_threshold_12 ?_
        refine g_iload_n hx hb dX1_threshold_15 rfl rfl ?_
        refine g_aload_n hx hb dX1_threshold_16 rfl rfl ?_
        refine g_get C 0 (by decide) q160 rfl dX1_threshold_17 ?_
        refine g_iload_n hx hb dX1_threshold_20 rfl rfl ?_
        refine g_ld C 0 256 rfl (by omega) (by decide) dX1_threshold_21 ?_
        refine g_iload_n hx hb dX1_threshold_22 rfl rfl ?_
        refine g_icmp_lt hx hb 32 dX1_threshold_23 (by decide) (fun c_23 => ?_) (fun c_23 => ?_)
        · refine g_iconst hx hb (nI 0) dX1_threshold_32 (by decide) ?_
          refine g_st C 0 256 rfl (by omega) (by decide) dX1_threshold_33 ?_
          refine g_aload_n hx hb dX1_threshold_34 rfl rfl ?_
          refine g_get C 0 (by decide) q160 rfl dX1_threshold_35 ?_
          refine g_iload_n hx hb dX1_threshold_38 rfl rfl ?_
          refine g_ld C 0 256 rfl (by omega) (by decide) dX1_threshold_39 ?_
          refine g_sipush hx hb (nI 255) dX1_threshold_40 (by decide) ?_
          rw [show (va_up G 0 (upd (G 0) i (nI 0)) 0 i) = nI 0 from pk_us]
          refine n_icmp_ne hx hb 49 dX1_threshold_43 (by decide) (by omega) (by omega) (fun c_43 => ?_) (fun c_43 => ?_)
          · refine n_iinc (vs' := [.ref h, .int b, .int (nI (cn_ (fun j => decide (b ≤ F 0 j)) i)), .int (nI (i + 1))]) hx hb dX1_threshold_49 rfl (by decide) rfl ?_
            refine g_goto hx hb 4 dX1_threshold_52 (by decide) ?_
            have e0 : ¬ b ≤ F 0 i := by rw [← h3 i (Nat.le_refl _)]; exact Int32.not_le.mpr c_23
            have e_ := @cn_f (fun j => decide (b ≤ F 0 j)) i (fun q => e0 (of_decide_eq_true q))
            rw [← e_]
            exact ih (i + 1) _ (by omega) (fun k hk => (va_up_ne _ _ hk).trans (h1 k hk)) (fun j hj => by
              rw [va_up_self]
              by_cases e : j = i
              · rw [e, pk_us]; unfold th_; rw [if_neg e0]
              · rw [pk_un e]; exact h2 j (by omega)) (fun j hj => by rw [va_up_self, pk_un (by omega)]; exact h3 j (by omega))
          · exact absurd c_43 (by decide)
        · refine g_sipush hx hb (nI 255) dX1_threshold_26 (by decide) ?_
          refine g_goto hx hb 33 dX1_threshold_29 (by decide) ?_
          refine g_st C 0 256 rfl (by omega) (by decide) dX1_threshold_33 ?_
          refine g_aload_n hx hb dX1_threshold_34 rfl rfl ?_
          refine g_get C 0 (by decide) q160 rfl dX1_threshold_35 ?_
          refine g_iload_n hx hb dX1_threshold_38 rfl rfl ?_
          refine g_ld C 0 256 rfl (by omega) (by decide) dX1_threshold_39 ?_
          refine g_sipush hx hb (nI 255) dX1_threshold_40 (by decide) ?_
          rw [show (va_up G 0 (upd (G 0) i (nI 255)) 0 i) = nI 255 from pk_us]
          refine n_icmp_ne hx hb 49 dX1_threshold_43 (by decide) (by omega) (by omega) (fun c_43 => ?_) (fun c_43 => ?_)
          · exact absurd rfl c_43
          · refine n_iinc (vs' := [.ref h, .int b, .int (nI (cn_ (fun j => decide (b ≤ F 0 j)) i + 1)), .int (nI i)]) hx hb dX1_threshold_46 rfl (by decide) rfl ?_
            refine n_iinc (vs' := [.ref h, .int b, .int (nI (cn_ (fun j => decide (b ≤ F 0 j)) i + 1)), .int (nI (i + 1))]) hx hb dX1_threshold_49 rfl (by decide) rfl ?_
            refine g_goto hx hb 4 dX1_threshold_52 (by decide) ?_
            have e0 : b ≤ F 0 i := by rw [← h3 i (Nat.le_refl _)]; exact Int32.not_lt.mp c_23
            have e_ := @cn_t (fun j => decide (b ≤ F 0 j)) i (decide_eq_true e0)
            rw [← e_]
            exact ih (i + 1) _ (by omega) (fun k hk => (va_up_ne _ _ hk).trans (h1 k hk)) (fun j hj => by
              rw [va_up_self]
              by_cases e : j = i
              · rw [e, pk_us]; unfold th_; rw [if_pos e0]
              · rw [pk_un e]; exact h2 j (by omega)) (fun j hj => by rw [va_up_self, pk_un (by omega)]; exact h3 j (by omega))
  exact loop 256 0 F rfl (fun _ _ => rfl) (fun j hj => absurd hj (Nat.not_lt_zero _)) (fun j _ => rfl)
end
section
/-! posts of the filters, the means, the patches -/
def bI (g : Bool) : Int32 := if g = true then nI 1 else nI 0
theorem bI_f {g : Bool} (h : bI g = 0) : g = false := by
  cases g
  · rfl
  · exact absurd h (by decide)
theorem bI_t {g : Bool} (h : ¬ bI g = 0) : g = true := by
  cases g
  · exact absurd rfl h
  · rfl
theorem sx_le {x y h : Nat} (hx : x < 2 ^ 30) (hy : y < 2 ^ 30) (hh : h < 2 ^ 30) : nI x - nI h ≤ nI y ↔ x ≤ y + h := by
  rw [Int32.le_iff_toInt_le, pk_sub_toInt hx hh, nI_toInt (by omega)]
  omega
def po_line (F : bx_F) (g : Bool) (start step half : Nat) (u : bx_F) : Prop := (∀ k, k ≠ 0 → k ≠ 3 → k ≠ 4 → u k = F k) ∧ fl_D g start step half (F 0) (u 0)
def po_fil (F : bx_F) (g : Bool) (w z : Nat) (u : bx_F) : Prop := (∀ k, k ≠ 0 → k ≠ 3 → k ≠ 4 → u k = F k) ∧ fi_ g w z (F 0) (u 0)
/-- the running sums have nothing above the first row and left of the first column -/
def bd_ (s : Nat → Int32) : Prop := (∀ c, c ≤ 16 → s c = 0) ∧ ∀ p, p ≤ 16 → s (p * 17) = 0
def po_f (R : Nat → Nat → (Nat → Int32) → (Nat → Int32) → Prop) (F : bx_F) (w z : Int32) (x : Int32) (u : bx_F) : Prop :=
  (¬ okS w z → x = -3 ∧ u = F) ∧ (∀ i j : Nat, i ≤ 7 → j ≤ 7 → w = nI i → z = nI j → R i j (F 0) (u 0) ∧ u 1 = F 1 ∧ (bd_ (F 5) → bd_ (u 5)) ∧ x = nI (cn_ (fun k => decide (¬ u 0 k = F 0 k)) 256))
def R_dil (i j : Nat) (f u : Nat → Int32) : Prop := fi_ true i j f u
def R_ero (i j : Nat) (f u : Nat → Int32) : Prop := fi_ false i j f u
def R_opn (i j : Nat) (f u : Nat → Int32) : Prop := ∃ m, fi_ false i j f m ∧ fi_ true i j m u
def R_clo (i j : Nat) (f u : Nat → Int32) : Prop := ∃ m, fi_ true i j f m ∧ fi_ false i j m u
def R_mean (i j : Nat) (f u : Nat → Int32) : Prop := ∀ k, k < 256 → u k = me_ f i j k
def po_fillSums (F : bx_F) (u : bx_F) : Prop := (∀ k, k ≠ 5 → u k = F k) ∧ fs_I (F 0) (u 5) 16
def po_look (F : bx_F) (t : Int32) (i w z : Nat) (x : Int32) (u : bx_F) : Prop := u = F ∧ (t = nI 0 → Best true (w2_ w z i) (F 0) x) ∧ (t = nI 1 → Best false (w2_ w z i) (F 0) x) ∧ (t = nI 2 → x = me_ (F 0) w z i)
/-- what a filter of number t makes -/
def cr_ (t : Int32) (w z : Nat) (f u : Nat → Int32) : Prop := (t = nI 0 → fi_ true w z f u) ∧ (t = nI 1 → fi_ false w z f u) ∧ (t = nI 2 → ∀ j, j < 256 → u j = me_ f w z j)
def po_carry (F : bx_F) (t : Int32) (w z : Nat) (u : bx_F) : Prop := (∀ k, k ≠ 0 → k ≠ 2 → u k = F k) ∧ cr_ t w z (F 0) (u 0)
def R_two (p q : Int32) (i j : Nat) (f u : Nat → Int32) : Prop := ∃ m, cr_ p i j f m ∧ (q < 0 → u = m) ∧ (¬ q < 0 → cr_ q i j m u)
theorem po_f.imp {R R' : Nat → Nat → (Nat → Int32) → (Nat → Int32) → Prop} {F u : bx_F} {w z x : Int32} (h : po_f R F w z x u) (hR : ∀ i j f v, R i j f v → R' i j f v) : po_f R' F w z x u := ⟨h.1, fun i j a1 a2 a3 a4 => ⟨hR _ _ _ _ (h.2 i j a1 a2 a3 a4).1, (h.2 i j a1 a2 a3 a4).2⟩⟩
theorem okS_of {i j : Nat} (hi : i ≤ 7) (hj : j ≤ 7) : okS (nI i) (nI j) := by
  refine ⟨nI_pos (by omega), ?_, nI_pos (by omega), ?_⟩
  · rw [nI_ltI (by decide) (by omega)]; omega
  · rw [nI_ltI (by decide) (by omega)]; omega
theorem nI_inj {a b : Nat} (h : nI a = nI b) (ha : a < 2 ^ 31) (hb : b < 2 ^ 31) : a = b := (nI_eq ha hb).mp h
end
section
set_option maxRecDepth 100000
set_option maxHeartbeats 4000000 in
theorem mX_outdoes (l : Launch) (D : va_G) (d : ClassId) (h : Nat) (a : Nat → Nat) (F : bx_F) (i j : Nat) (g : Bool) (hi : i < 16) (hj : j < 16) : bx_Mi l yX0_outdoes cX0_outdoes 4 .boolean rmb0 D 0 nsX h a d F [.int (nI i), .int (nI j), .int (bI g)] (po_is F (ge_ g (F 3 i) (F 3 j))) := by
  refine g_meti (Cn := RX0) (T := TX0) (by decide) rfl in_X0 rfl (cat_ints [nI i, nI j, bI g]) 0 rfl ?_
  intro κ el eR C hr hlk
  have hx := C.1
  have hb := C.2.1
  have hA : ∀ q, (ks κ).heap.size ≤ q → bx_A 0 nsX h a d F (ks κ).heap.size q := fun q hq => Or.inr hq
  refine g_vs (vs' := [.ref h, .int (nI i), .int (nI j), .int (bI g)]) rfl ?_
  refine g_iload_n hx hb dX0_outdoes_0 rfl rfl ?_
  refine g_if_eq hx hb 27 dX0_outdoes_1 (by decide) (fun c_1 => ?_) (fun c_1 => ?_)
  · have eg : g = false := bI_f c_1
    subst eg
    refine g_aload_n hx hb dX0_outdoes_27 rfl rfl ?_
    refine g_get C 3 (by decide) q29 rfl dX0_outdoes_28 ?_
    refine g_iload_n hx hb dX0_outdoes_31 rfl rfl ?_
    refine g_ld C 3 16 rfl (by omega) (by decide) dX0_outdoes_32 ?_
    refine g_aload_n hx hb dX0_outdoes_33 rfl rfl ?_
    refine g_get C 3 (by decide) q29 rfl dX0_outdoes_34 ?_
    refine g_iload_n hx hb dX0_outdoes_37 rfl rfl ?_
    refine g_ld C 3 16 rfl (by omega) (by decide) dX0_outdoes_38 ?_
    refine g_icmp_gt hx hb 46 dX0_outdoes_39 (by decide) (fun c_39 => ?_) (fun c_39 => ?_)
    · refine g_iconst hx hb (nI 0) dX0_outdoes_46 (by decide) ?_
      exact g_zret C hr hlk rfl (⟨rfl, fun q => absurd c_39 (Int32.not_lt.mpr q), fun _ => rfl⟩) dX0_outdoes_47
    · refine g_iconst hx hb (nI 1) dX0_outdoes_42 (by decide) ?_
      refine g_goto hx hb 47 dX0_outdoes_43 (by decide) ?_
      exact g_zret C hr hlk rfl (⟨rfl, fun _ => rfl, fun q => absurd (Int32.not_lt.mp c_39) q⟩) dX0_outdoes_47
  · have eg : g = true := bI_t c_1
    subst eg
    refine g_aload_n hx hb dX0_outdoes_4 rfl rfl ?_
    refine g_get C 3 (by decide) q29 rfl dX0_outdoes_5 ?_
    refine g_iload_n hx hb dX0_outdoes_8 rfl rfl ?_
    refine g_ld C 3 16 rfl (by omega) (by decide) dX0_outdoes_9 ?_
    refine g_aload_n hx hb dX0_outdoes_10 rfl rfl ?_
    refine g_get C 3 (by decide) q29 rfl dX0_outdoes_11 ?_
    refine g_iload_n hx hb dX0_outdoes_14 rfl rfl ?_
    refine g_ld C 3 16 rfl (by omega) (by decide) dX0_outdoes_15 ?_
    refine g_icmp_lt hx hb 23 dX0_outdoes_16 (by decide) (fun c_16 => ?_) (fun c_16 => ?_)
    · refine g_iconst hx hb (nI 0) dX0_outdoes_23 (by decide) ?_
      refine g_goto hx hb 47 dX0_outdoes_24 (by decide) ?_
      exact g_zret C hr hlk rfl (⟨rfl, fun q => absurd c_16 (Int32.not_lt.mpr q), fun _ => rfl⟩) dX0_outdoes_47
    · refine g_iconst hx hb (nI 1) dX0_outdoes_19 (by decide) ?_
      refine g_goto hx hb 47 dX0_outdoes_20 (by decide) ?_
      exact g_zret C hr hlk rfl (⟨rfl, fun _ => rfl, fun q => absurd (Int32.not_lt.mp c_16) q⟩) dX0_outdoes_47

set_option maxHeartbeats 4000000 in
theorem mX_filterLine (l : Launch) (D : va_G) (d : ClassId) (h : Nat) (a : Nat → Nat) (F : bx_F) (start step half : Nat) (g : Bool) (hs : start + 15 * step < 256) (hp : 0 < step) (hh : half ≤ 7) : bx_Mv l yX0_filterLine cX0_filterLine 9 rmb1 D 0 nsX h a d F [.int (nI start), .int (nI step), .int (nI half), .int (bI g)] (po_line F g start step half) := by
  refine g_metv (Cn := RX0) (T := TX0) (by decide) rfl in_X0 rfl (cat_ints [nI start, nI step, nI half, bI g]) 4 rfl ?_
  intro κ el eR C hr hlk
  have hx := C.1
  have hb := C.2.1
  have hA : ∀ q, (ks κ).heap.size ≤ q → bx_A 0 nsX h a d F (ks κ).heap.size q := fun q hq => Or.inr hq
  refine g_vs (vs' := [.ref h, .int (nI start), .int (nI step), .int (nI half), .int (bI g), .null, .null, .null, .null]) rfl ?_
  have hm : ∀ t, t < 16 → start + t * step < 256 := fun t ht => by
    have := Nat.mul_le_mul_right step (show t ≤ 15 by omega)
    omega
  have main : ∀ (n i hd tl : Nat) (qq : Nat → Nat) (G : bx_F), i + n = 16 + half → (∀ k, k ≠ 0 → k ≠ 3 → k ≠ 4 → G k = F k) → (∀ j, j < 16 → G 3 j = F 0 (start + j * step)) → (∀ j, hd ≤ j → j < tl → G 4 j = nI (qq j)) → fl_I g half (fun k => F 0 (start + k * step)) i hd tl qq → fl_R g start step half (F 0) i (G 0) → bx_G κ (bx_Qv κ D 0 nsX h a d F (po_line F g start step half)) 9 0 0 (bx_S D 0 nsX h a d (bx_A 0 nsX h a d F (ks κ).heap.size) (ks κ).heap G) 43 [.ref h, .int (nI start), .int (nI step), .int (nI half), .int (bI g), .int (nI hd), .int (nI tl), .int (nI i), .null] [] := by
    intro n
    induction n with
    | zero =>
      intro i hd tl qq G hn h1 h3 h4 hI hR
      refine g_iload hx hb dX0_filterLine_43 rfl ?_
      refine g_bipush hx hb (nI 16) dX0_filterLine_45 (by decide) ?_
      refine g_iload_n hx hb dX0_filterLine_47 rfl rfl ?_
      refine n_iadd hx hb dX0_filterLine_48 ?_
      refine n_icmp_ge hx hb 161 dX0_filterLine_49 (by decide) (by omega) (by omega) (fun c_49 => ?_) (fun c_49 => ?_)
      · exact g_vret C hr hlk (⟨h1, fl_Rend hR (by omega)⟩) dX0_filterLine_161
      · omega
    | succ n ih =>
      intro i hd tl qq G hn h1 h3 h4 hI hR
      have outp : ∀ (hd tl : Nat) (qq : Nat → Nat) (G : bx_F), half ≤ i → i < 16 + half → (∀ k, k ≠ 0 → k ≠ 3 → k ≠ 4 → G k = F k) → (∀ j, j < 16 → G 3 j = F 0 (start + j * step)) → (∀ j, hd ≤ j → j < tl → G 4 j = nI (qq j)) → hd < tl → fl_I g half (fun k => F 0 (start + k * step)) (i + 1) hd tl qq → fl_R g start step half (F 0) i (G 0) → bx_G κ (bx_Qv κ D 0 nsX h a d F (po_line F g start step half)) 9 0 0 (bx_S D 0 nsX h a d (bx_A 0 nsX h a d F (ks κ).heap.size) (ks κ).heap G) 132 [.ref h, .int (nI start), .int (nI step), .int (nI half), .int (bI g), .int (nI hd), .int (nI tl), .int (nI i), .int (nI (i - half))] [] := by
        intro hd tl qq G hle hlt h1 h3 h4 ht hI hR
        have hq := hI.2.2.2.2.1 hd (Nat.le_refl _) ht
        have htl := hI.2.2.1
        have hix := hm (i - half) (by omega)
        refine g_aload_n hx hb dX0_filterLine_132 rfl rfl ?_
        refine g_get C 0 (by decide) q26 rfl dX0_filterLine_133 ?_
        refine g_iload_n hx hb dX0_filterLine_136 rfl rfl ?_
        refine g_iload hx hb dX0_filterLine_137 rfl ?_
        refine g_iload_n hx hb dX0_filterLine_139 rfl rfl ?_
        refine n_imul hx hb dX0_filterLine_140 ?_
        refine n_iadd hx hb dX0_filterLine_141 ?_
        refine g_aload_n hx hb dX0_filterLine_142 rfl rfl ?_
        refine g_get C 3 (by decide) q29 rfl dX0_filterLine_143 ?_
        refine g_aload_n hx hb dX0_filterLine_146 rfl rfl ?_
        refine g_get C 4 (by decide) q30 rfl dX0_filterLine_147 ?_
        refine g_iload hx hb dX0_filterLine_150 rfl ?_
        refine g_ld C 4 16 rfl (by omega) (by decide) dX0_filterLine_152 ?_
        refine g_top (y := nI (qq hd)) (h4 hd (Nat.le_refl _) ht) ?_
        refine g_ld C 3 16 rfl (by omega) (by decide) dX0_filterLine_153 ?_
        refine g_st C 0 256 rfl (by omega) (by decide) dX0_filterLine_154 ?_
        refine n_iinc (vs' := [.ref h, .int (nI start), .int (nI step), .int (nI half), .int (bI g), .int (nI hd), .int (nI tl), .int (nI (i + 1)), .int (nI (i - half))]) hx hb dX0_filterLine_155 rfl (by decide) rfl ?_
        refine g_goto hx hb 43 dX0_filterLine_158 (by decide) ?_
        refine g_less (vs' := [.ref h, .int (nI start), .int (nI step), .int (nI half), .int (bI g), .int (nI hd), .int (nI tl), .int (nI (i + 1)), .null]) (fun q v hv => by rcases q with _ | _ | _ | _ | _ | _ | _ | _ | _ | q <;> simp at hv ⊢ <;> simp [hv]) ?_
        refine ih (i + 1) hd tl qq _ (by omega) (fun k k0 k3 k4 => (va_up_ne _ _ k0).trans (h1 k k0 k3 k4)) h3 h4 hI ?_
        rw [va_up_self, h3 (qq hd) hq.2.1]
        exact fl_Rput hR hp (by omega) (by omega) (fl_best hI (by omega))
      have fin : ∀ (tl : Nat) (qq : Nat → Nat) (G : bx_F), i < 16 + half → (∀ k, k ≠ 0 → k ≠ 3 → k ≠ 4 → G k = F k) → (∀ j, j < 16 → G 3 j = F 0 (start + j * step)) → (∀ j, hd ≤ j → j < tl → G 4 j = nI (qq j)) → fl_J g half (fun k => F 0 (start + k * step)) i hd tl qq → fl_R g start step half (F 0) i (G 0) → bx_G κ (bx_Qv κ D 0 nsX h a d F (po_line F g start step half)) 9 0 0 (bx_S D 0 nsX h a d (bx_A 0 nsX h a d F (ks κ).heap.size) (ks κ).heap G) 104 [.ref h, .int (nI start), .int (nI step), .int (nI half), .int (bI g), .int (nI hd), .int (nI tl), .int (nI i), .null] [] := by
        intro tl qq G hlt h1 h3 h4 hJ hR
        have htl := hJ.2.2.1
        have hht := hJ.1
        refine g_iload hx hb dX0_filterLine_104 rfl ?_
        refine g_iload_n hx hb dX0_filterLine_106 rfl rfl ?_
        refine g_isub hx hb dX0_filterLine_107 ?_
        refine g_istore (vs' := [.ref h, .int (nI start), .int (nI step), .int (nI half), .int (bI g), .int (nI hd), .int (nI tl), .int (nI i), .int ((nI i) - (nI half))]) hx hb dX0_filterLine_108 (by decide) rfl ?_
        refine g_iload hx hb dX0_filterLine_110 rfl ?_
        refine g_if_lt hx hb 155 dX0_filterLine_112 (by decide) (fun c_112 => ?_) (fun c_112 => ?_)
        · have hlow := (sx_neg (by omega) (by omega)).mp c_112
          refine n_iinc (vs' := [.ref h, .int (nI start), .int (nI step), .int (nI half), .int (bI g), .int (nI hd), .int (nI tl), .int (nI (i + 1)), .int ((nI i) - (nI half))]) hx hb dX0_filterLine_155 rfl (by decide) rfl ?_
          refine g_goto hx hb 43 dX0_filterLine_158 (by decide) ?_
          refine g_less (vs' := [.ref h, .int (nI start), .int (nI step), .int (nI half), .int (bI g), .int (nI hd), .int (nI tl), .int (nI (i + 1)), .null]) (fun q v hv => by rcases q with _ | _ | _ | _ | _ | _ | _ | _ | _ | q <;> simp at hv ⊢ <;> simp [hv]) ?_
          exact ih (i + 1) hd tl qq G (by omega) h1 h3 h4 (fl_stay hJ (Or.inl hlow)) (fl_Rlow hR hlow)
        · have hle : half ≤ i := Nat.le_of_not_lt fun q => c_112 ((sx_neg (by omega) (by omega)).mpr q)
          refine g_vs (vs' := [.ref h, .int (nI start), .int (nI step), .int (nI half), .int (bI g), .int (nI hd), .int (nI tl), .int (nI i), .int (nI (i - half))]) (by rw [pk_sub hle]) ?_
          refine g_aload_n hx hb dX0_filterLine_115 rfl rfl ?_
          refine g_get C 4 (by decide) q30 rfl dX0_filterLine_116 ?_
          refine g_iload hx hb dX0_filterLine_119 rfl ?_
          refine g_ld C 4 16 rfl (by omega) (by decide) dX0_filterLine_121 ?_
          refine g_top (y := nI (qq hd)) (h4 hd (Nat.le_refl _) hht) ?_
          refine g_iload hx hb dX0_filterLine_122 rfl ?_
          refine g_iload_n hx hb dX0_filterLine_124 rfl rfl ?_
          refine g_isub hx hb dX0_filterLine_125 ?_
          refine g_icmp_ge hx hb 132 dX0_filterLine_126 (by decide) (fun c_126 => ?_) (fun c_126 => ?_)
          all_goals have hq := hJ.2.2.2.2.1 hd (Nat.le_refl _) hht
          · have hst := (sx_le (by omega) (by omega) (by omega)).mp c_126
            exact outp hd tl qq G hle hlt h1 h3 h4 hht (fl_stay hJ (Or.inr (by omega))) hR
          · have hlv : ¬ i - half ≤ qq hd + half := fun q => c_126 ((sx_le (by omega) (by omega) (by omega)).mpr q)
            have hl2 := fl_leave hJ hlt (by omega)
            refine n_iinc (vs' := [.ref h, .int (nI start), .int (nI step), .int (nI half), .int (bI g), .int (nI (hd + 1)), .int (nI tl), .int (nI i), .int (nI (i - half))]) hx hb dX0_filterLine_129 rfl (by decide) rfl ?_
            exact outp (hd + 1) tl qq G hle hlt h1 h3 (fun j j1 j2 => h4 j (by omega) j2) hl2.1 hl2.2 hR
      refine g_iload hx hb dX0_filterLine_43 rfl ?_
      refine g_bipush hx hb (nI 16) dX0_filterLine_45 (by decide) ?_
      refine g_iload_n hx hb dX0_filterLine_47 rfl rfl ?_
      refine n_iadd hx hb dX0_filterLine_48 ?_
      refine n_icmp_ge hx hb 161 dX0_filterLine_49 (by decide) (by omega) (by omega) (fun c_49 => ?_) (fun c_49 => ?_)
      · omega
      · refine g_iload hx hb dX0_filterLine_52 rfl ?_
        refine g_bipush hx hb (nI 16) dX0_filterLine_54 (by decide) ?_
        refine n_icmp_ge hx hb 104 dX0_filterLine_56 (by decide) (by omega) (by omega) (fun c_56 => ?_) (fun c_56 => ?_)
        · exact fin tl qq G (by omega) h1 h3 h4 (fl_full hI (by omega)) hR
        · have push : ∀ t : Nat, fl_P g half (fun k => F 0 (start + k * step)) i hd t tl qq → (t = hd ∨ ¬ ge_ g (F 0 (start + i * step)) (F 0 (start + qq (t - 1) * step))) → bx_G κ (bx_Qv κ D 0 nsX h a d F (po_line F g start step half)) 9 0 0 (bx_S D 0 nsX h a d (bx_A 0 nsX h a d F (ks κ).heap.size) (ks κ).heap G) 92 [.ref h, .int (nI start), .int (nI step), .int (nI half), .int (bI g), .int (nI hd), .int (nI t), .int (nI i), .null] [] := by
            intro t hP hx0
            have ht := hP.2.2.1
            have hti := hI.2.1
            refine g_aload_n hx hb dX0_filterLine_92 rfl rfl ?_
            refine g_get C 4 (by decide) q30 rfl dX0_filterLine_93 ?_
            refine g_iload hx hb dX0_filterLine_96 rfl ?_
            refine g_iload hx hb dX0_filterLine_98 rfl ?_
            refine g_st C 4 16 rfl (by omega) (by decide) dX0_filterLine_100 ?_
            refine n_iinc (vs' := [.ref h, .int (nI start), .int (nI step), .int (nI half), .int (bI g), .int (nI hd), .int (nI (t + 1)), .int (nI i), .null]) hx hb dX0_filterLine_101 rfl (by decide) rfl ?_
            refine fin (t + 1) (fun j => if j = t then i else qq j) _ (by omega) (fun k k0 k3 k4 => (va_up_ne _ _ k4).trans (h1 k k0 k3 k4)) h3 (fun j j1 j2 => ?_) (fl_push hP (by omega) hx0 (fun j => rfl)) hR
            rw [va_up_self]
            by_cases e : j = t
            · rw [e, pk_us]; simp
            · rw [pk_un e, h4 j j1 (by omega)]; simp [e]
          have inner : ∀ (n t : Nat), hd + n = t → fl_P g half (fun k => F 0 (start + k * step)) i hd t tl qq → bx_G κ (bx_Qv κ D 0 nsX h a d F (po_line F g start step half)) 9 0 0 (bx_S D 0 nsX h a d (bx_A 0 nsX h a d F (ks κ).heap.size) (ks κ).heap G) 59 [.ref h, .int (nI start), .int (nI step), .int (nI half), .int (bI g), .int (nI hd), .int (nI t), .int (nI i), .null] [] := by
            intro n
            induction n with
            | zero =>
              intro t ht hP
              have htl := hP.2.2.1
              have htl2 := hI.2.2.1
              refine g_iload hx hb dX0_filterLine_59 rfl ?_
              refine g_iload hx hb dX0_filterLine_61 rfl ?_
              refine n_icmp_le hx hb 92 dX0_filterLine_63 (by decide) (by omega) (by omega) (fun c_63 => ?_) (fun c_63 => ?_)
              · exact push t hP (Or.inl (by omega))
              · omega
            | succ n ih2 =>
              intro t ht hP
              have htl := hP.2.2.1
              have htl2 := hI.2.2.1
              refine g_iload hx hb dX0_filterLine_59 rfl ?_
              refine g_iload hx hb dX0_filterLine_61 rfl ?_
              refine n_icmp_le hx hb 92 dX0_filterLine_63 (by decide) (by omega) (by omega) (fun c_63 => ?_) (fun c_63 => ?_)
              · omega
              · have hqt := hI.2.2.2.2.1 (t - 1) (by omega) (by omega)
                refine g_aload_n hx hb dX0_filterLine_66 rfl rfl ?_
                refine g_iload hx hb dX0_filterLine_67 rfl ?_
                refine g_aload_n hx hb dX0_filterLine_69 rfl rfl ?_
                refine g_get C 4 (by decide) q30 rfl dX0_filterLine_70 ?_
                refine g_iload hx hb dX0_filterLine_73 rfl ?_
                refine g_iconst hx hb (nI 1) dX0_filterLine_75 (by decide) ?_
                refine n_isub hx hb dX0_filterLine_76 (by omega) ?_
                refine g_ld C 4 16 rfl (by omega) (by decide) dX0_filterLine_77 ?_
                refine g_top (y := nI (qq (t - 1))) (h4 (t - 1) (by omega) (by omega)) ?_
                refine g_iload hx hb dX0_filterLine_78 rfl ?_
                refine g_calli C hA (n := 3) (rest := []) (mX_outdoes (kl κ) D d h a G i (qq (t - 1)) g (by omega) hqt.2.1) (lw_V q79 q81 qs3 q16 q82) (by decide +kernel) rfl ⟨rfl, rfl⟩ ⟨by rw [eR]; decide, by rw [eR]; decide⟩ rfl (Nat.le_of_ble_eq_true rfl) dX0_filterLine_80 (fun x_80 u_80 p_80 => ?_)
                obtain ⟨e_, p1, p2⟩ := p_80
                rw [e_]
                rw [h3 i (by omega), h3 (qq (t - 1)) hqt.2.1] at p1 p2
                refine g_if_eq hx hb 92 dX0_filterLine_83 (by decide) (fun c_83 => ?_) (fun c_83 => ?_)
                · exact push t hP (Or.inr (fun q => absurd ((p1 q).symm.trans c_83) (by decide)))
                · have hge := Classical.byContradiction (fun q => c_83 (p2 q))
                  refine n_idec (vs' := [.ref h, .int (nI start), .int (nI step), .int (nI half), .int (bI g), .int (nI hd), .int (nI (t - 1)), .int (nI i), .null]) hx hb dX0_filterLine_86 rfl (by omega) (by decide) rfl ?_
                  refine g_goto hx hb 59 dX0_filterLine_89 (by decide) ?_
                  exact ih2 (t - 1) (by omega) (fl_pop hP (by omega) hge)
          exact inner (tl - hd) tl (by have := hI.1; omega) (fl_P0 hI)
  have fill : ∀ (n i : Nat) (G : bx_F), i + n = 16 → (∀ k, k ≠ 3 → G k = F k) → (∀ j, j < i → G 3 j = F 0 (start + j * step)) → bx_G κ (bx_Qv κ D 0 nsX h a d F (po_line F g start step half)) 9 0 0 (bx_S D 0 nsX h a d (bx_A 0 nsX h a d F (ks κ).heap.size) (ks κ).heap G) 3 [.ref h, .int (nI start), .int (nI step), .int (nI half), .int (bI g), .int (nI i), .null, .null, .null] [] := by
    intro n
    induction n with
    | zero =>
      intro i G hn h1 h2
      refine g_iload hx hb dX0_filterLine_3 rfl ?_
      refine g_bipush hx hb (nI 16) dX0_filterLine_5 (by decide) ?_
      refine n_icmp_ge hx hb 34 dX0_filterLine_7 (by decide) (by omega) (by omega) (fun c_7 => ?_) (fun c_7 => ?_)
      · refine g_iconst hx hb (nI 0) dX0_filterLine_34 (by decide) ?_
        refine g_istore (vs' := [.ref h, .int (nI start), .int (nI step), .int (nI half), .int (bI g), .int (nI 0), .null, .null, .null]) hx hb dX0_filterLine_35 (by decide) rfl ?_
        refine g_iconst hx hb (nI 0) dX0_filterLine_37 (by decide) ?_
        refine g_istore (vs' := [.ref h, .int (nI start), .int (nI step), .int (nI half), .int (bI g), .int (nI 0), .int (nI 0), .null, .null]) hx hb dX0_filterLine_38 (by decide) rfl ?_
        refine g_iconst hx hb (nI 0) dX0_filterLine_40 (by decide) ?_
        refine g_istore (vs' := [.ref h, .int (nI start), .int (nI step), .int (nI half), .int (bI g), .int (nI 0), .int (nI 0), .int (nI 0), .null]) hx hb dX0_filterLine_41 (by decide) rfl ?_
        exact main (16 + half) 0 0 0 (fun _ => 0) G (by omega) (fun k k0 k3 k4 => h1 k k3) (fun j hj => h2 j (by omega)) (fun j j1 j2 => absurd j2 (Nat.not_lt_zero _)) (fl_0 _ _ _ _) (by rw [h1 0 (by decide)]; exact fl_R0 _ _ _ _ _)
      · omega
    | succ n ih =>
      intro i G hn h1 h2
      have hix : i < 16 → start + i * step < 256 := hm i
      refine g_iload hx hb dX0_filterLine_3 rfl ?_
      refine g_bipush hx hb (nI 16) dX0_filterLine_5 (by decide) ?_
      refine n_icmp_ge hx hb 34 dX0_filterLine_7 (by decide) (by omega) (by omega) (fun c_7 => ?_) (fun c_7 => ?_)
      · omega
      · have hix := hix c_7
        refine g_aload_n hx hb dX0_filterLine_10 rfl rfl ?_
        refine g_get C 3 (by decide) q29 rfl dX0_filterLine_11 ?_
        refine g_iload hx hb dX0_filterLine_14 rfl ?_
        refine g_aload_n hx hb dX0_filterLine_16 rfl rfl ?_
        refine g_get C 0 (by decide) q26 rfl dX0_filterLine_17 ?_
        refine g_iload_n hx hb dX0_filterLine_20 rfl rfl ?_
        refine g_iload hx hb dX0_filterLine_21 rfl ?_
        refine g_iload_n hx hb dX0_filterLine_23 rfl rfl ?_
        refine n_imul hx hb dX0_filterLine_24 ?_
        refine n_iadd hx hb dX0_filterLine_25 ?_
        refine g_ld C 0 256 rfl (by omega) (by decide) dX0_filterLine_26 ?_
        refine g_st C 3 16 rfl (by omega) (by decide) dX0_filterLine_27 ?_
        refine n_iinc (vs' := [.ref h, .int (nI start), .int (nI step), .int (nI half), .int (bI g), .int (nI (i + 1)), .null, .null, .null]) hx hb dX0_filterLine_28 rfl (by decide) rfl ?_
        refine g_goto hx hb 3 dX0_filterLine_31 (by decide) ?_
        exact ih (i + 1) _ (by omega) (fun k hk => (va_up_ne _ _ hk).trans (h1 k hk)) (fun j hj => by
          rw [va_up_self]
          by_cases e : j = i
          · rw [e, pk_us, h1 0 (by decide)]
          · rw [pk_un e]; exact h2 j (by omega))
  refine g_iconst hx hb (nI 0) dX0_filterLine_0 (by decide) ?_
  refine g_istore (vs' := [.ref h, .int (nI start), .int (nI step), .int (nI half), .int (bI g), .int (nI 0), .null, .null, .null]) hx hb dX0_filterLine_1 (by decide) rfl ?_
  exact fill 16 0 F rfl (fun _ _ => rfl) (fun j hj => absurd hj (Nat.not_lt_zero _))

set_option maxHeartbeats 4000000 in
theorem mX_filter (l : Launch) (D : va_G) (d : ClassId) (h : Nat) (a : Nat → Nat) (F : bx_F) (w z : Nat) (g : Bool) (hw : w ≤ 7) (hz : z ≤ 7) : bx_Mv l yX0_filter cX0_filter 5 rmb2 D 0 nsX h a d F [.int (nI w), .int (nI z), .int (bI g)] (po_fil F g w z) := by
  refine g_metv (Cn := RX0) (T := TX0) (by decide) rfl in_X0 rfl (cat_ints [nI w, nI z, bI g]) 1 rfl ?_
  intro κ el eR C hr hlk
  have hx := C.1
  have hb := C.2.1
  have hA : ∀ q, (ks κ).heap.size ≤ q → bx_A 0 nsX h a d F (ks κ).heap.size q := fun q hq => Or.inr hq
  refine g_vs (vs' := [.ref h, .int (nI w), .int (nI z), .int (bI g), .null]) rfl ?_
  have cols : ∀ (G1 : bx_F), fr_R g w (F 0) 16 (G1 0) → (∀ k, k ≠ 0 → k ≠ 3 → k ≠ 4 → G1 k = F k) → bx_G κ (bx_Qv κ D 0 nsX h a d F (po_fil F g w z)) 5 0 0 (bx_S D 0 nsX h a d (bx_A 0 nsX h a d F (ks κ).heap.size) (ks κ).heap G1) 31 [.ref h, .int (nI w), .int (nI z), .int (bI g), .int (nI 0)] [] := by
    intro G1 hr1 hk1
    have loop : ∀ (n c : Nat) (G : bx_F), c + n = 16 → (∀ k, k ≠ 0 → k ≠ 3 → k ≠ 4 → G k = F k) → fc_R g z (G1 0) c (G 0) → bx_G κ (bx_Qv κ D 0 nsX h a d F (po_fil F g w z)) 5 0 0 (bx_S D 0 nsX h a d (bx_A 0 nsX h a d F (ks κ).heap.size) (ks κ).heap G) 31 [.ref h, .int (nI w), .int (nI z), .int (bI g), .int (nI c)] [] := by
      intro n
      induction n with
      | zero =>
        intro c G hn h1 h2
        refine g_iload hx hb dX0_filter_31 rfl ?_
        refine g_bipush hx hb (nI 16) dX0_filter_33 (by decide) ?_
        refine n_icmp_ge hx hb 54 dX0_filter_35 (by decide) (by omega) (by omega) (fun c_35 => ?_) (fun c_35 => ?_)
        · exact g_vret C hr hlk (⟨h1, fi_of hr1 (by rw [show c = 16 by omega] at h2; exact h2)⟩) dX0_filter_54
        · omega
      | succ n ih =>
        intro c G hn h1 h2
        refine g_iload hx hb dX0_filter_31 rfl ?_
        refine g_bipush hx hb (nI 16) dX0_filter_33 (by decide) ?_
        refine n_icmp_ge hx hb 54 dX0_filter_35 (by decide) (by omega) (by omega) (fun c_35 => ?_) (fun c_35 => ?_)
        · omega
        · refine g_aload_n hx hb dX0_filter_38 rfl rfl ?_
          refine g_iload hx hb dX0_filter_39 rfl ?_
          refine g_bipush hx hb (nI 16) dX0_filter_41 (by decide) ?_
          refine g_iload_n hx hb dX0_filter_43 rfl rfl ?_
          refine g_iload_n hx hb dX0_filter_44 rfl rfl ?_
          refine g_callv C hA (n := 4) (rest := []) (mX_filterLine (kl κ) D d h a G c 16 z g (by omega) (by decide) hz) (lw_V q75 q77 qs2 q16 q78) (by decide +kernel) rfl ⟨rfl, rfl⟩ ⟨by rw [eR]; decide, by rw [eR]; decide⟩ rfl (Nat.le_of_ble_eq_true rfl) dX0_filter_45 (fun u_45 p_45 => ?_)
          refine n_iinc (vs' := [.ref h, .int (nI w), .int (nI z), .int (bI g), .int (nI (c + 1))]) hx hb dX0_filter_48 rfl (by decide) rfl ?_
          refine g_goto hx hb 31 dX0_filter_51 (by decide) ?_
          exact ih (c + 1) _ (by omega) (fun k k0 k3 k4 => (p_45.1 k k0 k3 k4).trans (h1 k k0 k3 k4)) (fc_Rs h2 (by omega) p_45.2)
    exact loop 16 0 G1 rfl hk1 (fc_R0 _ _ _)
  have rows : ∀ (n r : Nat) (G : bx_F), r + n = 16 → (∀ k, k ≠ 0 → k ≠ 3 → k ≠ 4 → G k = F k) → fr_R g w (F 0) r (G 0) → bx_G κ (bx_Qv κ D 0 nsX h a d F (po_fil F g w z)) 5 0 0 (bx_S D 0 nsX h a d (bx_A 0 nsX h a d F (ks κ).heap.size) (ks κ).heap G) 3 [.ref h, .int (nI w), .int (nI z), .int (bI g), .int (nI r)] [] := by
    intro n
    induction n with
    | zero =>
      intro r G hn h1 h2
      refine g_iload hx hb dX0_filter_3 rfl ?_
      refine g_bipush hx hb (nI 16) dX0_filter_5 (by decide) ?_
      refine n_icmp_ge hx hb 28 dX0_filter_7 (by decide) (by omega) (by omega) (fun c_7 => ?_) (fun c_7 => ?_)
      · refine g_iconst hx hb (nI 0) dX0_filter_28 (by decide) ?_
        refine g_istore (vs' := [.ref h, .int (nI w), .int (nI z), .int (bI g), .int (nI 0)]) hx hb dX0_filter_29 (by decide) rfl ?_
        exact cols G (by rw [show r = 16 by omega] at h2; exact h2) h1
      · omega
    | succ n ih =>
      intro r G hn h1 h2
      refine g_iload hx hb dX0_filter_3 rfl ?_
      refine g_bipush hx hb (nI 16) dX0_filter_5 (by decide) ?_
      refine n_icmp_ge hx hb 28 dX0_filter_7 (by decide) (by omega) (by omega) (fun c_7 => ?_) (fun c_7 => ?_)
      · omega
      · refine g_aload_n hx hb dX0_filter_10 rfl rfl ?_
        refine g_iload hx hb dX0_filter_11 rfl ?_
        refine g_bipush hx hb (nI 16) dX0_filter_13 (by decide) ?_
        refine n_imul hx hb dX0_filter_15 ?_
        refine g_iconst hx hb (nI 1) dX0_filter_16 (by decide) ?_
        refine g_iload_n hx hb dX0_filter_17 rfl rfl ?_
        refine g_iload_n hx hb dX0_filter_18 rfl rfl ?_
        refine g_callv C hA (n := 4) (rest := []) (mX_filterLine (kl κ) D d h a G (r * 16) 1 w g (by omega) (by decide) hw) (lw_V q75 q77 qs2 q16 q78) (by decide +kernel) rfl ⟨rfl, rfl⟩ ⟨by rw [eR]; decide, by rw [eR]; decide⟩ rfl (Nat.le_of_ble_eq_true rfl) dX0_filter_19 (fun u_19 p_19 => ?_)
        refine n_iinc (vs' := [.ref h, .int (nI w), .int (nI z), .int (bI g), .int (nI (r + 1))]) hx hb dX0_filter_22 rfl (by decide) rfl ?_
        refine g_goto hx hb 3 dX0_filter_25 (by decide) ?_
        exact ih (r + 1) _ (by omega) (fun k k0 k3 k4 => (p_19.1 k k0 k3 k4).trans (h1 k k0 k3 k4)) (fr_Rs h2 (by omega) p_19.2)
  refine g_iconst hx hb (nI 0) dX0_filter_0 (by decide) ?_
  refine g_istore (vs' := [.ref h, .int (nI w), .int (nI z), .int (bI g), .int (nI 0)]) hx hb dX0_filter_1 (by decide) rfl ?_
  exact rows 16 0 F rfl (fun _ _ _ _ => rfl) (fr_R0 _ _ _)

set_option maxHeartbeats 4000000 in
theorem mX_dilate (l : Launch) (D : va_G) (d : ClassId) (h : Nat) (a : Nat → Nat) (F : bx_F) (w z : Int32) : bx_Mi l yX0_dilate cX0_dilate 3 .int rmb3 D 0 nsX h a d F [.int w, .int z] (po_f R_dil F w z) := by
  refine g_meti (Cn := RX0) (T := TX0) (by decide) rfl in_X0 rfl (cat_ints [w, z]) 0 rfl ?_
  intro κ el eR C hr hlk
  have hx := C.1
  have hb := C.2.1
  have hA : ∀ q, (ks κ).heap.size ≤ q → bx_A 0 nsX h a d F (ks κ).heap.size q := fun q hq => Or.inr hq
  refine g_vs (vs' := [.ref h, .int w, .int z]) rfl ?_
  refine g_iload_n hx hb dX0_dilate_0 rfl rfl ?_
  refine g_iload_n hx hb dX0_dilate_1 rfl rfl ?_
  refine g_callS C (n := 2) (rest := []) (mX_badSize (kl κ) w z) (lw_S q64 q65 q16 q66) (by decide +kernel) rfl ⟨rfl, rfl⟩ ⟨by rw [eR]; decide, by rw [eR]; decide⟩ rfl (Nat.le_of_ble_eq_true rfl) dX0_dilate_2 (fun x_2 p_2 => ?_)
  by_cases ok_ : okS w z
  · obtain ⟨i, j, hi, hj, rfl, rfl⟩ := okS_nat ok_
    rw [p_2.1 ok_]
    refine g_if_eq hx hb 11 dX0_dilate_5 (by decide) (fun c_5 => ?_) (fun c_5 => ?_)
    · refine g_aload_n hx hb dX0_dilate_11 rfl rfl ?_
      refine g_callv C hA (n := 0) (rest := []) (mX_remember (kl κ) D d h a F) (lw_V q67 q69 qs0 q16 q70) (by decide +kernel) rfl ⟨rfl, rfl⟩ ⟨by rw [eR]; decide, by rw [eR]; decide⟩ rfl (Nat.le_of_ble_eq_true rfl) dX0_dilate_12 (fun u_12 p_12 => ?_)
      refine g_aload_n hx hb dX0_dilate_15 rfl rfl ?_
      refine g_iload_n hx hb dX0_dilate_16 rfl rfl ?_
      refine g_iload_n hx hb dX0_dilate_17 rfl rfl ?_
      refine g_iconst hx hb (bI true) dX0_dilate_18 (by decide) ?_
      refine g_callv C hA (n := 3) (rest := []) (mX_filter (kl κ) D d h a u_12 i j true hi hj) (lw_V q71 q73 qs1 q16 q74) (by decide +kernel) rfl ⟨rfl, rfl⟩ ⟨by rw [eR]; decide, by rw [eR]; decide⟩ rfl (Nat.le_of_ble_eq_true rfl) dX0_dilate_19 (fun u_19 p_19 => ?_)
      refine g_aload_n hx hb dX0_dilate_22 rfl rfl ?_
      refine g_calli C hA (n := 0) (rest := []) (mX_changed (kl κ) D d h a u_19) (lw_V q83 q85 qs4 q16 q86) (by decide +kernel) rfl ⟨rfl, rfl⟩ ⟨by rw [eR]; decide, by rw [eR]; decide⟩ rfl (Nat.le_of_ble_eq_true rfl) dX0_dilate_23 (fun x_23 u_23 p_23 => ?_)
      obtain ⟨e_, q_⟩ := p_23
      rw [e_]
      have r0 : u_12 0 = F 0 := p_12.1 0 (by decide)
      have r1 : u_12 1 = F 1 := p_12.1 1 (by decide)
      have r5 : u_12 5 = F 5 := p_12.1 5 (by decide)
      have f1_0 : u_19 1 = u_12 1 := p_19.1 1 (by decide) (by decide) (by decide)
      have f2_0 : u_19 2 = u_12 2 := p_19.1 2 (by decide) (by decide) (by decide)
      have f5_0 : u_19 5 = u_12 5 := p_19.1 5 (by decide) (by decide) (by decide)
      refine g_iret C hr hlk ?_ dX0_dilate_26
      refine ⟨fun q => absurd ok_ q, fun i2 j2 b1 b2 b3 b4 => ?_⟩
      obtain rfl : i = i2 := nI_inj b3 (by omega) (by omega)
      obtain rfl : j = j2 := nI_inj b4 (by omega) (by omega)
      refine ⟨(r0 ▸ p_19.2), (f1_0.trans (r1)), fun hb5 => ((f5_0.trans (r5))) ▸ hb5, ?_⟩
      rw [q_]
      congr 1
      refine cn_congr fun k hk => ?_
      rw [f2_0, p_12.2 k hk]
    · exact absurd rfl c_5
  · rw [p_2.2 ok_]
    refine g_if_eq hx hb 11 dX0_dilate_5 (by decide) (fun c_5 => ?_) (fun c_5 => ?_)
    · exact absurd c_5 (by decide)
    · refine g_bipush hx hb ((-3)) dX0_dilate_8 (by decide) ?_
      exact g_iret C hr hlk (⟨fun _ => ⟨rfl, rfl⟩, fun i j b1 b2 b3 b4 => absurd (by rw [b3, b4]; exact okS_of b1 b2) ok_⟩) dX0_dilate_10

set_option maxHeartbeats 4000000 in
theorem mX_erode (l : Launch) (D : va_G) (d : ClassId) (h : Nat) (a : Nat → Nat) (F : bx_F) (w z : Int32) : bx_Mi l yX0_erode cX0_erode 3 .int rmb3 D 0 nsX h a d F [.int w, .int z] (po_f R_ero F w z) := by
  refine g_meti (Cn := RX0) (T := TX0) (by decide) rfl in_X0 rfl (cat_ints [w, z]) 0 rfl ?_
  intro κ el eR C hr hlk
  have hx := C.1
  have hb := C.2.1
  have hA : ∀ q, (ks κ).heap.size ≤ q → bx_A 0 nsX h a d F (ks κ).heap.size q := fun q hq => Or.inr hq
  refine g_vs (vs' := [.ref h, .int w, .int z]) rfl ?_
  refine g_iload_n hx hb dX0_erode_0 rfl rfl ?_
  refine g_iload_n hx hb dX0_erode_1 rfl rfl ?_
  refine g_callS C (n := 2) (rest := []) (mX_badSize (kl κ) w z) (lw_S q64 q65 q16 q66) (by decide +kernel) rfl ⟨rfl, rfl⟩ ⟨by rw [eR]; decide, by rw [eR]; decide⟩ rfl (Nat.le_of_ble_eq_true rfl) dX0_erode_2 (fun x_2 p_2 => ?_)
  by_cases ok_ : okS w z
  · obtain ⟨i, j, hi, hj, rfl, rfl⟩ := okS_nat ok_
    rw [p_2.1 ok_]
    refine g_if_eq hx hb 11 dX0_erode_5 (by decide) (fun c_5 => ?_) (fun c_5 => ?_)
    · refine g_aload_n hx hb dX0_erode_11 rfl rfl ?_
      refine g_callv C hA (n := 0) (rest := []) (mX_remember (kl κ) D d h a F) (lw_V q67 q69 qs0 q16 q70) (by decide +kernel) rfl ⟨rfl, rfl⟩ ⟨by rw [eR]; decide, by rw [eR]; decide⟩ rfl (Nat.le_of_ble_eq_true rfl) dX0_erode_12 (fun u_12 p_12 => ?_)
      refine g_aload_n hx hb dX0_erode_15 rfl rfl ?_
      refine g_iload_n hx hb dX0_erode_16 rfl rfl ?_
      refine g_iload_n hx hb dX0_erode_17 rfl rfl ?_
      refine g_iconst hx hb (bI false) dX0_erode_18 (by decide) ?_
      refine g_callv C hA (n := 3) (rest := []) (mX_filter (kl κ) D d h a u_12 i j false hi hj) (lw_V q71 q73 qs1 q16 q74) (by decide +kernel) rfl ⟨rfl, rfl⟩ ⟨by rw [eR]; decide, by rw [eR]; decide⟩ rfl (Nat.le_of_ble_eq_true rfl) dX0_erode_19 (fun u_19 p_19 => ?_)
      refine g_aload_n hx hb dX0_erode_22 rfl rfl ?_
      refine g_calli C hA (n := 0) (rest := []) (mX_changed (kl κ) D d h a u_19) (lw_V q83 q85 qs4 q16 q86) (by decide +kernel) rfl ⟨rfl, rfl⟩ ⟨by rw [eR]; decide, by rw [eR]; decide⟩ rfl (Nat.le_of_ble_eq_true rfl) dX0_erode_23 (fun x_23 u_23 p_23 => ?_)
      obtain ⟨e_, q_⟩ := p_23
      rw [e_]
      have r0 : u_12 0 = F 0 := p_12.1 0 (by decide)
      have r1 : u_12 1 = F 1 := p_12.1 1 (by decide)
      have r5 : u_12 5 = F 5 := p_12.1 5 (by decide)
      have f1_0 : u_19 1 = u_12 1 := p_19.1 1 (by decide) (by decide) (by decide)
      have f2_0 : u_19 2 = u_12 2 := p_19.1 2 (by decide) (by decide) (by decide)
      have f5_0 : u_19 5 = u_12 5 := p_19.1 5 (by decide) (by decide) (by decide)
      refine g_iret C hr hlk ?_ dX0_erode_26
      refine ⟨fun q => absurd ok_ q, fun i2 j2 b1 b2 b3 b4 => ?_⟩
      obtain rfl : i = i2 := nI_inj b3 (by omega) (by omega)
      obtain rfl : j = j2 := nI_inj b4 (by omega) (by omega)
      refine ⟨(r0 ▸ p_19.2), (f1_0.trans (r1)), fun hb5 => ((f5_0.trans (r5))) ▸ hb5, ?_⟩
      rw [q_]
      congr 1
      refine cn_congr fun k hk => ?_
      rw [f2_0, p_12.2 k hk]
    · exact absurd rfl c_5
  · rw [p_2.2 ok_]
    refine g_if_eq hx hb 11 dX0_erode_5 (by decide) (fun c_5 => ?_) (fun c_5 => ?_)
    · exact absurd c_5 (by decide)
    · refine g_bipush hx hb ((-3)) dX0_erode_8 (by decide) ?_
      exact g_iret C hr hlk (⟨fun _ => ⟨rfl, rfl⟩, fun i j b1 b2 b3 b4 => absurd (by rw [b3, b4]; exact okS_of b1 b2) ok_⟩) dX0_erode_10

set_option maxHeartbeats 4000000 in
theorem mX_open (l : Launch) (D : va_G) (d : ClassId) (h : Nat) (a : Nat → Nat) (F : bx_F) (w z : Int32) : bx_Mi l yX0_open cX0_open 3 .int rmb3 D 0 nsX h a d F [.int w, .int z] (po_f R_opn F w z) := by
  refine g_meti (Cn := RX0) (T := TX0) (by decide) rfl in_X0 rfl (cat_ints [w, z]) 0 rfl ?_
  intro κ el eR C hr hlk
  have hx := C.1
  have hb := C.2.1
  have hA : ∀ q, (ks κ).heap.size ≤ q → bx_A 0 nsX h a d F (ks κ).heap.size q := fun q hq => Or.inr hq
  refine g_vs (vs' := [.ref h, .int w, .int z]) rfl ?_
  refine g_iload_n hx hb dX0_open_0 rfl rfl ?_
  refine g_iload_n hx hb dX0_open_1 rfl rfl ?_
  refine g_callS C (n := 2) (rest := []) (mX_badSize (kl κ) w z) (lw_S q64 q65 q16 q66) (by decide +kernel) rfl ⟨rfl, rfl⟩ ⟨by rw [eR]; decide, by rw [eR]; decide⟩ rfl (Nat.le_of_ble_eq_true rfl) dX0_open_2 (fun x_2 p_2 => ?_)
  by_cases ok_ : okS w z
  · obtain ⟨i, j, hi, hj, rfl, rfl⟩ := okS_nat ok_
    rw [p_2.1 ok_]
    refine g_if_eq hx hb 11 dX0_open_5 (by decide) (fun c_5 => ?_) (fun c_5 => ?_)
    · refine g_aload_n hx hb dX0_open_11 rfl rfl ?_
      refine g_callv C hA (n := 0) (rest := []) (mX_remember (kl κ) D d h a F) (lw_V q67 q69 qs0 q16 q70) (by decide +kernel) rfl ⟨rfl, rfl⟩ ⟨by rw [eR]; decide, by rw [eR]; decide⟩ rfl (Nat.le_of_ble_eq_true rfl) dX0_open_12 (fun u_12 p_12 => ?_)
      refine g_aload_n hx hb dX0_open_15 rfl rfl ?_
      refine g_iload_n hx hb dX0_open_16 rfl rfl ?_
      refine g_iload_n hx hb dX0_open_17 rfl rfl ?_
      refine g_iconst hx hb (bI false) dX0_open_18 (by decide) ?_
      refine g_callv C hA (n := 3) (rest := []) (mX_filter (kl κ) D d h a u_12 i j false hi hj) (lw_V q71 q73 qs1 q16 q74) (by decide +kernel) rfl ⟨rfl, rfl⟩ ⟨by rw [eR]; decide, by rw [eR]; decide⟩ rfl (Nat.le_of_ble_eq_true rfl) dX0_open_19 (fun u_19 p_19 => ?_)
      refine g_aload_n hx hb dX0_open_22 rfl rfl ?_
      refine g_iload_n hx hb dX0_open_23 rfl rfl ?_
      refine g_iload_n hx hb dX0_open_24 rfl rfl ?_
      refine g_iconst hx hb (bI true) dX0_open_25 (by decide) ?_
      refine g_callv C hA (n := 3) (rest := []) (mX_filter (kl κ) D d h a u_19 i j true hi hj) (lw_V q71 q73 qs1 q16 q74) (by decide +kernel) rfl ⟨rfl, rfl⟩ ⟨by rw [eR]; decide, by rw [eR]; decide⟩ rfl (Nat.le_of_ble_eq_true rfl) dX0_open_26 (fun u_26 p_26 => ?_)
      refine g_aload_n hx hb dX0_open_29 rfl rfl ?_
      refine g_calli C hA (n := 0) (rest := []) (mX_changed (kl κ) D d h a u_26) (lw_V q83 q85 qs4 q16 q86) (by decide +kernel) rfl ⟨rfl, rfl⟩ ⟨by rw [eR]; decide, by rw [eR]; decide⟩ rfl (Nat.le_of_ble_eq_true rfl) dX0_open_30 (fun x_30 u_30 p_30 => ?_)
      obtain ⟨e_, q_⟩ := p_30
      rw [e_]
      have r0 : u_12 0 = F 0 := p_12.1 0 (by decide)
      have r1 : u_12 1 = F 1 := p_12.1 1 (by decide)
      have r5 : u_12 5 = F 5 := p_12.1 5 (by decide)
      have f1_0 : u_19 1 = u_12 1 := p_19.1 1 (by decide) (by decide) (by decide)
      have f2_0 : u_19 2 = u_12 2 := p_19.1 2 (by decide) (by decide) (by decide)
      have f5_0 : u_19 5 = u_12 5 := p_19.1 5 (by decide) (by decide) (by decide)
      have f1_1 : u_26 1 = u_19 1 := p_26.1 1 (by decide) (by decide) (by decide)
      have f2_1 : u_26 2 = u_19 2 := p_26.1 2 (by decide) (by decide) (by decide)
      have f5_1 : u_26 5 = u_19 5 := p_26.1 5 (by decide) (by decide) (by decide)
      refine g_iret C hr hlk ?_ dX0_open_33
      refine ⟨fun q => absurd ok_ q, fun i2 j2 b1 b2 b3 b4 => ?_⟩
      obtain rfl : i = i2 := nI_inj b3 (by omega) (by omega)
      obtain rfl : j = j2 := nI_inj b4 (by omega) (by omega)
      refine ⟨⟨u_19 0, r0 ▸ p_19.2, p_26.2⟩, (f1_1.trans (f1_0.trans (r1))), fun hb5 => ((f5_1.trans (f5_0.trans (r5)))) ▸ hb5, ?_⟩
      rw [q_]
      congr 1
      refine cn_congr fun k hk => ?_
      rw [f2_1, f2_0, p_12.2 k hk]
    · exact absurd rfl c_5
  · rw [p_2.2 ok_]
    refine g_if_eq hx hb 11 dX0_open_5 (by decide) (fun c_5 => ?_) (fun c_5 => ?_)
    · exact absurd c_5 (by decide)
    · refine g_bipush hx hb ((-3)) dX0_open_8 (by decide) ?_
      exact g_iret C hr hlk (⟨fun _ => ⟨rfl, rfl⟩, fun i j b1 b2 b3 b4 => absurd (by rw [b3, b4]; exact okS_of b1 b2) ok_⟩) dX0_open_10

set_option maxHeartbeats 4000000 in
theorem mX_close (l : Launch) (D : va_G) (d : ClassId) (h : Nat) (a : Nat → Nat) (F : bx_F) (w z : Int32) : bx_Mi l yX0_close cX0_close 3 .int rmb3 D 0 nsX h a d F [.int w, .int z] (po_f R_clo F w z) := by
  refine g_meti (Cn := RX0) (T := TX0) (by decide) rfl in_X0 rfl (cat_ints [w, z]) 0 rfl ?_
  intro κ el eR C hr hlk
  have hx := C.1
  have hb := C.2.1
  have hA : ∀ q, (ks κ).heap.size ≤ q → bx_A 0 nsX h a d F (ks κ).heap.size q := fun q hq => Or.inr hq
  refine g_vs (vs' := [.ref h, .int w, .int z]) rfl ?_
  refine g_iload_n hx hb dX0_close_0 rfl rfl ?_
  refine g_iload_n hx hb dX0_close_1 rfl rfl ?_
  refine g_callS C (n := 2) (rest := []) (mX_badSize (kl κ) w z) (lw_S q64 q65 q16 q66) (by decide +kernel) rfl ⟨rfl, rfl⟩ ⟨by rw [eR]; decide, by rw [eR]; decide⟩ rfl (Nat.le_of_ble_eq_true rfl) dX0_close_2 (fun x_2 p_2 => ?_)
  by_cases ok_ : okS w z
  · obtain ⟨i, j, hi, hj, rfl, rfl⟩ := okS_nat ok_
    rw [p_2.1 ok_]
    refine g_if_eq hx hb 11 dX0_close_5 (by decide) (fun c_5 => ?_) (fun c_5 => ?_)
    · refine g_aload_n hx hb dX0_close_11 rfl rfl ?_
      refine g_callv C hA (n := 0) (rest := []) (mX_remember (kl κ) D d h a F) (lw_V q67 q69 qs0 q16 q70) (by decide +kernel) rfl ⟨rfl, rfl⟩ ⟨by rw [eR]; decide, by rw [eR]; decide⟩ rfl (Nat.le_of_ble_eq_true rfl) dX0_close_12 (fun u_12 p_12 => ?_)
      refine g_aload_n hx hb dX0_close_15 rfl rfl ?_
      refine g_iload_n hx hb dX0_close_16 rfl rfl ?_
      refine g_iload_n hx hb dX0_close_17 rfl rfl ?_
      refine g_iconst hx hb (bI true) dX0_close_18 (by decide) ?_
      refine g_callv C hA (n := 3) (rest := []) (mX_filter (kl κ) D d h a u_12 i j true hi hj) (lw_V q71 q73 qs1 q16 q74) (by decide +kernel) rfl ⟨rfl, rfl⟩ ⟨by rw [eR]; decide, by rw [eR]; decide⟩ rfl (Nat.le_of_ble_eq_true rfl) dX0_close_19 (fun u_19 p_19 => ?_)
      refine g_aload_n hx hb dX0_close_22 rfl rfl ?_
      refine g_iload_n hx hb dX0_close_23 rfl rfl ?_
      refine g_iload_n hx hb dX0_close_24 rfl rfl ?_
      refine g_iconst hx hb (bI false) dX0_close_25 (by decide) ?_
      refine g_callv C hA (n := 3) (rest := []) (mX_filter (kl κ) D d h a u_19 i j false hi hj) (lw_V q71 q73 qs1 q16 q74) (by decide +kernel) rfl ⟨rfl, rfl⟩ ⟨by rw [eR]; decide, by rw [eR]; decide⟩ rfl (Nat.le_of_ble_eq_true rfl) dX0_close_26 (fun u_26 p_26 => ?_)
      refine g_aload_n hx hb dX0_close_29 rfl rfl ?_
      refine g_calli C hA (n := 0) (rest := []) (mX_changed (kl κ) D d h a u_26) (lw_V q83 q85 qs4 q16 q86) (by decide +kernel) rfl ⟨rfl, rfl⟩ ⟨by rw [eR]; decide, by rw [eR]; decide⟩ rfl (Nat.le_of_ble_eq_true rfl) dX0_close_30 (fun x_30 u_30 p_30 => ?_)
      obtain ⟨e_, q_⟩ := p_30
      rw [e_]
      have r0 : u_12 0 = F 0 := p_12.1 0 (by decide)
      have r1 : u_12 1 = F 1 := p_12.1 1 (by decide)
      have r5 : u_12 5 = F 5 := p_12.1 5 (by decide)
      have f1_0 : u_19 1 = u_12 1 := p_19.1 1 (by decide) (by decide) (by decide)
      have f2_0 : u_19 2 = u_12 2 := p_19.1 2 (by decide) (by decide) (by decide)
      have f5_0 : u_19 5 = u_12 5 := p_19.1 5 (by decide) (by decide) (by decide)
      have f1_1 : u_26 1 = u_19 1 := p_26.1 1 (by decide) (by decide) (by decide)
      have f2_1 : u_26 2 = u_19 2 := p_26.1 2 (by decide) (by decide) (by decide)
      have f5_1 : u_26 5 = u_19 5 := p_26.1 5 (by decide) (by decide) (by decide)
      refine g_iret C hr hlk ?_ dX0_close_33
      refine ⟨fun q => absurd ok_ q, fun i2 j2 b1 b2 b3 b4 => ?_⟩
      obtain rfl : i = i2 := nI_inj b3 (by omega) (by omega)
      obtain rfl : j = j2 := nI_inj b4 (by omega) (by omega)
      refine ⟨⟨u_19 0, r0 ▸ p_19.2, p_26.2⟩, (f1_1.trans (f1_0.trans (r1))), fun hb5 => ((f5_1.trans (f5_0.trans (r5)))) ▸ hb5, ?_⟩
      rw [q_]
      congr 1
      refine cn_congr fun k hk => ?_
      rw [f2_1, f2_0, p_12.2 k hk]
    · exact absurd rfl c_5
  · rw [p_2.2 ok_]
    refine g_if_eq hx hb 11 dX0_close_5 (by decide) (fun c_5 => ?_) (fun c_5 => ?_)
    · exact absurd c_5 (by decide)
    · refine g_bipush hx hb ((-3)) dX0_close_8 (by decide) ?_
      exact g_iret C hr hlk (⟨fun _ => ⟨rfl, rfl⟩, fun i j b1 b2 b3 b4 => absurd (by rw [b3, b4]; exact okS_of b1 b2) ok_⟩) dX0_close_10
end
section
set_option maxRecDepth 100000
set_option maxHeartbeats 4000000 in
theorem mX_within (l : Launch) (v : Int32) : bx_Ms l yX0_within cX0_within 1 .int rmb0 [.int v] (fun x => x = wi_ v) := by
  refine g_metS (by decide) (cat_ints [v]) 0 rfl ?_
  intro κ el eR hx hb hr hlk
  refine g_vs (vs' := [.int v]) rfl ?_
  refine g_iload_n hx hb dX0_within_0 rfl rfl ?_
  refine g_if_ge hx hb 6 dX0_within_1 (by decide) (fun c_1 => ?_) (fun c_1 => ?_)
  · refine g_iload_n hx hb dX0_within_6 rfl rfl ?_
    refine g_bipush hx hb (nI 16) dX0_within_7 (by decide) ?_
    refine g_icmp_le hx hb 17 dX0_within_9 (by decide) (fun c_9 => ?_) (fun c_9 => ?_)
    · refine g_iload_n hx hb dX0_within_17 rfl rfl ?_
      exact g_sret hx hb hr hlk rfl ((by unfold wi_; rw [if_neg (Int32.not_lt.mpr c_1), if_pos c_9] : v = wi_ v)) dX0_within_18
    · refine g_bipush hx hb (nI 16) dX0_within_12 (by decide) ?_
      refine g_goto hx hb 18 dX0_within_14 (by decide) ?_
      exact g_sret hx hb hr hlk rfl ((by unfold wi_; rw [if_neg (Int32.not_lt.mpr c_1), if_neg c_9] : nI 16 = wi_ v)) dX0_within_18
  · refine g_iconst hx hb (nI 0) dX0_within_4 (by decide) ?_
    exact g_sret hx hb hr hlk rfl ((by unfold wi_; rw [if_pos (Int32.not_le.mp c_1)] : nI 0 = wi_ v)) dX0_within_5

set_option maxHeartbeats 4000000 in
theorem mX_fillSums (l : Launch) (D : va_G) (d : ClassId) (h : Nat) (a : Nat → Nat) (F : bx_F) (hbd : bd_ (F 5)) : bx_Mv l yX0_fillSums cX0_fillSums 4 rmb0 D 0 nsX h a d F [] (po_fillSums F) := by
  refine g_metv (Cn := RX0) (T := TX0) (by decide) rfl in_X0 rfl (cat_ints []) 3 rfl ?_
  intro κ el eR C hr hlk
  have hx := C.1
  have hb := C.2.1
  have hA : ∀ q, (ks κ).heap.size ≤ q → bx_A 0 nsX h a d F (ks κ).heap.size q := fun q hq => Or.inr hq
  refine g_vs (vs' := [.ref h, .null, .null, .null]) rfl ?_
  have loop : ∀ (n r : Nat) (G : bx_F), r + n = 16 → (∀ k, k ≠ 5 → G k = F k) → fs_I (F 0) (G 5) r → bx_G κ (bx_Qv κ D 0 nsX h a d F (po_fillSums F)) 4 0 0 (bx_S D 0 nsX h a d (bx_A 0 nsX h a d F (ks κ).heap.size) (ks κ).heap G) 2 [.ref h, .int (nI r), .null, .null] [] := by
    intro n
    induction n with
    | zero =>
      intro r G hn h1 h2
      refine g_iload_n hx hb dX0_fillSums_2 rfl rfl ?_
      refine g_bipush hx hb (nI 16) dX0_fillSums_3 (by decide) ?_
      refine n_icmp_ge hx hb 74 dX0_fillSums_5 (by decide) (by omega) (by omega) (fun c_5 => ?_) (fun c_5 => ?_)
      · exact g_vret C hr hlk (⟨h1, by rw [show r = 16 by omega] at h2; exact h2⟩) dX0_fillSums_74
      · omega
    | succ n ih =>
      intro r G hn h1 h2
      refine g_iload_n hx hb dX0_fillSums_2 rfl rfl ?_
      refine g_bipush hx hb (nI 16) dX0_fillSums_3 (by decide) ?_
      refine n_icmp_ge hx hb 74 dX0_fillSums_5 (by decide) (by omega) (by omega) (fun c_5 => ?_) (fun c_5 => ?_)
      · omega
      · have inner : ∀ (n c : Nat) (G : bx_F), c + n = 16 → (∀ k, k ≠ 5 → G k = F k) → fs_J (F 0) (G 5) r c → bx_G κ (bx_Qv κ D 0 nsX h a d F (po_fillSums F)) 4 0 0 (bx_S D 0 nsX h a d (bx_A 0 nsX h a d F (ks κ).heap.size) (ks κ).heap G) 12 [.ref h, .int (nI r), .int (sm_ (fun k => F 0 (r * 16 + k)) c), .int (nI c)] [] := by
          intro n2
          induction n2 with
          | zero =>
            intro c G hc g1 g2
            refine g_iload_n hx hb dX0_fillSums_12 rfl rfl ?_
            refine g_bipush hx hb (nI 16) dX0_fillSums_13 (by decide) ?_
            refine n_icmp_ge hx hb 68 dX0_fillSums_15 (by decide) (by omega) (by omega) (fun c_15 => ?_) (fun c_15 => ?_)
            · refine n_iinc (vs' := [.ref h, .int (nI (r + 1)), .int (sm_ (fun k => F 0 (r * 16 + k)) c), .int (nI c)]) hx hb dX0_fillSums_68 rfl (by decide) rfl ?_
              refine g_goto hx hb 2 dX0_fillSums_71 (by decide) ?_
              refine g_less (vs' := [.ref h, .int (nI (r + 1)), .null, .null]) (fun q v hv => by rcases q with _ | _ | _ | _ | q <;> simp at hv ⊢ <;> simp [hv]) ?_
              exact ih (r + 1) G (by omega) g1 (fs_s (by rw [show c = 16 by omega] at g2; exact g2))
            · omega
          | succ n2 ih2 =>
            intro c G hc g1 g2
            refine g_iload_n hx hb dX0_fillSums_12 rfl rfl ?_
            refine g_bipush hx hb (nI 16) dX0_fillSums_13 (by decide) ?_
            refine n_icmp_ge hx hb 68 dX0_fillSums_15 (by decide) (by omega) (by omega) (fun c_15 => ?_) (fun c_15 => ?_)
            · omega
            · have hrr : r < 16 := by omega
              refine g_iload_n hx hb dX0_fillSums_18 rfl rfl ?_
              refine g_aload_n hx hb dX0_fillSums_19 rfl rfl ?_
              refine g_get C 0 (by decide) q26 rfl dX0_fillSums_20 ?_
              refine g_iload_n hx hb dX0_fillSums_23 rfl rfl ?_
              refine g_bipush hx hb (nI 16) dX0_fillSums_24 (by decide) ?_
              refine n_imul hx hb dX0_fillSums_26 ?_
              refine g_iload_n hx hb dX0_fillSums_27 rfl rfl ?_
              refine n_iadd hx hb dX0_fillSums_28 ?_
              refine g_ld C 0 256 rfl (by omega) (by decide) dX0_fillSums_29 ?_
              refine g_iadd hx hb dX0_fillSums_30 ?_
              refine g_top (y := sm_ (fun k => F 0 (r * 16 + k)) (c + 1)) (by rw [g1 0 (by decide)]; exact (sm_s (fun k => F 0 (r * 16 + k)) c).symm) ?_
              refine g_istore_n (vs' := [.ref h, .int (nI r), .int (sm_ (fun k => F 0 (r * 16 + k)) (c + 1)), .int (nI c)]) hx hb dX0_fillSums_31 rfl (by decide) rfl ?_
              refine g_aload_n hx hb dX0_fillSums_32 rfl rfl ?_
              refine g_get C 5 (by decide) q31 rfl dX0_fillSums_33 ?_
              refine g_iload_n hx hb dX0_fillSums_36 rfl rfl ?_
              refine g_iconst hx hb (nI 1) dX0_fillSums_37 (by decide) ?_
              refine n_iadd hx hb dX0_fillSums_38 ?_
              refine g_bipush hx hb (nI 17) dX0_fillSums_39 (by decide) ?_
              refine n_imul hx hb dX0_fillSums_41 ?_
              refine g_iload_n hx hb dX0_fillSums_42 rfl rfl ?_
              refine n_iadd hx hb dX0_fillSums_43 ?_
              refine g_iconst hx hb (nI 1) dX0_fillSums_44 (by decide) ?_
              refine n_iadd hx hb dX0_fillSums_45 ?_
              refine g_aload_n hx hb dX0_fillSums_46 rfl rfl ?_
              refine g_get C 5 (by decide) q31 rfl dX0_fillSums_47 ?_
              refine g_iload_n hx hb dX0_fillSums_50 rfl rfl ?_
              refine g_bipush hx hb (nI 17) dX0_fillSums_51 (by decide) ?_
              refine n_imul hx hb dX0_fillSums_53 ?_
              refine g_iload_n hx hb dX0_fillSums_54 rfl rfl ?_
              refine n_iadd hx hb dX0_fillSums_55 ?_
              refine g_iconst hx hb (nI 1) dX0_fillSums_56 (by decide) ?_
              refine n_iadd hx hb dX0_fillSums_57 ?_
              refine g_ld C 5 289 rfl (by omega) (by decide) dX0_fillSums_58 ?_
              refine g_iload_n hx hb dX0_fillSums_59 rfl rfl ?_
              refine g_iadd hx hb dX0_fillSums_60 ?_
              refine g_st C 5 289 rfl (by omega) (by decide) dX0_fillSums_61 ?_
              refine n_iinc (vs' := [.ref h, .int (nI r), .int (sm_ (fun k => F 0 (r * 16 + k)) (c + 1)), .int (nI (c + 1))]) hx hb dX0_fillSums_62 rfl (by decide) rfl ?_
              refine g_goto hx hb 12 dX0_fillSums_65 (by decide) ?_
              refine ih2 (c + 1) _ (by omega) (fun k hk => (va_up_ne _ _ hk).trans (g1 k hk)) ?_
              rw [va_up_self]
              exact fs_Js g2 hrr (by omega)
        refine g_iconst hx hb (nI 0) dX0_fillSums_8 (by decide) ?_
        refine g_istore_n (vs' := [.ref h, .int (nI r), .int (nI 0), .null]) hx hb dX0_fillSums_9 rfl (by decide) rfl ?_
        refine g_iconst hx hb (nI 0) dX0_fillSums_10 (by decide) ?_
        refine g_istore_n (vs' := [.ref h, .int (nI r), .int (nI 0), .int (nI 0)]) hx hb dX0_fillSums_11 rfl (by decide) rfl ?_
        exact inner 16 0 G rfl h1 (fs_J0 h2 (by omega))
  refine g_iconst hx hb (nI 0) dX0_fillSums_0 (by decide) ?_
  refine g_istore_n (vs' := [.ref h, .int (nI 0), .null, .null]) hx hb dX0_fillSums_1 rfl (by decide) rfl ?_
  exact loop 16 0 F rfl (fun _ _ => rfl) (fs_0 hbd.1 hbd.2)

set_option maxHeartbeats 4000000 in
theorem mX_meanAt (l : Launch) (D : va_G) (d : ClassId) (h : Nat) (a : Nat → Nat) (F : bx_F) (f : Nat → Int32) (i w z : Nat) (hi : i < 256) (hw : w ≤ 7) (hz : z ≤ 7) (hs : fs_I f (F 5) 16) : bx_Mi l yX0_meanAt cX0_meanAt 11 .int rmb1 D 0 nsX h a d F [.int (nI (i / 16)), .int (nI (i % 16)), .int (nI w), .int (nI z)] (fun x u => u = F ∧ x = me_ f w z i) := by
  refine g_meti (Cn := RX0) (T := TX0) (by decide) rfl in_X0 rfl (cat_ints [nI (i / 16), nI (i % 16), nI w, nI z]) 6 rfl ?_
  intro κ el eR C hr hlk
  have hx := C.1
  have hb := C.2.1
  have hA : ∀ q, (ks κ).heap.size ≤ q → bx_A 0 nsX h a d F (ks κ).heap.size q := fun q hq => Or.inr hq
  refine g_vs (vs' := [.ref h, .int (nI (i / 16)), .int (nI (i % 16)), .int (nI w), .int (nI z), .null, .null, .null, .null, .null, .null]) rfl ?_
  have b1 : mb_ z i ≤ 16 := by unfold mb_; omega
  have b2 : mt_ z i ≤ 16 := by unfold mt_; omega
  have b3 : mr_ w i ≤ 16 := by unfold mr_; omega
  have b4 : ml_ w i ≤ 16 := by unfold ml_; omega
  have b5 := @mw_pos z i hi
  have b6 := mc_pos w i
  have b7 := @mn_pos w z i hi
  have s1 := hs.1 (mb_ z i) (mr_ w i) b1 b3
  have s2 := hs.1 (mt_ z i) (mr_ w i) b2 b3
  have s3 := hs.1 (mb_ z i) (ml_ w i) b1 b4
  have s4 := hs.1 (mt_ z i) (ml_ w i) b2 b4
  refine g_iload_n hx hb dX0_meanAt_0 rfl rfl ?_
  refine g_iload hx hb dX0_meanAt_1 rfl ?_
  refine g_isub hx hb dX0_meanAt_3 ?_
  refine g_callS C (n := 1) (rest := []) (mX_within (kl κ) (nI (i / 16) - nI z)) (lw_S q111 q112 q16 q113) (by decide +kernel) rfl ⟨rfl, rfl⟩ ⟨by rw [eR]; decide, by rw [eR]; decide⟩ rfl (Nat.le_of_ble_eq_true rfl) dX0_meanAt_4 (fun x_4 p_4 => ?_)
  refine g_top (y := nI (mt_ z i)) (p_4.trans (wi_sub (by omega) (by omega))) ?_
  refine g_istore (vs' := [.ref h, .int (nI (i / 16)), .int (nI (i % 16)), .int (nI w), .int (nI z), .int (nI (mt_ z i)), .null, .null, .null, .null, .null]) hx hb dX0_meanAt_7 (by decide) rfl ?_
  refine g_iload_n hx hb dX0_meanAt_9 rfl rfl ?_
  refine g_iload hx hb dX0_meanAt_10 rfl ?_
  refine n_iadd hx hb dX0_meanAt_12 ?_
  refine g_iconst hx hb (nI 1) dX0_meanAt_13 (by decide) ?_
  refine n_iadd hx hb dX0_meanAt_14 ?_
  refine g_callS C (n := 1) (rest := []) (mX_within (kl κ) (nI (i / 16 + z + 1))) (lw_S q111 q112 q16 q113) (by decide +kernel) rfl ⟨rfl, rfl⟩ ⟨by rw [eR]; decide, by rw [eR]; decide⟩ rfl (Nat.le_of_ble_eq_true rfl) dX0_meanAt_15 (fun x_15 p_15 => ?_)
  refine g_top (y := nI (mb_ z i)) (p_15.trans (wi_nat (by omega))) ?_
  refine g_istore (vs' := [.ref h, .int (nI (i / 16)), .int (nI (i % 16)), .int (nI w), .int (nI z), .int (nI (mt_ z i)), .int (nI (mb_ z i)), .null, .null, .null, .null]) hx hb dX0_meanAt_18 (by decide) rfl ?_
  refine g_iload_n hx hb dX0_meanAt_20 rfl rfl ?_
  refine g_iload_n hx hb dX0_meanAt_21 rfl rfl ?_
  refine g_isub hx hb dX0_meanAt_22 ?_
  refine g_callS C (n := 1) (rest := []) (mX_within (kl κ) (nI (i % 16) - nI w)) (lw_S q111 q112 q16 q113) (by decide +kernel) rfl ⟨rfl, rfl⟩ ⟨by rw [eR]; decide, by rw [eR]; decide⟩ rfl (Nat.le_of_ble_eq_true rfl) dX0_meanAt_23 (fun x_23 p_23 => ?_)
  refine g_top (y := nI (ml_ w i)) (p_23.trans (wi_sub (by omega) (by omega))) ?_
  refine g_istore (vs' := [.ref h, .int (nI (i / 16)), .int (nI (i % 16)), .int (nI w), .int (nI z), .int (nI (mt_ z i)), .int (nI (mb_ z i)), .int (nI (ml_ w i)), .null, .null, .null]) hx hb dX0_meanAt_26 (by decide) rfl ?_
  refine g_iload_n hx hb dX0_meanAt_28 rfl rfl ?_
  refine g_iload_n hx hb dX0_meanAt_29 rfl rfl ?_
  refine n_iadd hx hb dX0_meanAt_30 ?_
  refine g_iconst hx hb (nI 1) dX0_meanAt_31 (by decide) ?_
  refine n_iadd hx hb dX0_meanAt_32 ?_
  refine g_callS C (n := 1) (rest := []) (mX_within (kl κ) (nI (i % 16 + w + 1))) (lw_S q111 q112 q16 q113) (by decide +kernel) rfl ⟨rfl, rfl⟩ ⟨by rw [eR]; decide, by rw [eR]; decide⟩ rfl (Nat.le_of_ble_eq_true rfl) dX0_meanAt_33 (fun x_33 p_33 => ?_)
  refine g_top (y := nI (mr_ w i)) (p_33.trans (wi_nat (by omega))) ?_
  refine g_istore (vs' := [.ref h, .int (nI (i / 16)), .int (nI (i % 16)), .int (nI w), .int (nI z), .int (nI (mt_ z i)), .int (nI (mb_ z i)), .int (nI (ml_ w i)), .int (nI (mr_ w i)), .null, .null]) hx hb dX0_meanAt_36 (by decide) rfl ?_
  refine g_iload hx hb dX0_meanAt_38 rfl ?_
  refine g_iload hx hb dX0_meanAt_40 rfl ?_
  refine n_isub hx hb dX0_meanAt_42 (by omega) ?_
  refine g_iload hx hb dX0_meanAt_43 rfl ?_
  refine g_iload hx hb dX0_meanAt_45 rfl ?_
  refine n_isub hx hb dX0_meanAt_47 (by omega) ?_
  refine n_imul hx hb dX0_meanAt_48 ?_
  refine g_istore (vs' := [.ref h, .int (nI (i / 16)), .int (nI (i % 16)), .int (nI w), .int (nI z), .int (nI (mt_ z i)), .int (nI (mb_ z i)), .int (nI (ml_ w i)), .int (nI (mr_ w i)), .int (nI (((mb_ z i) - (mt_ z i)) * ((mr_ w i) - (ml_ w i)))), .null]) hx hb dX0_meanAt_49 (by decide) rfl ?_
  refine g_aload_n hx hb dX0_meanAt_51 rfl rfl ?_
  refine g_get C 5 (by decide) q31 rfl dX0_meanAt_52 ?_
  refine g_iload hx hb dX0_meanAt_55 rfl ?_
  refine g_bipush hx hb (nI 17) dX0_meanAt_57 (by decide) ?_
  refine n_imul hx hb dX0_meanAt_59 ?_
  refine g_iload hx hb dX0_meanAt_60 rfl ?_
  refine n_iadd hx hb dX0_meanAt_62 ?_
  refine g_ld C 5 289 rfl (by omega) (by decide) dX0_meanAt_63 ?_
  refine g_top (y := S2_ f (mb_ z i) (mr_ w i)) (s1) ?_
  refine g_aload_n hx hb dX0_meanAt_64 rfl rfl ?_
  refine g_get C 5 (by decide) q31 rfl dX0_meanAt_65 ?_
  refine g_iload hx hb dX0_meanAt_68 rfl ?_
  refine g_bipush hx hb (nI 17) dX0_meanAt_70 (by decide) ?_
  refine n_imul hx hb dX0_meanAt_72 ?_
  refine g_iload hx hb dX0_meanAt_73 rfl ?_
  refine n_iadd hx hb dX0_meanAt_75 ?_
  refine g_ld C 5 289 rfl (by omega) (by decide) dX0_meanAt_76 ?_
  refine g_top (y := S2_ f (mt_ z i) (mr_ w i)) (s2) ?_
  refine g_isub hx hb dX0_meanAt_77 ?_
  refine g_aload_n hx hb dX0_meanAt_78 rfl rfl ?_
  refine g_get C 5 (by decide) q31 rfl dX0_meanAt_79 ?_
  refine g_iload hx hb dX0_meanAt_82 rfl ?_
  refine g_bipush hx hb (nI 17) dX0_meanAt_84 (by decide) ?_
  refine n_imul hx hb dX0_meanAt_86 ?_
  refine g_iload hx hb dX0_meanAt_87 rfl ?_
  refine n_iadd hx hb dX0_meanAt_89 ?_
  refine g_ld C 5 289 rfl (by omega) (by decide) dX0_meanAt_90 ?_
  refine g_top (y := S2_ f (mb_ z i) (ml_ w i)) (s3) ?_
  refine g_isub hx hb dX0_meanAt_91 ?_
  refine g_aload_n hx hb dX0_meanAt_92 rfl rfl ?_
  refine g_get C 5 (by decide) q31 rfl dX0_meanAt_93 ?_
  refine g_iload hx hb dX0_meanAt_96 rfl ?_
  refine g_bipush hx hb (nI 17) dX0_meanAt_98 (by decide) ?_
  refine n_imul hx hb dX0_meanAt_100 ?_
  refine g_iload hx hb dX0_meanAt_101 rfl ?_
  refine n_iadd hx hb dX0_meanAt_103 ?_
  refine g_ld C 5 289 rfl (by omega) (by decide) dX0_meanAt_104 ?_
  refine g_top (y := S2_ f (mt_ z i) (ml_ w i)) (s4) ?_
  refine g_iadd hx hb dX0_meanAt_105 ?_
  refine g_istore (vs' := [.ref h, .int (nI (i / 16)), .int (nI (i % 16)), .int (nI w), .int (nI z), .int (nI (mt_ z i)), .int (nI (mb_ z i)), .int (nI (ml_ w i)), .int (nI (mr_ w i)), .int (nI (((mb_ z i) - (mt_ z i)) * ((mr_ w i) - (ml_ w i)))), .int ((((S2_ f (mb_ z i) (mr_ w i)) - (S2_ f (mt_ z i) (mr_ w i))) - (S2_ f (mb_ z i) (ml_ w i))) + (S2_ f (mt_ z i) (ml_ w i)))]) hx hb dX0_meanAt_106 (by decide) rfl ?_
  refine g_iload hx hb dX0_meanAt_108 rfl ?_
  refine g_if_le hx hb 121 dX0_meanAt_110 (by decide) (fun c_110 => ?_) (fun c_110 => ?_)
  · exact absurd c_110 (nI_nle b7.1 (by omega))
  · refine g_iload hx hb dX0_meanAt_113 rfl ?_
    refine g_iload hx hb dX0_meanAt_115 rfl ?_
    refine g_idiv hx hb dX0_meanAt_117 (nI_ne0 b7.1 (by omega)) ?_
    refine g_goto hx hb 122 dX0_meanAt_118 (by decide) ?_
    exact g_iret C hr hlk (⟨rfl, rfl⟩) dX0_meanAt_122

set_option maxHeartbeats 4000000 in
theorem mX_mean (l : Launch) (D : va_G) (d : ClassId) (h : Nat) (a : Nat → Nat) (F : bx_F) (w z : Int32) (hbd : bd_ (F 5)) : bx_Mi l yX0_mean cX0_mean 4 .int rmb3 D 0 nsX h a d F [.int w, .int z] (po_f R_mean F w z) := by
  refine g_meti (Cn := RX0) (T := TX0) (by decide) rfl in_X0 rfl (cat_ints [w, z]) 1 rfl ?_
  intro κ el eR C hr hlk
  have hx := C.1
  have hb := C.2.1
  have hA : ∀ q, (ks κ).heap.size ≤ q → bx_A 0 nsX h a d F (ks κ).heap.size q := fun q hq => Or.inr hq
  refine g_vs (vs' := [.ref h, .int w, .int z, .null]) rfl ?_
  refine g_iload_n hx hb dX0_mean_0 rfl rfl ?_
  refine g_iload_n hx hb dX0_mean_1 rfl rfl ?_
  refine g_callS C (n := 2) (rest := []) (mX_badSize (kl κ) w z) (lw_S q64 q65 q16 q66) (by decide +kernel) rfl ⟨rfl, rfl⟩ ⟨by rw [eR]; decide, by rw [eR]; decide⟩ rfl (Nat.le_of_ble_eq_true rfl) dX0_mean_2 (fun x_2 p_2 => ?_)
  by_cases ok_ : okS w z
  · obtain ⟨i, j, hi, hj, rfl, rfl⟩ := okS_nat ok_
    rw [p_2.1 ok_]
    refine g_if_eq hx hb 11 dX0_mean_5 (by decide) (fun c_5 => ?_) (fun c_5 => ?_)
    · refine g_aload_n hx hb dX0_mean_11 rfl rfl ?_
      refine g_callv C hA (n := 0) (rest := []) (mX_remember (kl κ) D d h a F) (lw_V q67 q69 qs0 q16 q70) (by decide +kernel) rfl ⟨rfl, rfl⟩ ⟨by rw [eR]; decide, by rw [eR]; decide⟩ rfl (Nat.le_of_ble_eq_true rfl) dX0_mean_12 (fun u_12 p_12 => ?_)
      refine g_aload_n hx hb dX0_mean_15 rfl rfl ?_
      refine g_callv C hA (n := 0) (rest := []) (mX_fillSums (kl κ) D d h a u_12 (by rw [p_12.1 5 (by decide)]; exact hbd)) (lw_V q103 q105 qs5 q16 q106) (by decide +kernel) rfl ⟨rfl, rfl⟩ ⟨by rw [eR]; decide, by rw [eR]; decide⟩ rfl (Nat.le_of_ble_eq_true rfl) dX0_mean_16 (fun u_16 p_16 => ?_)
      have q0 : u_12 0 = F 0 := p_12.1 0 (by decide)
      have hfs : fs_I (F 0) (u_16 5) 16 := q0 ▸ p_16.2
      have loop : ∀ (n k : Nat) (G : bx_F), k + n = 256 → (∀ q, q ≠ 0 → G q = u_16 q) → (∀ q, q < k → G 0 q = me_ (F 0) i j q) → bx_G κ (bx_Qi κ D 0 nsX h a d F (po_f R_mean F (nI i) (nI j))) 4 0 0 (bx_S D 0 nsX h a d (bx_A 0 nsX h a d F (ks κ).heap.size) (ks κ).heap G) 21 [.ref h, .int (nI i), .int (nI j), .int (nI k)] [] := by
        intro n
        induction n with
        | zero =>
          intro k G hn h1 h2
          refine g_iload_n hx hb dX0_mean_21 rfl rfl ?_
          refine g_sipush hx hb (nI 256) dX0_mean_22 (by decide) ?_
          refine n_icmp_ge hx hb 54 dX0_mean_25 (by decide) (by omega) (by omega) (fun c_25 => ?_) (fun c_25 => ?_)
          · refine g_aload_n hx hb dX0_mean_54 rfl rfl ?_
            refine g_calli C hA (n := 0) (rest := []) (mX_changed (kl κ) D d h a G) (lw_V q83 q85 qs4 q16 q86) (by decide +kernel) rfl ⟨rfl, rfl⟩ ⟨by rw [eR]; decide, by rw [eR]; decide⟩ rfl (Nat.le_of_ble_eq_true rfl) dX0_mean_55 (fun x_55 u_55 p_55 => ?_)
            obtain ⟨e_, q_⟩ := p_55
            rw [e_]
            refine g_iret C hr hlk ?_ dX0_mean_58
            refine ⟨fun q => absurd ok_ q, fun i2 j2 b1 b2 b3 b4 => ?_⟩
            obtain rfl : i = i2 := nI_inj b3 (by omega) (by omega)
            obtain rfl : j = j2 := nI_inj b4 (by omega) (by omega)
            refine ⟨fun q hq => h2 q (by omega), (h1 1 (by decide)).trans ((p_16.1 1 (by decide)).trans (p_12.1 1 (by decide))), fun _ => ?_, ?_⟩
            · rw [h1 5 (by decide)]
              exact ⟨fun c hc => (by have := hfs.1 0 c (Nat.zero_le _) hc; rw [S2_r0, Nat.zero_mul, Nat.zero_add] at this; exact this), hfs.2⟩
            · rw [q_]
              congr 1
              refine cn_congr fun q hq => ?_
              rw [h1 2 (by decide), p_16.1 2 (by decide), p_12.2 q hq]
          · omega
        | succ n ih =>
          intro k G hn h1 h2
          refine g_iload_n hx hb dX0_mean_21 rfl rfl ?_
          refine g_sipush hx hb (nI 256) dX0_mean_22 (by decide) ?_
          refine n_icmp_ge hx hb 54 dX0_mean_25 (by decide) (by omega) (by omega) (fun c_25 => ?_) (fun c_25 => ?_)
          · omega
          · refine g_aload_n hx hb dX0_mean_28 rfl rfl ?_
            refine g_get C 0 (by decide) q26 rfl dX0_mean_29 ?_
            refine g_iload_n hx hb dX0_mean_32 rfl rfl ?_
            refine g_aload_n hx hb dX0_mean_33 rfl rfl ?_
            refine g_iload_n hx hb dX0_mean_34 rfl rfl ?_
            refine g_bipush hx hb (nI 16) dX0_mean_35 (by decide) ?_
            refine n_idiv hx hb dX0_mean_37 (by omega) (by omega) (by omega) ?_
            refine g_iload_n hx hb dX0_mean_38 rfl rfl ?_
            refine g_bipush hx hb (nI 16) dX0_mean_39 (by decide) ?_
            refine n_irem hx hb dX0_mean_41 (by omega) (by omega) (by omega) ?_
            refine g_iload_n hx hb dX0_mean_42 rfl rfl ?_
            refine g_iload_n hx hb dX0_mean_43 rfl rfl ?_
            refine g_calli C hA (n := 4) (rest := [.int (nI k), .ref (a 0)]) (mX_meanAt (kl κ) D d h a G (F 0) k i j (by omega) hi hj (by rw [h1 5 (by decide)]; exact hfs)) (lw_V q107 q109 qs6 q16 q110) (by decide +kernel) rfl ⟨rfl, rfl⟩ ⟨by rw [eR]; decide, by rw [eR]; decide⟩ rfl (Nat.le_of_ble_eq_true rfl) dX0_mean_44 (fun x_44 u_44 p_44 => ?_)
            obtain ⟨e_, q_⟩ := p_44
            rw [e_]
            refine g_st C 0 256 rfl (by omega) (by decide) dX0_mean_47 ?_
            refine n_iinc (vs' := [.ref h, .int (nI i), .int (nI j), .int (nI (k + 1))]) hx hb dX0_mean_48 rfl (by decide) rfl ?_
            refine g_goto hx hb 21 dX0_mean_51 (by decide) ?_
            exact ih (k + 1) _ (by omega) (fun q hq => (va_up_ne _ _ hq).trans (h1 q hq)) (fun q hq => by
              rw [va_up_self]
              by_cases e : q = k
              · rw [e, pk_us]; exact q_
              · rw [pk_un e]; exact h2 q (by omega))
      refine g_iconst hx hb (nI 0) dX0_mean_19 (by decide) ?_
      refine g_istore_n (vs' := [.ref h, .int (nI i), .int (nI j), .int (nI 0)]) hx hb dX0_mean_20 rfl (by decide) rfl ?_
      exact loop 256 0 u_16 rfl (fun _ _ => rfl) (fun q hq => absurd hq (Nat.not_lt_zero _))
    · exact absurd rfl c_5
  · rw [p_2.2 ok_]
    refine g_if_eq hx hb 11 dX0_mean_5 (by decide) (fun c_5 => ?_) (fun c_5 => ?_)
    · exact absurd c_5 (by decide)
    · refine g_bipush hx hb ((-3)) dX0_mean_8 (by decide) ?_
      exact g_iret C hr hlk (⟨fun _ => ⟨rfl, rfl⟩, fun i j b1 b2 b3 b4 => absurd (by rw [b3, b4]; exact okS_of b1 b2) ok_⟩) dX0_mean_10
end
section
set_option maxRecDepth 100000
set_option maxHeartbeats 4000000 in
theorem mM_look (l : Launch) (D : va_G) (d : ClassId) (h : Nat) (a : Nat → Nat) (F : bx_F) (t : Int32) (i w z : Nat) (hi : i < 256) (hw : w ≤ 7) (hz : z ≤ 7) : bx_Mi l yX1_look cX1_look 12 .int rmb1 D 1 nsM h a d F [.int t, .int (nI i), .int (nI w), .int (nI z)] (po_look F t i w z) := by
  refine g_meti (Cn := RX1) (T := TX1) (by decide) rfl in_X1 rfl (cat_ints [t, nI i, nI w, nI z]) 7 rfl ?_
  intro κ el eR C hr hlk
  have hx := C.1
  have hb := C.2.1
  have hA : ∀ q, (ks κ).heap.size ≤ q → bx_A 1 nsM h a d F (ks κ).heap.size q := fun q hq => Or.inr hq
  refine g_vs (vs' := [.ref h, .int t, .int (nI i), .int (nI w), .int (nI z), .null, .null, .null, .null, .null, .null, .null]) rfl ?_
  have outer : ∀ (n a_ : Nat) (m e : Int32), a_ + n = 2 * z + 1 → Best true (lk_P w z i a_ 0) (F 0) m → Best false (lk_P w z i a_ 0) (F 0) e → bx_G κ (bx_Qi κ D 1 nsM h a d F (po_look F t i w z)) 12 0 0 (bx_S D 1 nsM h a d (bx_A 1 nsM h a d F (ks κ).heap.size) (ks κ).heap F) 31 [.ref h, .int t, .int (nI i), .int (nI w), .int (nI z), .int m, .int e, .int (lk_s (F 0) w z i a_ 0), .int (nI (lk_n w z i a_ 0)), .int (nI (i / 16 + a_) - nI z), .null, .null] [] := by
    intro n
    induction n with
    | zero =>
      intro a_ m e hn hm he
      have hnl := @lk_nle w z i a_ 0 hi
      refine g_iload hx hb dX1_look_31 rfl ?_
      refine g_iload_n hx hb dX1_look_33 rfl rfl ?_
      refine g_bipush hx hb (nI 16) dX1_look_34 (by decide) ?_
      refine n_idiv hx hb dX1_look_36 (by omega) (by omega) (by omega) ?_
      refine g_iload hx hb dX1_look_37 rfl ?_
      refine n_iadd hx hb dX1_look_39 ?_
      refine g_icmp_gt hx hb 132 dX1_look_40 (by decide) (fun c_40 => ?_) (fun c_40 => ?_)
      · have ea : a_ = 2 * z + 1 := by omega
        subst ea
        have bm := hm.congr (lk_PE hi) (fun _ _ => rfl)
        have be := he.congr (lk_PE hi) (fun _ _ => rfl)
        have hnp := @mn_pos w z i hi
        have hnE := lk_nE w z i
        refine g_iload_n hx hb dX1_look_132 rfl rfl ?_
        refine g_if_ne hx hb 141 dX1_look_133 (by decide) (fun c_133 => ?_) (fun c_133 => ?_)
        · refine g_iload_n hx hb dX1_look_141 rfl rfl ?_
          refine g_iconst hx hb (nI 1) dX1_look_142 (by decide) ?_
          refine g_icmp_ne hx hb 151 dX1_look_143 (by decide) (fun c_143 => ?_) (fun c_143 => ?_)
          · refine g_iload hx hb dX1_look_151 rfl ?_
            refine g_iload hx hb dX1_look_153 rfl ?_
            refine g_idiv hx hb dX1_look_155 (nI_ne0 (by omega) (by omega)) ?_
            exact g_iret C hr hlk (⟨rfl, fun q => absurd (q.trans nI_0) c_133, fun q => absurd q c_143, fun _ => by unfold me_; rw [lk_sE, lk_nE]⟩) dX1_look_156
          · refine g_iload hx hb dX1_look_146 rfl ?_
            refine g_goto hx hb 156 dX1_look_148 (by decide) ?_
            exact g_iret C hr hlk (⟨rfl, fun q => absurd (q.trans nI_0) c_133, fun _ => be, fun q => absurd (c_143.symm.trans q) (by decide)⟩) dX1_look_156
        · refine g_iload hx hb dX1_look_136 rfl ?_
          refine g_goto hx hb 156 dX1_look_138 (by decide) ?_
          exact g_iret C hr hlk (⟨rfl, fun _ => bm, fun q => absurd (q.symm.trans c_133) (by decide), fun q => absurd (q.symm.trans c_133) (by decide)⟩) dX1_look_156
      · exact absurd ((sx_lt (by omega) (by omega) (by omega)).mpr (by omega)) c_40
    | succ n ih =>
      intro a_ m e hn hm he
      refine g_iload hx hb dX1_look_31 rfl ?_
      refine g_iload_n hx hb dX1_look_33 rfl rfl ?_
      refine g_bipush hx hb (nI 16) dX1_look_34 (by decide) ?_
      refine n_idiv hx hb dX1_look_36 (by omega) (by omega) (by omega) ?_
      refine g_iload hx hb dX1_look_37 rfl ?_
      refine n_iadd hx hb dX1_look_39 ?_
      refine g_icmp_gt hx hb 132 dX1_look_40 (by decide) (fun c_40 => ?_) (fun c_40 => ?_)
      · have := (sx_lt (by omega) (by omega) (by omega)).mp c_40
        omega
      · have inner : ∀ (n2 b : Nat) (m e : Int32), b + n2 = 2 * w + 1 → Best true (lk_P w z i a_ b) (F 0) m → Best false (lk_P w z i a_ b) (F 0) e → bx_G κ (bx_Qi κ D 1 nsM h a d F (po_look F t i w z)) 12 0 0 (bx_S D 1 nsM h a d (bx_A 1 nsM h a d F (ks κ).heap.size) (ks κ).heap F) 51 [.ref h, .int t, .int (nI i), .int (nI w), .int (nI z), .int m, .int e, .int (lk_s (F 0) w z i a_ b), .int (nI (lk_n w z i a_ b)), .int (nI (i / 16 + a_) - nI z), .int (nI (i % 16 + b) - nI w), .null] [] := by
          intro n2
          induction n2 with
          | zero =>
            intro b m e hb2 hm he
            refine g_iload hx hb dX1_look_51 rfl ?_
            refine g_iload_n hx hb dX1_look_53 rfl rfl ?_
            refine g_bipush hx hb (nI 16) dX1_look_54 (by decide) ?_
            refine n_irem hx hb dX1_look_56 (by omega) (by omega) (by omega) ?_
            refine g_iload_n hx hb dX1_look_57 rfl rfl ?_
            refine n_iadd hx hb dX1_look_58 ?_
            refine g_icmp_gt hx hb 126 dX1_look_59 (by decide) (fun c_59 => ?_) (fun c_59 => ?_)
            · refine g_iinc (vs' := [.ref h, .int t, .int (nI i), .int (nI w), .int (nI z), .int m, .int e, .int (lk_s (F 0) w z i a_ b), .int (nI (lk_n w z i a_ b)), .int (nI (i / 16 + (a_ + 1)) - nI z), .int (nI (i % 16 + b) - nI w), .null]) hx hb dX1_look_126 rfl (sx_inc (i / 16 + a_) z) (by decide) rfl ?_
              refine g_goto hx hb 31 dX1_look_129 (by decide) ?_
              refine g_less (vs' := [.ref h, .int t, .int (nI i), .int (nI w), .int (nI z), .int m, .int e, .int (lk_s (F 0) w z i a_ b), .int (nI (lk_n w z i a_ b)), .int (nI (i / 16 + (a_ + 1)) - nI z), .null, .null]) (fun q v hv => by rcases q with _ | _ | _ | _ | _ | _ | _ | _ | _ | _ | _ | _ | q <;> simp at hv ⊢ <;> simp [hv]) ?_
              have eb : b = 2 * w + 1 := by omega
              subst eb
              rw [lk_sr, lk_nr _ _ _ _ hi]
              exact ih (a_ + 1) m e (by omega) (hm.congr (fun q => (lk_Pr _ _ _ _ q).symm) (fun _ _ => rfl)) (he.congr (fun q => (lk_Pr _ _ _ _ q).symm) (fun _ _ => rfl))
            · exact absurd ((sx_lt (by omega) (by omega) (by omega)).mpr (by omega)) c_59
          | succ n2 ih2 =>
            intro b m e hb2 hm he
            refine g_iload hx hb dX1_look_51 rfl ?_
            refine g_iload_n hx hb dX1_look_53 rfl rfl ?_
            refine g_bipush hx hb (nI 16) dX1_look_54 (by decide) ?_
            refine n_irem hx hb dX1_look_56 (by omega) (by omega) (by omega) ?_
            refine g_iload_n hx hb dX1_look_57 rfl rfl ?_
            refine n_iadd hx hb dX1_look_58 ?_
            refine g_icmp_gt hx hb 126 dX1_look_59 (by decide) (fun c_59 => ?_) (fun c_59 => ?_)
            · have := (sx_lt (by omega) (by omega) (by omega)).mp c_59
              omega
            · refine g_aload_n hx hb dX1_look_62 rfl rfl ?_
              refine g_iload hx hb dX1_look_63 rfl ?_
              refine g_iload hx hb dX1_look_65 rfl ?_
              refine g_calli C hA (n := 2) (rest := []) (mM_isPixel (kl κ) D d h a F (nI (i / 16 + a_) - nI z) (nI (i % 16 + b) - nI w)) (lw_V q180 q182 qs9 q17 q183) (by decide +kernel) rfl ⟨rfl, rfl⟩ ⟨by rw [eR]; decide, by rw [eR]; decide⟩ rfl (Nat.le_of_ble_eq_true rfl) dX1_look_67 (fun x_67 u_67 p_67 => ?_)
              obtain ⟨e_, p1, p2⟩ := p_67
              rw [e_]
              rw [okP_lk hi hw hz (by omega) (by omega)] at p1 p2
              refine g_if_eq hx hb 120 dX1_look_70 (by decide) (fun c_70 => ?_) (fun c_70 => ?_)
              · have ok : ¬ lk_ok w z i a_ b := fun q => absurd ((p1 q).symm.trans c_70) (by decide)
                refine g_iinc (vs' := [.ref h, .int t, .int (nI i), .int (nI w), .int (nI z), .int m, .int e, .int (lk_s (F 0) w z i a_ b), .int (nI (lk_n w z i a_ b)), .int (nI (i / 16 + a_) - nI z), .int (nI (i % 16 + (b + 1)) - nI w), .null]) hx hb dX1_look_120 rfl (sx_inc (i % 16 + b) w) (by decide) rfl ?_
                refine g_goto hx hb 51 dX1_look_123 (by decide) ?_
                rw [← lk_sm (f := F 0) ok, ← lk_nm ok]
                exact ih2 (b + 1) m e (by omega) (hm.congr (fun q => (lk_Pm ok q).symm) (fun _ _ => rfl)) (he.congr (fun q => (lk_Pm ok q).symm) (fun _ _ => rfl))
              · have ok : lk_ok w z i a_ b := Classical.byContradiction (fun q => c_70 (p2 q))
                have hq := lk_qlt ok
                have hqe : (i / 16 + a_ - z) * 16 + (i % 16 + b - w) = lk_q w z i a_ b := rfl
                have k110 : ∀ m e : Int32, Best true (lk_P w z i a_ (b + 1)) (F 0) m → Best false (lk_P w z i a_ (b + 1)) (F 0) e → bx_G κ (bx_Qi κ D 1 nsM h a d F (po_look F t i w z)) 12 0 0 (bx_S D 1 nsM h a d (bx_A 1 nsM h a d F (ks κ).heap.size) (ks κ).heap F) 110 [.ref h, .int t, .int (nI i), .int (nI w), .int (nI z), .int m, .int e, .int (lk_s (F 0) w z i a_ b), .int (nI (lk_n w z i a_ b)), .int (nI (i / 16 + a_) - nI z), .int (nI (i % 16 + b) - nI w), .int (F 0 (lk_q w z i a_ b))] [] := by
                  intro m e hm he
                  refine g_iload hx hb dX1_look_110 rfl ?_
                  refine g_iload hx hb dX1_look_112 rfl ?_
                  refine g_iadd hx hb dX1_look_114 ?_
                  refine g_top (y := lk_s (F 0) w z i a_ (b + 1)) (lk_sh ok) ?_
                  refine g_istore (vs' := [.ref h, .int t, .int (nI i), .int (nI w), .int (nI z), .int m, .int e, .int (lk_s (F 0) w z i a_ (b + 1)), .int (nI (lk_n w z i a_ b)), .int (nI (i / 16 + a_) - nI z), .int (nI (i % 16 + b) - nI w), .int (F 0 (lk_q w z i a_ b))]) hx hb dX1_look_115 (by decide) rfl ?_
                  refine n_iinc (vs' := [.ref h, .int t, .int (nI i), .int (nI w), .int (nI z), .int m, .int e, .int (lk_s (F 0) w z i a_ (b + 1)), .int (nI (lk_n w z i a_ b + 1)), .int (nI (i / 16 + a_) - nI z), .int (nI (i % 16 + b) - nI w), .int (F 0 (lk_q w z i a_ b))]) hx hb dX1_look_117 rfl (by decide) rfl ?_
                  refine g_iinc (vs' := [.ref h, .int t, .int (nI i), .int (nI w), .int (nI z), .int m, .int e, .int (lk_s (F 0) w z i a_ (b + 1)), .int (nI (lk_n w z i a_ b + 1)), .int (nI (i / 16 + a_) - nI z), .int (nI (i % 16 + (b + 1)) - nI w), .int (F 0 (lk_q w z i a_ b))]) hx hb dX1_look_120 rfl (sx_inc (i % 16 + b) w) (by decide) rfl ?_
                  refine g_goto hx hb 51 dX1_look_123 (by decide) ?_
                  refine g_less (vs' := [.ref h, .int t, .int (nI i), .int (nI w), .int (nI z), .int m, .int e, .int (lk_s (F 0) w z i a_ (b + 1)), .int (nI (lk_n w z i a_ b + 1)), .int (nI (i / 16 + a_) - nI z), .int (nI (i % 16 + (b + 1)) - nI w), .null]) (fun q v hv => by rcases q with _ | _ | _ | _ | _ | _ | _ | _ | _ | _ | _ | _ | q <;> simp at hv ⊢ <;> simp [hv]) ?_
                  rw [lk_nh ok]
                  exact ih2 (b + 1) m e (by omega) hm he
                have k99 : ∀ m : Int32, Best true (lk_P w z i a_ (b + 1)) (F 0) m → bx_G κ (bx_Qi κ D 1 nsM h a d F (po_look F t i w z)) 12 0 0 (bx_S D 1 nsM h a d (bx_A 1 nsM h a d F (ks κ).heap.size) (ks κ).heap F) 99 [.ref h, .int t, .int (nI i), .int (nI w), .int (nI z), .int m, .int e, .int (lk_s (F 0) w z i a_ b), .int (nI (lk_n w z i a_ b)), .int (nI (i / 16 + a_) - nI z), .int (nI (i % 16 + b) - nI w), .int (F 0 (lk_q w z i a_ b))] [] := by
                  intro m hm
                  refine g_iload hx hb dX1_look_99 rfl ?_
                  refine g_iload hx hb dX1_look_101 rfl ?_
                  refine g_icmp_ge hx hb 110 dX1_look_103 (by decide) (fun c_103 => ?_) (fun c_103 => ?_)
                  · exact k110 m e hm (best_keep he (lk_Ph ok) c_103)
                  · refine g_iload hx hb dX1_look_106 rfl ?_
                    refine g_istore (vs' := [.ref h, .int t, .int (nI i), .int (nI w), .int (nI z), .int m, .int (F 0 (lk_q w z i a_ b)), .int (lk_s (F 0) w z i a_ b), .int (nI (lk_n w z i a_ b)), .int (nI (i / 16 + a_) - nI z), .int (nI (i % 16 + b) - nI w), .int (F 0 (lk_q w z i a_ b))]) hx hb dX1_look_108 (by decide) rfl ?_
                    exact k110 m _ hm (best_new he (lk_Ph ok) c_103)
                refine g_aload_n hx hb dX1_look_73 rfl rfl ?_
                refine g_get C 0 (by decide) q160 rfl dX1_look_74 ?_
                refine g_iload hx hb dX1_look_77 rfl ?_
                refine g_top (y := nI (i / 16 + a_ - z)) (pk_sub ok.1) ?_
                refine g_bipush hx hb (nI 16) dX1_look_79 (by decide) ?_
                refine n_imul hx hb dX1_look_81 ?_
                refine g_iload hx hb dX1_look_82 rfl ?_
                refine g_top (y := nI (i % 16 + b - w)) (pk_sub ok.2.2.1) ?_
                refine n_iadd hx hb dX1_look_84 ?_
                refine g_ld C 0 256 rfl (by omega) (by decide) dX1_look_85 ?_
                refine g_top (y := F 0 (lk_q w z i a_ b)) (rfl) ?_
                refine g_istore (vs' := [.ref h, .int t, .int (nI i), .int (nI w), .int (nI z), .int m, .int e, .int (lk_s (F 0) w z i a_ b), .int (nI (lk_n w z i a_ b)), .int (nI (i / 16 + a_) - nI z), .int (nI (i % 16 + b) - nI w), .int (F 0 (lk_q w z i a_ b))]) hx hb dX1_look_86 (by decide) rfl ?_
                refine g_iload hx hb dX1_look_88 rfl ?_
                refine g_iload hx hb dX1_look_90 rfl ?_
                refine g_icmp_le hx hb 99 dX1_look_92 (by decide) (fun c_92 => ?_) (fun c_92 => ?_)
                · exact k99 m (best_keep hm (lk_Ph ok) c_92)
                · refine g_iload hx hb dX1_look_95 rfl ?_
                  refine g_istore (vs' := [.ref h, .int t, .int (nI i), .int (nI w), .int (nI z), .int (F 0 (lk_q w z i a_ b)), .int e, .int (lk_s (F 0) w z i a_ b), .int (nI (lk_n w z i a_ b)), .int (nI (i / 16 + a_) - nI z), .int (nI (i % 16 + b) - nI w), .int (F 0 (lk_q w z i a_ b))]) hx hb dX1_look_97 (by decide) rfl ?_
                  exact k99 _ (best_new hm (lk_Ph ok) c_92)
        refine g_iload_n hx hb dX1_look_43 rfl rfl ?_
        refine g_bipush hx hb (nI 16) dX1_look_44 (by decide) ?_
        refine n_irem hx hb dX1_look_46 (by omega) (by omega) (by omega) ?_
        refine g_iload_n hx hb dX1_look_47 rfl rfl ?_
        refine g_isub hx hb dX1_look_48 ?_
        refine g_istore (vs' := [.ref h, .int t, .int (nI i), .int (nI w), .int (nI z), .int m, .int e, .int (lk_s (F 0) w z i a_ 0), .int (nI (lk_n w z i a_ 0)), .int (nI (i / 16 + a_) - nI z), .int ((nI (i % 16)) - (nI w)), .null]) hx hb dX1_look_49 (by decide) rfl ?_
        exact inner (2 * w + 1) 0 m e (by omega) hm he
  refine g_aload_n hx hb dX1_look_0 rfl rfl ?_
  refine g_get C 0 (by decide) q160 rfl dX1_look_1 ?_
  refine g_iload_n hx hb dX1_look_4 rfl rfl ?_
  refine g_ld C 0 256 rfl (by omega) (by decide) dX1_look_5 ?_
  refine g_istore (vs' := [.ref h, .int t, .int (nI i), .int (nI w), .int (nI z), .int (F 0 i), .null, .null, .null, .null, .null, .null]) hx hb dX1_look_6 (by decide) rfl ?_
  refine g_aload_n hx hb dX1_look_8 rfl rfl ?_
  refine g_get C 0 (by decide) q160 rfl dX1_look_9 ?_
  refine g_iload_n hx hb dX1_look_12 rfl rfl ?_
  refine g_ld C 0 256 rfl (by omega) (by decide) dX1_look_13 ?_
  refine g_istore (vs' := [.ref h, .int t, .int (nI i), .int (nI w), .int (nI z), .int (F 0 i), .int (F 0 i), .null, .null, .null, .null, .null]) hx hb dX1_look_14 (by decide) rfl ?_
  refine g_iconst hx hb (nI 0) dX1_look_16 (by decide) ?_
  refine g_istore (vs' := [.ref h, .int t, .int (nI i), .int (nI w), .int (nI z), .int (F 0 i), .int (F 0 i), .int (nI 0), .null, .null, .null, .null]) hx hb dX1_look_17 (by decide) rfl ?_
  refine g_iconst hx hb (nI 0) dX1_look_19 (by decide) ?_
  refine g_istore (vs' := [.ref h, .int t, .int (nI i), .int (nI w), .int (nI z), .int (F 0 i), .int (F 0 i), .int (nI 0), .int (nI 0), .null, .null, .null]) hx hb dX1_look_20 (by decide) rfl ?_
  refine g_iload_n hx hb dX1_look_22 rfl rfl ?_
  refine g_bipush hx hb (nI 16) dX1_look_23 (by decide) ?_
  refine n_idiv hx hb dX1_look_25 (by omega) (by omega) (by omega) ?_
  refine g_iload hx hb dX1_look_26 rfl ?_
  refine g_isub hx hb dX1_look_28 ?_
  refine g_istore (vs' := [.ref h, .int t, .int (nI i), .int (nI w), .int (nI z), .int (F 0 i), .int (F 0 i), .int (nI 0), .int (nI 0), .int ((nI (i / 16)) - (nI z)), .null, .null]) hx hb dX1_look_29 (by decide) rfl ?_
  have h0 := outer (2 * z + 1) 0 (F 0 i) (F 0 i) (by omega) (best_one true (lk_P0 w z i) _) (best_one false (lk_P0 w z i) _)
  rw [lk_s0 _ _ _ hi, lk_n0 _ _ hi] at h0
  exact h0

set_option maxHeartbeats 4000000 in
theorem mM_carryOut (l : Launch) (D : va_G) (d : ClassId) (h : Nat) (a : Nat → Nat) (F : bx_F) (t : Int32) (w z : Nat) (hw : w ≤ 7) (hz : z ≤ 7) : bx_Mv l yX1_carryOut cX1_carryOut 5 rmb2 D 1 nsM h a d F [.int t, .int (nI w), .int (nI z)] (po_carry F t w z) := by
  refine g_metv (Cn := RX1) (T := TX1) (by decide) rfl in_X1 rfl (cat_ints [t, nI w, nI z]) 1 rfl ?_
  intro κ el eR C hr hlk
  have hx := C.1
  have hb := C.2.1
  have hA : ∀ q, (ks κ).heap.size ≤ q → bx_A 1 nsM h a d F (ks κ).heap.size q := fun q hq => Or.inr hq
  refine g_vs (vs' := [.ref h, .int t, .int (nI w), .int (nI z), .null]) rfl ?_
  have back : ∀ (G1 : bx_F), (∀ k, k ≠ 2 → G1 k = F k) → (∀ j, j < 256 → (t = nI 0 → Best true (w2_ w z j) (F 0) (G1 2 j)) ∧ (t = nI 1 → Best false (w2_ w z j) (F 0) (G1 2 j)) ∧ (t = nI 2 → G1 2 j = me_ (F 0) w z j)) → bx_G κ (bx_Qv κ D 1 nsM h a d F (po_carry F t w z)) 5 0 0 (bx_S D 1 nsM h a d (bx_A 1 nsM h a d F (ks κ).heap.size) (ks κ).heap G1) 36 [.ref h, .int t, .int (nI w), .int (nI z), .int (nI 0)] [] := by
    intro G1 hk1 hl
    have loop : ∀ (n i : Nat) (G : bx_F), i + n = 256 → (∀ k, k ≠ 0 → G k = G1 k) → (∀ j, j < i → G 0 j = G1 2 j) → bx_G κ (bx_Qv κ D 1 nsM h a d F (po_carry F t w z)) 5 0 0 (bx_S D 1 nsM h a d (bx_A 1 nsM h a d F (ks κ).heap.size) (ks κ).heap G) 36 [.ref h, .int t, .int (nI w), .int (nI z), .int (nI i)] [] := by
      intro n
      induction n with
      | zero =>
        intro i G hn h1 h2
        refine g_iload hx hb dX1_carryOut_36 rfl ?_
        refine g_sipush hx hb (nI 256) dX1_carryOut_38 (by decide) ?_
        refine n_icmp_ge hx hb 64 dX1_carryOut_41 (by decide) (by omega) (by omega) (fun c_41 => ?_) (fun c_41 => ?_)
        · exact g_vret C hr hlk (⟨fun k k0 k2 => (h1 k k0).trans (hk1 k k2), ⟨fun q j hj => (by rw [h2 j (by omega)]; exact (hl j hj).1 q), fun q j hj => (by rw [h2 j (by omega)]; exact (hl j hj).2.1 q), fun q j hj => (by rw [h2 j (by omega)]; exact (hl j hj).2.2 q)⟩⟩) dX1_carryOut_64
        · omega
      | succ n ih =>
        intro i G hn h1 h2
        refine g_iload hx hb dX1_carryOut_36 rfl ?_
        refine g_sipush hx hb (nI 256) dX1_carryOut_38 (by decide) ?_
        refine n_icmp_ge hx hb 64 dX1_carryOut_41 (by decide) (by omega) (by omega) (fun c_41 => ?_) (fun c_41 => ?_)
        · omega
        · refine g_aload_n hx hb dX1_carryOut_44 rfl rfl ?_
          refine g_get C 0 (by decide) q160 rfl dX1_carryOut_45 ?_
          refine g_iload hx hb dX1_carryOut_48 rfl ?_
          refine g_aload_n hx hb dX1_carryOut_50 rfl rfl ?_
          refine g_get C 2 (by decide) q162 rfl dX1_carryOut_51 ?_
          refine g_iload hx hb dX1_carryOut_54 rfl ?_
          refine g_ld C 2 256 rfl (by omega) (by decide) dX1_carryOut_56 ?_
          refine g_st C 0 256 rfl (by omega) (by decide) dX1_carryOut_57 ?_
          refine n_iinc (vs' := [.ref h, .int t, .int (nI w), .int (nI z), .int (nI (i + 1))]) hx hb dX1_carryOut_58 rfl (by decide) rfl ?_
          refine g_goto hx hb 36 dX1_carryOut_61 (by decide) ?_
          exact ih (i + 1) _ (by omega) (fun k hk => (va_up_ne _ _ hk).trans (h1 k hk)) (fun j hj => by
            rw [va_up_self]
            by_cases e : j = i
            · rw [e, pk_us, h1 2 (by decide)]
            · rw [pk_un e]; exact h2 j (by omega))
    exact loop 256 0 G1 rfl (fun _ _ => rfl) (fun j hj => absurd hj (Nat.not_lt_zero _))
  have fill : ∀ (n i : Nat) (G : bx_F), i + n = 256 → (∀ k, k ≠ 2 → G k = F k) → (∀ j, j < i → (t = nI 0 → Best true (w2_ w z j) (F 0) (G 2 j)) ∧ (t = nI 1 → Best false (w2_ w z j) (F 0) (G 2 j)) ∧ (t = nI 2 → G 2 j = me_ (F 0) w z j)) → bx_G κ (bx_Qv κ D 1 nsM h a d F (po_carry F t w z)) 5 0 0 (bx_S D 1 nsM h a d (bx_A 1 nsM h a d F (ks κ).heap.size) (ks κ).heap G) 3 [.ref h, .int t, .int (nI w), .int (nI z), .int (nI i)] [] := by
    intro n
    induction n with
    | zero =>
      intro i G hn h1 h2
      refine g_iload hx hb dX1_carryOut_3 rfl ?_
      refine g_sipush hx hb (nI 256) dX1_carryOut_5 (by decide) ?_
      refine n_icmp_ge hx hb 33 dX1_carryOut_8 (by decide) (by omega) (by omega) (fun c_8 => ?_) (fun c_8 => ?_)
      · refine g_iconst hx hb (nI 0) dX1_carryOut_33 (by decide) ?_
        refine g_istore (vs' := [.ref h, .int t, .int (nI w), .int (nI z), .int (nI 0)]) hx hb dX1_carryOut_34 (by decide) rfl ?_
        exact back G h1 (fun j hj => h2 j (by omega))
      · omega
    | succ n ih =>
      intro i G hn h1 h2
      refine g_iload hx hb dX1_carryOut_3 rfl ?_
      refine g_sipush hx hb (nI 256) dX1_carryOut_5 (by decide) ?_
      refine n_icmp_ge hx hb 33 dX1_carryOut_8 (by decide) (by omega) (by omega) (fun c_8 => ?_) (fun c_8 => ?_)
      · omega
      · refine g_aload_n hx hb dX1_carryOut_11 rfl rfl ?_
        refine g_get C 2 (by decide) q162 rfl dX1_carryOut_12 ?_
        refine g_iload hx hb dX1_carryOut_15 rfl ?_
        refine g_aload_n hx hb dX1_carryOut_17 rfl rfl ?_
        refine g_iload_n hx hb dX1_carryOut_18 rfl rfl ?_
        refine g_iload hx hb dX1_carryOut_19 rfl ?_
        refine g_iload_n hx hb dX1_carryOut_21 rfl rfl ?_
        refine g_iload_n hx hb dX1_carryOut_22 rfl rfl ?_
        refine g_calli C hA (n := 4) (rest := [.int (nI i), .ref (a 2)]) (mM_look (kl κ) D d h a G t i w z (by omega) hw hz) (lw_V q200 q202 qs12 q17 q203) (by decide +kernel) rfl ⟨rfl, rfl⟩ ⟨by rw [eR]; decide, by rw [eR]; decide⟩ rfl (Nat.le_of_ble_eq_true rfl) dX1_carryOut_23 (fun x_23 u_23 p_23 => ?_)
        obtain ⟨e_, q_⟩ := p_23
        rw [e_]
        rw [h1 0 (by decide)] at q_
        refine g_st C 2 256 rfl (by omega) (by decide) dX1_carryOut_26 ?_
        refine n_iinc (vs' := [.ref h, .int t, .int (nI w), .int (nI z), .int (nI (i + 1))]) hx hb dX1_carryOut_27 rfl (by decide) rfl ?_
        refine g_goto hx hb 3 dX1_carryOut_30 (by decide) ?_
        refine ih (i + 1) _ (by omega) (fun k hk => (va_up_ne _ _ hk).trans (h1 k hk)) (fun j hj => ?_)
        rw [va_up_self]
        by_cases e : j = i
        · rw [e, pk_us]; exact q_
        · rw [pk_un e]; exact h2 j (by omega)
  refine g_iconst hx hb (nI 0) dX1_carryOut_0 (by decide) ?_
  refine g_istore (vs' := [.ref h, .int t, .int (nI w), .int (nI z), .int (nI 0)]) hx hb dX1_carryOut_1 (by decide) rfl ?_
  exact fill 256 0 F rfl (fun _ _ => rfl) (fun j hj => absurd hj (Nat.not_lt_zero _))

set_option maxHeartbeats 4000000 in
theorem mM_filter (l : Launch) (D : va_G) (d : ClassId) (h : Nat) (a : Nat → Nat) (F : bx_F) (p q w z : Int32) : bx_Mi l yX1_filter cX1_filter 7 .int rmb3 D 1 nsM h a d F [.int p, .int q, .int w, .int z] (po_f (R_two p q) F w z) := by
  refine g_meti (Cn := RX1) (T := TX1) (by decide) rfl in_X1 rfl (cat_ints [p, q, w, z]) 2 rfl ?_
  intro κ el eR C hr hlk
  have hx := C.1
  have hb := C.2.1
  have hA : ∀ q, (ks κ).heap.size ≤ q → bx_A 1 nsM h a d F (ks κ).heap.size q := fun q hq => Or.inr hq
  refine g_vs (vs' := [.ref h, .int p, .int q, .int w, .int z, .null, .null]) rfl ?_
  refine g_iload_n hx hb dX1_filter_0 rfl rfl ?_
  refine g_if_lt hx hb 22 dX1_filter_1 (by decide) (fun c_1 => ?_) (fun c_1 => ?_)
  · refine g_bipush hx hb ((-3)) dX1_filter_22 (by decide) ?_
    exact g_iret C hr hlk (⟨fun _ => ⟨rfl, rfl⟩, fun i j b1 b2 b3 b4 => (by have y := okS_of b1 b2; rw [← b3, ← b4] at y; exact absurd c_1 y.1)⟩) dX1_filter_24
  · refine g_iload_n hx hb dX1_filter_4 rfl rfl ?_
    refine g_bipush hx hb (nI 7) dX1_filter_5 (by decide) ?_
    refine g_icmp_gt hx hb 22 dX1_filter_7 (by decide) (fun c_7 => ?_) (fun c_7 => ?_)
    · refine g_bipush hx hb ((-3)) dX1_filter_22 (by decide) ?_
      exact g_iret C hr hlk (⟨fun _ => ⟨rfl, rfl⟩, fun i j b1 b2 b3 b4 => (by have y := okS_of b1 b2; rw [← b3, ← b4] at y; exact absurd c_7 y.2.1)⟩) dX1_filter_24
    · refine g_iload hx hb dX1_filter_10 rfl ?_
      refine g_if_lt hx hb 22 dX1_filter_12 (by decide) (fun c_12 => ?_) (fun c_12 => ?_)
      · refine g_bipush hx hb ((-3)) dX1_filter_22 (by decide) ?_
        exact g_iret C hr hlk (⟨fun _ => ⟨rfl, rfl⟩, fun i j b1 b2 b3 b4 => (by have y := okS_of b1 b2; rw [← b3, ← b4] at y; exact absurd c_12 y.2.2.1)⟩) dX1_filter_24
      · refine g_iload hx hb dX1_filter_15 rfl ?_
        refine g_bipush hx hb (nI 7) dX1_filter_17 (by decide) ?_
        refine g_icmp_le hx hb 25 dX1_filter_19 (by decide) (fun c_19 => ?_) (fun c_19 => ?_)
        · have ok_ : okS w z := ⟨c_1, c_7, c_12, Int32.not_lt.mpr c_19⟩
          obtain ⟨i, j, hi, hj, rfl, rfl⟩ := okS_nat ok_
          have fin : ∀ (G : bx_F), R_two p q i j (F 0) (G 0) → G 1 = F 1 → G 5 = F 5 → (∀ k, k < 256 → G 3 k = F 0 k) → bx_G κ (bx_Qi κ D 1 nsM h a d F (po_f (R_two p q) F (nI i) (nI j))) 7 0 0 (bx_S D 1 nsM h a d (bx_A 1 nsM h a d F (ks κ).heap.size) (ks κ).heap G) 76 [.ref h, .int p, .int q, .int (nI i), .int (nI j), .null, .null] [] := by
            intro G hR h1 h5 h3
            have loop : ∀ (n k : Nat), k + n = 256 → bx_G κ (bx_Qi κ D 1 nsM h a d F (po_f (R_two p q) F (nI i) (nI j))) 7 0 0 (bx_S D 1 nsM h a d (bx_A 1 nsM h a d F (ks κ).heap.size) (ks κ).heap G) 82 [.ref h, .int p, .int q, .int (nI i), .int (nI j), .int (nI (cn_ (fun k => decide (¬ G 0 k = G 3 k)) k)), .int (nI k)] [] := by
              intro n
              induction n with
              | zero =>
                intro k hn
                refine g_iload hx hb dX1_filter_82 rfl ?_
                refine g_sipush hx hb (nI 256) dX1_filter_84 (by decide) ?_
                refine n_icmp_ge hx hb 116 dX1_filter_87 (by decide) (by omega) (by omega) (fun c_87 => ?_) (fun c_87 => ?_)
                · refine g_iload hx hb dX1_filter_116 rfl ?_
                  refine g_iret C hr hlk ?_ dX1_filter_118
                  refine ⟨fun y => absurd ok_ y, fun i2 j2 b1 b2 b3 b4 => ?_⟩
                  obtain rfl : i = i2 := nI_inj b3 (by omega) (by omega)
                  obtain rfl : j = j2 := nI_inj b4 (by omega) (by omega)
                  refine ⟨hR, h1, fun hb5 => h5.symm ▸ hb5, ?_⟩
                  rw [show k = 256 by omega]
                  congr 1
                  exact cn_congr fun q hq => by rw [h3 q hq]
                · omega
              | succ n ih =>
                intro k hn
                have hcl := cn_le (fun k => decide (¬ G 0 k = G 3 k)) k
                refine g_iload hx hb dX1_filter_82 rfl ?_
                refine g_sipush hx hb (nI 256) dX1_filter_84 (by decide) ?_
                refine n_icmp_ge hx hb 116 dX1_filter_87 (by decide) (by omega) (by omega) (fun c_87 => ?_) (fun c_87 => ?_)
                · omega
                · refine g_aload_n hx hb dX1_filter_90 rfl rfl ?_
                  refine g_get C 0 (by decide) q160 rfl dX1_filter_91 ?_
                  refine g_iload hx hb dX1_filter_94 rfl ?_
                  refine g_ld C 0 256 rfl (by omega) (by decide) dX1_filter_96 ?_
                  refine g_aload_n hx hb dX1_filter_97 rfl rfl ?_
                  refine g_get C 3 (by decide) q163 rfl dX1_filter_98 ?_
                  refine g_iload hx hb dX1_filter_101 rfl ?_
                  refine g_ld C 3 256 rfl (by omega) (by decide) dX1_filter_103 ?_
                  refine g_icmp_eq hx hb 110 dX1_filter_104 (by decide) (fun c_104 => ?_) (fun c_104 => ?_)
                  · refine n_iinc (vs' := [.ref h, .int p, .int q, .int (nI i), .int (nI j), .int (nI (cn_ (fun k => decide (¬ G 0 k = G 3 k)) k)), .int (nI (k + 1))]) hx hb dX1_filter_110 rfl (by decide) rfl ?_
                    refine g_goto hx hb 82 dX1_filter_113 (by decide) ?_
                    have e_ := @cn_f (fun k => decide (¬ G 0 k = G 3 k)) k (by simp [c_104])
                    rw [← e_]
                    exact ih (k + 1) (by omega)
                  · refine n_iinc (vs' := [.ref h, .int p, .int q, .int (nI i), .int (nI j), .int (nI (cn_ (fun k => decide (¬ G 0 k = G 3 k)) k + 1)), .int (nI k)]) hx hb dX1_filter_107 rfl (by decide) rfl ?_
                    refine n_iinc (vs' := [.ref h, .int p, .int q, .int (nI i), .int (nI j), .int (nI (cn_ (fun k => decide (¬ G 0 k = G 3 k)) k + 1)), .int (nI (k + 1))]) hx hb dX1_filter_110 rfl (by decide) rfl ?_
                    refine g_goto hx hb 82 dX1_filter_113 (by decide) ?_
                    have e_ := @cn_t (fun k => decide (¬ G 0 k = G 3 k)) k (by simp [c_104])
                    rw [← e_]
                    exact ih (k + 1) (by omega)
            refine g_iconst hx hb (nI 0) dX1_filter_76 (by decide) ?_
            refine g_istore (vs' := [.ref h, .int p, .int q, .int (nI i), .int (nI j), .int (nI 0), .null]) hx hb dX1_filter_77 (by decide) rfl ?_
            refine g_iconst hx hb (nI 0) dX1_filter_79 (by decide) ?_
            refine g_istore (vs' := [.ref h, .int p, .int q, .int (nI i), .int (nI j), .int (nI 0), .int (nI 0)]) hx hb dX1_filter_80 (by decide) rfl ?_
            exact loop 256 0 rfl
          have two : ∀ (G : bx_F), (∀ k, k ≠ 3 → G k = F k) → (∀ k, k < 256 → G 3 k = F 0 k) → bx_G κ (bx_Qi κ D 1 nsM h a d F (po_f (R_two p q) F (nI i) (nI j))) 7 0 0 (bx_S D 1 nsM h a d (bx_A 1 nsM h a d F (ks κ).heap.size) (ks κ).heap G) 56 [.ref h, .int p, .int q, .int (nI i), .int (nI j), .null, .null] [] := by
            intro G h1 h3
            refine g_aload_n hx hb dX1_filter_56 rfl rfl ?_
            refine g_iload_n hx hb dX1_filter_57 rfl rfl ?_
            refine g_iload_n hx hb dX1_filter_58 rfl rfl ?_
            refine g_iload hx hb dX1_filter_59 rfl ?_
            refine g_callv C hA (n := 3) (rest := []) (mM_carryOut (kl κ) D d h a G p i j hi hj) (lw_V q196 q198 qs11 q17 q199) (by decide +kernel) rfl ⟨rfl, rfl⟩ ⟨by rw [eR]; decide, by rw [eR]; decide⟩ rfl (Nat.le_of_ble_eq_true rfl) dX1_filter_61 (fun u_61 p_61 => ?_)
            have g0 : G 0 = F 0 := h1 0 (by decide)
            have hc1 : cr_ p i j (F 0) (u_61 0) := g0 ▸ p_61.2
            refine g_iload_n hx hb dX1_filter_64 rfl rfl ?_
            refine g_if_lt hx hb 76 dX1_filter_65 (by decide) (fun c_65 => ?_) (fun c_65 => ?_)
            · exact fin _ ⟨u_61 0, hc1, fun _ => rfl, fun y => absurd c_65 y⟩ ((p_61.1 1 (by decide) (by decide)).trans (h1 1 (by decide))) ((p_61.1 5 (by decide) (by decide)).trans (h1 5 (by decide))) (fun k hk => by rw [p_61.1 3 (by decide) (by decide)]; exact h3 k hk)
            · refine g_aload_n hx hb dX1_filter_68 rfl rfl ?_
              refine g_iload_n hx hb dX1_filter_69 rfl rfl ?_
              refine g_iload_n hx hb dX1_filter_70 rfl rfl ?_
              refine g_iload hx hb dX1_filter_71 rfl ?_
              refine g_callv C hA (n := 3) (rest := []) (mM_carryOut (kl κ) D d h a u_61 q i j hi hj) (lw_V q196 q198 qs11 q17 q199) (by decide +kernel) rfl ⟨rfl, rfl⟩ ⟨by rw [eR]; decide, by rw [eR]; decide⟩ rfl (Nat.le_of_ble_eq_true rfl) dX1_filter_73 (fun u_73 p_73 => ?_)
              exact fin _ ⟨u_61 0, hc1, fun y => absurd y c_65, fun _ => p_73.2⟩ ((p_73.1 1 (by decide) (by decide)).trans ((p_61.1 1 (by decide) (by decide)).trans (h1 1 (by decide)))) ((p_73.1 5 (by decide) (by decide)).trans ((p_61.1 5 (by decide) (by decide)).trans (h1 5 (by decide)))) (fun k hk => by rw [p_73.1 3 (by decide) (by decide), p_61.1 3 (by decide) (by decide)]; exact h3 k hk)
          have copy : ∀ (n k : Nat) (G : bx_F), k + n = 256 → (∀ y, y ≠ 3 → G y = F y) → (∀ y, y < k → G 3 y = F 0 y) → bx_G κ (bx_Qi κ D 1 nsM h a d F (po_f (R_two p q) F (nI i) (nI j))) 7 0 0 (bx_S D 1 nsM h a d (bx_A 1 nsM h a d F (ks κ).heap.size) (ks κ).heap G) 28 [.ref h, .int p, .int q, .int (nI i), .int (nI j), .int (nI k), .null] [] := by
            intro n
            induction n with
            | zero =>
              intro k G hn h1 h2
              refine g_iload hx hb dX1_filter_28 rfl ?_
              refine g_sipush hx hb (nI 256) dX1_filter_30 (by decide) ?_
              refine n_icmp_ge hx hb 56 dX1_filter_33 (by decide) (by omega) (by omega) (fun c_33 => ?_) (fun c_33 => ?_)
              · refine g_less (vs' := [.ref h, .int p, .int q, .int (nI i), .int (nI j), .null, .null]) (fun q v hv => by rcases q with _ | _ | _ | _ | _ | _ | _ | q <;> simp at hv ⊢ <;> simp [hv]) ?_
                exact two G h1 (fun k hk => h2 k (by omega))
              · omega
            | succ n ih =>
              intro k G hn h1 h2
              refine g_iload hx hb dX1_filter_28 rfl ?_
              refine g_sipush hx hb (nI 256) dX1_filter_30 (by decide) ?_
              refine n_icmp_ge hx hb 56 dX1_filter_33 (by decide) (by omega) (by omega) (fun c_33 => ?_) (fun c_33 => ?_)
              · omega
              · refine g_aload_n hx hb dX1_filter_36 rfl rfl ?_
                refine g_get C 3 (by decide) q163 rfl dX1_filter_37 ?_
                refine g_iload hx hb dX1_filter_40 rfl ?_
                refine g_aload_n hx hb dX1_filter_42 rfl rfl ?_
                refine g_get C 0 (by decide) q160 rfl dX1_filter_43 ?_
                refine g_iload hx hb dX1_filter_46 rfl ?_
                refine g_ld C 0 256 rfl (by omega) (by decide) dX1_filter_48 ?_
                refine g_st C 3 256 rfl (by omega) (by decide) dX1_filter_49 ?_
                refine n_iinc (vs' := [.ref h, .int p, .int q, .int (nI i), .int (nI j), .int (nI (k + 1)), .null]) hx hb dX1_filter_50 rfl (by decide) rfl ?_
                refine g_goto hx hb 28 dX1_filter_53 (by decide) ?_
                exact ih (k + 1) _ (by omega) (fun y hy => (va_up_ne _ _ hy).trans (h1 y hy)) (fun y hy => by
                  rw [va_up_self]
                  by_cases e : y = k
                  · rw [e, pk_us, h1 0 (by decide)]
                  · rw [pk_un e]; exact h2 y (by omega))
          refine g_iconst hx hb (nI 0) dX1_filter_25 (by decide) ?_
          refine g_istore (vs' := [.ref h, .int p, .int q, .int (nI i), .int (nI j), .int (nI 0), .null]) hx hb dX1_filter_26 (by decide) rfl ?_
          exact copy 256 0 F rfl (fun _ _ => rfl) (fun y hy => absurd hy (Nat.not_lt_zero _))
        · refine g_bipush hx hb ((-3)) dX1_filter_22 (by decide) ?_
          exact g_iret C hr hlk (⟨fun _ => ⟨rfl, rfl⟩, fun i j b1 b2 b3 b4 => (by have y := okS_of b1 b2; rw [← b3, ← b4] at y; exact absurd (Int32.not_le.mp c_19) y.2.2.2)⟩) dX1_filter_24

set_option maxHeartbeats 4000000 in
theorem mM_dilate (l : Launch) (D : va_G) (d : ClassId) (h : Nat) (a : Nat → Nat) (F : bx_F) (w z : Int32) : bx_Mi l yX1_dilate cX1_dilate 3 .int rmb4 D 1 nsM h a d F [.int w, .int z] (po_f R_dil F w z) := by
  refine g_meti (Cn := RX1) (T := TX1) (by decide) rfl in_X1 rfl (cat_ints [w, z]) 0 rfl ?_
  intro κ el eR C hr hlk
  have hx := C.1
  have hb := C.2.1
  have hA : ∀ q, (ks κ).heap.size ≤ q → bx_A 1 nsM h a d F (ks κ).heap.size q := fun q hq => Or.inr hq
  refine g_vs (vs' := [.ref h, .int w, .int z]) rfl ?_
  refine g_aload_n hx hb dX1_dilate_0 rfl rfl ?_
  refine g_iconst hx hb (nI 0) dX1_dilate_1 (by decide) ?_
  refine g_iconst hx hb ((-1)) dX1_dilate_2 (by decide) ?_
  refine g_iload_n hx hb dX1_dilate_3 rfl rfl ?_
  refine g_iload_n hx hb dX1_dilate_4 rfl rfl ?_
  refine g_calli C hA (n := 4) (rest := []) (mM_filter (kl κ) D d h a F (nI 0) ((-1)) w z) (lw_V q192 q194 qs10 q17 q195) (by decide +kernel) rfl ⟨rfl, rfl⟩ ⟨by rw [eR]; decide, by rw [eR]; decide⟩ rfl (Nat.le_of_ble_eq_true rfl) dX1_dilate_5 (fun x_5 u_5 p_5 => ?_)
  exact g_iret C hr hlk (po_f.imp p_5 (fun i j f v hv => (by obtain ⟨m, h1, h2, h3⟩ := hv; exact (by rw [h2 (by decide)]; exact h1.1 rfl : R_dil i j f v)))) dX1_dilate_8

set_option maxHeartbeats 4000000 in
theorem mM_erode (l : Launch) (D : va_G) (d : ClassId) (h : Nat) (a : Nat → Nat) (F : bx_F) (w z : Int32) : bx_Mi l yX1_erode cX1_erode 3 .int rmb4 D 1 nsM h a d F [.int w, .int z] (po_f R_ero F w z) := by
  refine g_meti (Cn := RX1) (T := TX1) (by decide) rfl in_X1 rfl (cat_ints [w, z]) 0 rfl ?_
  intro κ el eR C hr hlk
  have hx := C.1
  have hb := C.2.1
  have hA : ∀ q, (ks κ).heap.size ≤ q → bx_A 1 nsM h a d F (ks κ).heap.size q := fun q hq => Or.inr hq
  refine g_vs (vs' := [.ref h, .int w, .int z]) rfl ?_
  refine g_aload_n hx hb dX1_erode_0 rfl rfl ?_
  refine g_iconst hx hb (nI 1) dX1_erode_1 (by decide) ?_
  refine g_iconst hx hb ((-1)) dX1_erode_2 (by decide) ?_
  refine g_iload_n hx hb dX1_erode_3 rfl rfl ?_
  refine g_iload_n hx hb dX1_erode_4 rfl rfl ?_
  refine g_calli C hA (n := 4) (rest := []) (mM_filter (kl κ) D d h a F (nI 1) ((-1)) w z) (lw_V q192 q194 qs10 q17 q195) (by decide +kernel) rfl ⟨rfl, rfl⟩ ⟨by rw [eR]; decide, by rw [eR]; decide⟩ rfl (Nat.le_of_ble_eq_true rfl) dX1_erode_5 (fun x_5 u_5 p_5 => ?_)
  exact g_iret C hr hlk (po_f.imp p_5 (fun i j f v hv => (by obtain ⟨m, h1, h2, h3⟩ := hv; exact (by rw [h2 (by decide)]; exact h1.2.1 rfl : R_ero i j f v)))) dX1_erode_8

set_option maxHeartbeats 4000000 in
theorem mM_open (l : Launch) (D : va_G) (d : ClassId) (h : Nat) (a : Nat → Nat) (F : bx_F) (w z : Int32) : bx_Mi l yX1_open cX1_open 3 .int rmb4 D 1 nsM h a d F [.int w, .int z] (po_f R_opn F w z) := by
  refine g_meti (Cn := RX1) (T := TX1) (by decide) rfl in_X1 rfl (cat_ints [w, z]) 0 rfl ?_
  intro κ el eR C hr hlk
  have hx := C.1
  have hb := C.2.1
  have hA : ∀ q, (ks κ).heap.size ≤ q → bx_A 1 nsM h a d F (ks κ).heap.size q := fun q hq => Or.inr hq
  refine g_vs (vs' := [.ref h, .int w, .int z]) rfl ?_
  refine g_aload_n hx hb dX1_open_0 rfl rfl ?_
  refine g_iconst hx hb (nI 1) dX1_open_1 (by decide) ?_
  refine g_iconst hx hb (nI 0) dX1_open_2 (by decide) ?_
  refine g_iload_n hx hb dX1_open_3 rfl rfl ?_
  refine g_iload_n hx hb dX1_open_4 rfl rfl ?_
  refine g_calli C hA (n := 4) (rest := []) (mM_filter (kl κ) D d h a F (nI 1) (nI 0) w z) (lw_V q192 q194 qs10 q17 q195) (by decide +kernel) rfl ⟨rfl, rfl⟩ ⟨by rw [eR]; decide, by rw [eR]; decide⟩ rfl (Nat.le_of_ble_eq_true rfl) dX1_open_5 (fun x_5 u_5 p_5 => ?_)
  exact g_iret C hr hlk (po_f.imp p_5 (fun i j f v hv => (by obtain ⟨m, h1, h2, h3⟩ := hv; exact (⟨m, h1.2.1 rfl, (h3 (by decide)).1 rfl⟩ : R_opn i j f v)))) dX1_open_8

set_option maxHeartbeats 4000000 in
theorem mM_close (l : Launch) (D : va_G) (d : ClassId) (h : Nat) (a : Nat → Nat) (F : bx_F) (w z : Int32) : bx_Mi l yX1_close cX1_close 3 .int rmb4 D 1 nsM h a d F [.int w, .int z] (po_f R_clo F w z) := by
  refine g_meti (Cn := RX1) (T := TX1) (by decide) rfl in_X1 rfl (cat_ints [w, z]) 0 rfl ?_
  intro κ el eR C hr hlk
  have hx := C.1
  have hb := C.2.1
  have hA : ∀ q, (ks κ).heap.size ≤ q → bx_A 1 nsM h a d F (ks κ).heap.size q := fun q hq => Or.inr hq
  refine g_vs (vs' := [.ref h, .int w, .int z]) rfl ?_
  refine g_aload_n hx hb dX1_close_0 rfl rfl ?_
  refine g_iconst hx hb (nI 0) dX1_close_1 (by decide) ?_
  refine g_iconst hx hb (nI 1) dX1_close_2 (by decide) ?_
  refine g_iload_n hx hb dX1_close_3 rfl rfl ?_
  refine g_iload_n hx hb dX1_close_4 rfl rfl ?_
  refine g_calli C hA (n := 4) (rest := []) (mM_filter (kl κ) D d h a F (nI 0) (nI 1) w z) (lw_V q192 q194 qs10 q17 q195) (by decide +kernel) rfl ⟨rfl, rfl⟩ ⟨by rw [eR]; decide, by rw [eR]; decide⟩ rfl (Nat.le_of_ble_eq_true rfl) dX1_close_5 (fun x_5 u_5 p_5 => ?_)
  exact g_iret C hr hlk (po_f.imp p_5 (fun i j f v hv => (by obtain ⟨m, h1, h2, h3⟩ := hv; exact (⟨m, h1.1 rfl, (h3 (by decide)).2.1 rfl⟩ : R_clo i j f v)))) dX1_close_8

set_option maxHeartbeats 4000000 in
theorem mM_mean (l : Launch) (D : va_G) (d : ClassId) (h : Nat) (a : Nat → Nat) (F : bx_F) (w z : Int32) : bx_Mi l yX1_mean cX1_mean 3 .int rmb4 D 1 nsM h a d F [.int w, .int z] (po_f R_mean F w z) := by
  refine g_meti (Cn := RX1) (T := TX1) (by decide) rfl in_X1 rfl (cat_ints [w, z]) 0 rfl ?_
  intro κ el eR C hr hlk
  have hx := C.1
  have hb := C.2.1
  have hA : ∀ q, (ks κ).heap.size ≤ q → bx_A 1 nsM h a d F (ks κ).heap.size q := fun q hq => Or.inr hq
  refine g_vs (vs' := [.ref h, .int w, .int z]) rfl ?_
  refine g_aload_n hx hb dX1_mean_0 rfl rfl ?_
  refine g_iconst hx hb (nI 2) dX1_mean_1 (by decide) ?_
  refine g_iconst hx hb ((-1)) dX1_mean_2 (by decide) ?_
  refine g_iload_n hx hb dX1_mean_3 rfl rfl ?_
  refine g_iload_n hx hb dX1_mean_4 rfl rfl ?_
  refine g_calli C hA (n := 4) (rest := []) (mM_filter (kl κ) D d h a F (nI 2) ((-1)) w z) (lw_V q192 q194 qs10 q17 q195) (by decide +kernel) rfl ⟨rfl, rfl⟩ ⟨by rw [eR]; decide, by rw [eR]; decide⟩ rfl (Nat.le_of_ble_eq_true rfl) dX1_mean_5 (fun x_5 u_5 p_5 => ?_)
  exact g_iret C hr hlk (po_f.imp p_5 (fun i j f v hv => (by obtain ⟨m, h1, h2, h3⟩ := hv; exact (by rw [h2 (by decide)]; exact h1.2.2 rfl : R_mean i j f v)))) dX1_mean_8
end
section
/-! posts of the patches -/
def po_join (F : bx_F) (r : Nat → Nat) (i j : Nat) (x : Int32) (u : bx_F) : Prop := (r i = r j → x = nI 0 ∧ u = F) ∧ (r i ≠ r j → x = nI 1 ∧ u = va_up F 6 (upd (F 6) (max (r i) (r j)) (nI (min (r i) (r j)))))
def po_pat (K : Nat) (F : bx_F) (x : Int32) (u : bx_F) : Prop := (∀ k, k ≠ K → u k = F k) ∧ x = nI (np_ (F 0))
def po_take (F : bx_F) (i j : Nat) (x : Int32) (u : bx_F) : Prop := (x = nI 0 ∧ u = F ∧ (F 4 j < 0 ∨ F 4 i ≤ F 4 j)) ∨ (x = nI 1 ∧ ¬ F 4 j < 0 ∧ F 4 j < F 4 i ∧ u = va_up F 4 (upd (F 4) i (F 4 j)))
def po_spread (F : bx_F) (v : Nat → Int32) (i : Nat) (x : Int32) (u : bx_F) : Prop := (∀ k, k ≠ 4 → u k = F k) ∧ mk_I v (u 4) ∧ ((x = nI 0 ∧ u = F ∧ mk_S (F 4) i) ∨ (x = nI 1 ∧ ms_ (u 4) < ms_ (F 4)))
/-- within spread: the neighbours in S are looked at, b says whether something was taken over -/
def sp_ (F : bx_F) (v : Nat → Int32) (i : Nat) (S : Nat → Prop) (b : Int32) (G : bx_F) : Prop := (∀ k, k ≠ 4 → G k = F k) ∧ mk_I v (G 4) ∧ ((b = nI 0 ∧ G = F ∧ ∀ j, S j → F 4 j < 0 ∨ F 4 i ≤ F 4 j) ∨ (b = nI 1 ∧ ms_ (G 4) < ms_ (F 4)))
theorem sp_0 {F : bx_F} {v : Nat → Int32} {i : Nat} {S : Nat → Prop} (h : mk_I v (F 4)) (hS : ∀ j, ¬ S j) : sp_ F v i S (nI 0) F := ⟨fun _ _ => rfl, h, Or.inl ⟨rfl, rfl, fun j hj => absurd hj (hS j)⟩⟩
theorem sp_skip {F G : bx_F} {v : Nat → Int32} {i : Nat} {S S' : Nat → Prop} {b : Int32} (h : sp_ F v i S b G) (hS : ∀ j, S' j → S j) : sp_ F v i S' b G := by
  obtain ⟨h1, h2, h3⟩ := h
  refine ⟨h1, h2, ?_⟩
  rcases h3 with ⟨a1, a2, a3⟩ | h3
  · exact Or.inl ⟨a1, a2, fun j hj => a3 j (hS j hj)⟩
  · exact Or.inr h3
theorem sp_no {F G : bx_F} {v : Nat → Int32} {i j : Nat} {S S' : Nat → Prop} {b : Int32} (h : sp_ F v i S b G) (hj : G 4 j < 0 ∨ G 4 i ≤ G 4 j) (hS : ∀ q, S' q → S q ∨ q = j) : sp_ F v i S' b G := by
  obtain ⟨h1, h2, h3⟩ := h
  refine ⟨h1, h2, ?_⟩
  rcases h3 with ⟨a1, a2, a3⟩ | h3
  · refine Or.inl ⟨a1, a2, fun q hq => ?_⟩
    rcases hS q hq with e | e
    · exact a3 q e
    · rw [e, ← a2]; exact hj
  · exact Or.inr h3
theorem sp_yes {F G : bx_F} {v : Nat → Int32} {i j : Nat} {S S' : Nat → Prop} {b : Int32} (h : sp_ F v i S b G) (hn : nb_ i j) (hi : i < 256) (hv : 0 < v i) (q1 : ¬ G 4 j < 0) (q2 : G 4 j < G 4 i) : sp_ F v i S' (nI 1) (va_up G 4 (upd (G 4) i (G 4 j))) := by
  obtain ⟨h1, h2, h3⟩ := h
  have ht := mk_take h2 hn hi hv q1 q2
  refine ⟨fun k hk => (va_up_ne _ _ hk).trans (h1 k hk), by rw [va_up_self]; exact ht.1, Or.inr ⟨rfl, ?_⟩⟩
  rw [va_up_self]
  rcases h3 with ⟨a1, a2, a3⟩ | h3
  · rw [a2] at ht ⊢; exact ht.2
  · exact Nat.lt_trans ht.2 h3.2
theorem sp_b0 {F G : bx_F} {v : Nat → Int32} {i : Nat} {S : Nat → Prop} {b : Int32} (h : sp_ F v i S b G) (e : b = 0) : sp_ F v i S (nI 0) G := by
  rw [show nI 0 = b from nI_0.trans e.symm]; exact h
theorem sp_b1 {F G : bx_F} {v : Nat → Int32} {i : Nat} {S : Nat → Prop} {b : Int32} (h : sp_ F v i S b G) (e : ¬ b = 0) : sp_ F v i S (nI 1) G := by
  obtain ⟨h1, h2, h3⟩ := h
  rcases h3 with ⟨a1, a2, a3⟩ | h3
  · exact absurd (a1.trans nI_0) e
  · exact ⟨h1, h2, Or.inr ⟨rfl, h3.2⟩⟩
/-- one pass over the marks -/
def pp_ (F G0 : bx_F) (v : Nat → Int32) (i : Nat) (b : Int32) (G : bx_F) : Prop := (∀ k, k ≠ 4 → G k = F k) ∧ mk_I v (G 4) ∧ ((b = nI 0 ∧ G = G0 ∧ ∀ q, q < i → 0 < v q → mk_S (G0 4) q) ∨ (b = nI 1 ∧ ms_ (G 4) < ms_ (G0 4)))
theorem pp_skip {F G0 G : bx_F} {v : Nat → Int32} {i : Nat} {b : Int32} (h : pp_ F G0 v i b G) (hs : 0 < v i → mk_S (G 4) i) : pp_ F G0 v (i + 1) b G := by
  obtain ⟨h1, h2, h3⟩ := h
  refine ⟨h1, h2, ?_⟩
  rcases h3 with ⟨a1, a2, a3⟩ | h3
  · refine Or.inl ⟨a1, a2, fun q hq hv => ?_⟩
    by_cases e : q = i
    · rw [e, ← a2]; exact hs (e ▸ hv)
    · exact a3 q (by omega) hv
  · exact Or.inr h3
theorem pp_hit {F G0 G u : bx_F} {v : Nat → Int32} {i : Nat} {b : Int32} (h : pp_ F G0 v i b G) (hk : ∀ k, k ≠ 4 → u k = G k) (hI : mk_I v (u 4)) (hm : ms_ (u 4) < ms_ (G 4)) : pp_ F G0 v (i + 1) (nI 1) u := by
  obtain ⟨h1, h2, h3⟩ := h
  refine ⟨fun k q => (hk k q).trans (h1 k q), hI, Or.inr ⟨rfl, ?_⟩⟩
  rcases h3 with ⟨a1, a2, a3⟩ | h3
  · rw [a2] at hm; exact hm
  · exact Nat.lt_trans hm h3.2
end
section
set_option maxRecDepth 100000
set_option maxHeartbeats 4000000 in
theorem mX_find (l : Launch) (D : va_G) (d : ClassId) (h : Nat) (a : Nat → Nat) (F : bx_F) (m : Nat) (lab r : Nat → Nat) (hm : m ≤ 256) (hu : ul_ m lab r) (hl : ∀ k, k < m → F 6 k = nI (lab k)) (i : Nat) (hi : i < m) : bx_Mi l yX0_find cX0_find 3 .int rmb0 D 0 nsX h a d F [.int (nI i)] (fun x u => u = F ∧ x = nI (r i)) := by
  refine g_meti (Cn := RX0) (T := TX0) (by decide) rfl in_X0 rfl (cat_ints [nI i]) 1 rfl ?_
  intro κ el eR C hr hlk
  have hx := C.1
  have hb := C.2.1
  have hA : ∀ q, (ks κ).heap.size ≤ q → bx_A 0 nsX h a d F (ks κ).heap.size q := fun q hq => Or.inr hq
  refine g_vs (vs' := [.ref h, .int (nI i), .null]) rfl ?_
  have loop : ∀ (n k : Nat), k ≤ n → k < m → r k = r i → bx_G κ (bx_Qi κ D 0 nsX h a d F (fun x u => u = F ∧ x = nI (r i))) 3 0 0 (bx_S D 0 nsX h a d (bx_A 0 nsX h a d F (ks κ).heap.size) (ks κ).heap F) 2 [.ref h, .int (nI i), .int (nI k)] [] := by
    intro n
    induction n with
    | zero =>
      intro k hn hk hr0
      have huk := hu k hk
      refine g_aload_n hx hb dX0_find_2 rfl rfl ?_
      refine g_get C 6 (by decide) q32 rfl dX0_find_3 ?_
      refine g_iload_n hx hb dX0_find_6 rfl rfl ?_
      refine g_ld C 6 256 rfl (by omega) (by decide) dX0_find_7 ?_
      refine g_top (y := nI (lab k)) (hl k hk) ?_
      refine g_iload_n hx hb dX0_find_8 rfl rfl ?_
      refine n_icmp_ge hx hb 22 dX0_find_9 (by decide) (by omega) (by omega) (fun c_9 => ?_) (fun c_9 => ?_)
      · refine g_iload_n hx hb dX0_find_22 rfl rfl ?_
        exact g_iret C hr hlk (⟨rfl, by rw [← hr0, huk.2.2.2.1 (by omega)]⟩) dX0_find_23
      · omega
    | succ n ih =>
      intro k hn hk hr0
      have huk := hu k hk
      refine g_aload_n hx hb dX0_find_2 rfl rfl ?_
      refine g_get C 6 (by decide) q32 rfl dX0_find_3 ?_
      refine g_iload_n hx hb dX0_find_6 rfl rfl ?_
      refine g_ld C 6 256 rfl (by omega) (by decide) dX0_find_7 ?_
      refine g_top (y := nI (lab k)) (hl k hk) ?_
      refine g_iload_n hx hb dX0_find_8 rfl rfl ?_
      refine n_icmp_ge hx hb 22 dX0_find_9 (by decide) (by omega) (by omega) (fun c_9 => ?_) (fun c_9 => ?_)
      · refine g_iload_n hx hb dX0_find_22 rfl rfl ?_
        exact g_iret C hr hlk (⟨rfl, by rw [← hr0, huk.2.2.2.1 (by omega)]⟩) dX0_find_23
      · refine g_aload_n hx hb dX0_find_12 rfl rfl ?_
        refine g_get C 6 (by decide) q32 rfl dX0_find_13 ?_
        refine g_iload_n hx hb dX0_find_16 rfl rfl ?_
        refine g_ld C 6 256 rfl (by omega) (by decide) dX0_find_17 ?_
        refine g_top (y := nI (lab k)) (hl k hk) ?_
        refine g_istore_n (vs' := [.ref h, .int (nI i), .int (nI (lab k))]) hx hb dX0_find_18 rfl (by decide) rfl ?_
        refine g_goto hx hb 2 dX0_find_19 (by decide) ?_
        exact ih (lab k) (by omega) (by omega) (huk.2.1.trans hr0)
  refine g_iload_n hx hb dX0_find_0 rfl rfl ?_
  refine g_istore_n (vs' := [.ref h, .int (nI i), .int (nI i)]) hx hb dX0_find_1 rfl (by decide) rfl ?_
  exact loop i i (Nat.le_refl _) hi rfl

set_option maxHeartbeats 4000000 in
theorem mX_join (l : Launch) (D : va_G) (d : ClassId) (h : Nat) (a : Nat → Nat) (F : bx_F) (m : Nat) (lab r : Nat → Nat) (hm : m ≤ 256) (hu : ul_ m lab r) (hl : ∀ k, k < m → F 6 k = nI (lab k)) (i j : Nat) (hi : i < m) (hj : j < m) : bx_Mi l yX0_join cX0_join 5 .boolean rmb1 D 0 nsX h a d F [.int (nI i), .int (nI j)] (po_join F r i j) := by
  refine g_meti (Cn := RX0) (T := TX0) (by decide) rfl in_X0 rfl (cat_ints [nI i, nI j]) 2 rfl ?_
  intro κ el eR C hr hlk
  have hx := C.1
  have hb := C.2.1
  have hA : ∀ q, (ks κ).heap.size ≤ q → bx_A 0 nsX h a d F (ks κ).heap.size q := fun q hq => Or.inr hq
  refine g_vs (vs' := [.ref h, .int (nI i), .int (nI j), .null, .null]) rfl ?_
  have h1 := (hu i hi).2.2.2.2
  have h2 := (hu j hj).2.2.2.2
  refine g_aload_n hx hb dX0_join_0 rfl rfl ?_
  refine g_iload_n hx hb dX0_join_1 rfl rfl ?_
  refine g_calli C hA (n := 1) (rest := []) (mX_find (kl κ) D d h a F m lab r hm hu hl i hi) (lw_V q150 q152 qs8 q16 q153) (by decide +kernel) rfl ⟨rfl, rfl⟩ ⟨by rw [eR]; decide, by rw [eR]; decide⟩ rfl (Nat.le_of_ble_eq_true rfl) dX0_join_2 (fun x_2 u_2 p_2 => ?_)
  obtain ⟨e_, q_⟩ := p_2
  rw [e_]
  refine g_top (y := nI (r i)) (q_) ?_
  refine g_istore_n (vs' := [.ref h, .int (nI i), .int (nI j), .int (nI (r i)), .null]) hx hb dX0_join_5 rfl (by decide) rfl ?_
  refine g_aload_n hx hb dX0_join_6 rfl rfl ?_
  refine g_iload_n hx hb dX0_join_7 rfl rfl ?_
  refine g_calli C hA (n := 1) (rest := []) (mX_find (kl κ) D d h a F m lab r hm hu hl j hj) (lw_V q150 q152 qs8 q16 q153) (by decide +kernel) rfl ⟨rfl, rfl⟩ ⟨by rw [eR]; decide, by rw [eR]; decide⟩ rfl (Nat.le_of_ble_eq_true rfl) dX0_join_8 (fun x_8 u_8 p_8 => ?_)
  obtain ⟨e_, q_⟩ := p_8
  rw [e_]
  refine g_top (y := nI (r j)) (q_) ?_
  refine g_istore (vs' := [.ref h, .int (nI i), .int (nI j), .int (nI (r i)), .int (nI (r j))]) hx hb dX0_join_11 (by decide) rfl ?_
  refine g_iload_n hx hb dX0_join_13 rfl rfl ?_
  refine g_iload hx hb dX0_join_14 rfl ?_
  refine n_icmp_ne hx hb 21 dX0_join_16 (by decide) (by omega) (by omega) (fun c_16 => ?_) (fun c_16 => ?_)
  · refine g_iload_n hx hb dX0_join_21 rfl rfl ?_
    refine g_iload hx hb dX0_join_22 rfl ?_
    refine n_icmp_ge hx hb 38 dX0_join_24 (by decide) (by omega) (by omega) (fun c_24 => ?_) (fun c_24 => ?_)
    · refine g_aload_n hx hb dX0_join_38 rfl rfl ?_
      refine g_get C 6 (by decide) q32 rfl dX0_join_39 ?_
      refine g_iload_n hx hb dX0_join_42 rfl rfl ?_
      refine g_iload hx hb dX0_join_43 rfl ?_
      refine g_st C 6 256 rfl (by omega) (by decide) dX0_join_45 ?_
      refine g_iconst hx hb (nI 1) dX0_join_46 (by decide) ?_
      exact g_zret C hr hlk rfl (⟨fun q => absurd q c_16, fun _ => ⟨rfl, by rw [show max (r i) (r j) = r i by omega, show min (r i) (r j) = r j by omega]⟩⟩) dX0_join_47
    · refine g_aload_n hx hb dX0_join_27 rfl rfl ?_
      refine g_get C 6 (by decide) q32 rfl dX0_join_28 ?_
      refine g_iload hx hb dX0_join_31 rfl ?_
      refine g_iload_n hx hb dX0_join_33 rfl rfl ?_
      refine g_st C 6 256 rfl (by omega) (by decide) dX0_join_34 ?_
      refine g_goto hx hb 46 dX0_join_35 (by decide) ?_
      refine g_iconst hx hb (nI 1) dX0_join_46 (by decide) ?_
      exact g_zret C hr hlk rfl (⟨fun q => absurd q c_16, fun _ => ⟨rfl, by rw [show max (r i) (r j) = r j by omega, show min (r i) (r j) = r i by omega]⟩⟩) dX0_join_47
  · refine g_iconst hx hb (nI 0) dX0_join_19 (by decide) ?_
    exact g_zret C hr hlk rfl (⟨fun _ => ⟨rfl, rfl⟩, fun q => absurd c_16 q⟩) dX0_join_20

set_option maxHeartbeats 4000000 in
theorem mX_patches (l : Launch) (D : va_G) (d : ClassId) (h : Nat) (a : Nat → Nat) (F : bx_F)  : bx_Mi l yX0_patches cX0_patches 3 .int rmb2 D 0 nsX h a d F [] (po_pat 6 F) := by
  refine g_meti (Cn := RX0) (T := TX0) (by decide) rfl in_X0 rfl (cat_ints []) 2 rfl ?_
  intro κ el eR C hr hlk
  have hx := C.1
  have hb := C.2.1
  have hA : ∀ q, (ks κ).heap.size ≤ q → bx_A 0 nsX h a d F (ks κ).heap.size q := fun q hq => Or.inr hq
  refine g_vs (vs' := [.ref h, .null, .null]) rfl ?_
  have loop : ∀ (n i : Nat) (lab r : Nat → Nat) (G : bx_F), i + n = 256 → (∀ k, k ≠ 6 → G k = F k) → (∀ k, k < i → G 6 k = nI (lab k)) → up_ (F 0) (i) lab r → ue_ (F 0) i r → bx_G κ (bx_Qi κ D 0 nsX h a d F (po_pat 6 F)) 3 0 0 (bx_S D 0 nsX h a d (bx_A 0 nsX h a d F (ks κ).heap.size) (ks κ).heap G) 4 [.ref h, .int (nI (cn_ (ub_ (F 0) lab) i)), .int (nI i)] [] := by
    intro n
    induction n with
    | zero =>
      intro i lab r G hn h1 hl hu he
      have hcl := cn_le (ub_ (F 0) lab) i
      refine g_iload_n hx hb dX0_patches_4 rfl rfl ?_
      refine g_sipush hx hb (nI 256) dX0_patches_5 (by decide) ?_
      refine n_icmp_ge hx hb 101 dX0_patches_8 (by decide) (by omega) (by omega) (fun c_8 => ?_) (fun c_8 => ?_)
      · refine g_iload_n hx hb dX0_patches_101 rfl rfl ?_
        exact g_iret C hr hlk (⟨h1, by rw [show i = 256 by omega] at hu he ⊢; rw [np_X hu he]⟩) dX0_patches_102
      · omega
    | succ n ih =>
      intro i lab r G hn h1 hl hu he
      have hcl := cn_le (ub_ (F 0) lab) i
      have k95 : ∀ (lab r : Nat → Nat) (G : bx_F), (∀ k, k ≠ 6 → G k = F k) → (∀ k, k < i + 1 → G 6 k = nI (lab k)) → up_ (F 0) (i + 1) lab r → ue_ (F 0) (i + 1) r → bx_G κ (bx_Qi κ D 0 nsX h a d F (po_pat 6 F)) 3 0 0 (bx_S D 0 nsX h a d (bx_A 0 nsX h a d F (ks κ).heap.size) (ks κ).heap G) 95 [.ref h, .int (nI (cn_ (ub_ (F 0) lab) (i + 1))), .int (nI i)] [] := by
        intro lab r G h1 hl hu he
        refine n_iinc (vs' := [.ref h, .int (nI (cn_ (ub_ (F 0) lab) (i + 1))), .int (nI (i + 1))]) hx hb dX0_patches_95 rfl (by decide) rfl ?_
        refine g_goto hx hb 4 dX0_patches_98 (by decide) ?_
        exact ih (i + 1) lab r G (by omega) h1 hl hu he
      have k62 : i < 256 → 0 < F 0 i → ∀ (lab r : Nat → Nat) (G : bx_F), (∀ k, k ≠ 6 → G k = F k) → (∀ k, k < i + 1 → G 6 k = nI (lab k)) → up_ (F 0) (i + 1) lab r → ue_ (F 0) i r → (0 < i % 16 → 0 < F 0 (i - 1) → r i = r (i - 1)) → bx_G κ (bx_Qi κ D 0 nsX h a d F (po_pat 6 F)) 3 0 0 (bx_S D 0 nsX h a d (bx_A 0 nsX h a d F (ks κ).heap.size) (ks κ).heap G) 62 [.ref h, .int (nI (cn_ (ub_ (F 0) lab) (i + 1))), .int (nI i)] [] := by
        intro hi hv lab r G h1 hl hu he h0
        have hcl := cn_le (ub_ (F 0) lab) (i + 1)
        have g0 : G 0 = F 0 := h1 0 (by decide)
        have edge : ∀ r2 : Nat → Nat, ue_ (F 0) i r2 → (0 < i % 16 → 0 < F 0 (i - 1) → r2 i = r2 (i - 1)) → (16 ≤ i → 0 < F 0 (i - 16) → r2 i = r2 (i - 16)) → ue_ (F 0) (i + 1) r2 := by
          intro r2 e1 e2 e3 p q hpq hp
          by_cases ep : p = i
          · subst ep
            obtain ⟨a1, a2, a3, a4 | a4⟩ := hpq
            · rw [show q = p - 1 by omega] at a3 ⊢; exact e2 a4.1 a3
            · rw [show q = p - 16 by omega] at a3 ⊢; exact e3 (by omega) a3
          · exact e1 p q hpq (by omega)
        refine g_iload_n hx hb dX0_patches_62 rfl rfl ?_
        refine g_bipush hx hb (nI 16) dX0_patches_63 (by decide) ?_
        refine n_icmp_lt hx hb 95 dX0_patches_65 (by decide) (by omega) (by omega) (fun c_65 => ?_) (fun c_65 => ?_)
        · exact k95 lab r G h1 hl hu (edge r he h0 (fun q => absurd q (by omega)))
        · refine g_aload_n hx hb dX0_patches_68 rfl rfl ?_
          refine g_get C 0 (by decide) q26 rfl dX0_patches_69 ?_
          refine g_iload_n hx hb dX0_patches_72 rfl rfl ?_
          refine g_bipush hx hb (nI 16) dX0_patches_73 (by decide) ?_
          refine n_isub hx hb dX0_patches_75 (by omega) ?_
          refine g_ld C 0 256 rfl (by omega) (by decide) dX0_patches_76 ?_
          refine g_top (y := F 0 (i - 16)) (congrFun g0 _) ?_
          refine g_if_le hx hb 95 dX0_patches_77 (by decide) (fun c_77 => ?_) (fun c_77 => ?_)
          · exact k95 lab r G h1 hl hu (edge r he h0 (fun _ q => absurd c_77 (Int32.not_le.mpr q)))
          · have hv2 : 0 < F 0 (i - 16) := Int32.not_le.mp c_77
            refine g_aload_n hx hb dX0_patches_80 rfl rfl ?_
            refine g_iload_n hx hb dX0_patches_81 rfl rfl ?_
            refine g_iload_n hx hb dX0_patches_82 rfl rfl ?_
            refine g_bipush hx hb (nI 16) dX0_patches_83 (by decide) ?_
            refine n_isub hx hb dX0_patches_85 (by omega) ?_
            refine g_calli C hA (n := 2) (rest := []) (mX_join (kl κ) D d h a G (i + 1) lab r (by omega) hu.1 hl i (i - 16) (by omega) (by omega)) (lw_V q146 q148 qs7 q16 q149) (by decide +kernel) rfl ⟨rfl, rfl⟩ ⟨by rw [eR]; decide, by rw [eR]; decide⟩ rfl (Nat.le_of_ble_eq_true rfl) dX0_patches_86 (fun x_86 u_86 p_86 => ?_)
            have hcj : cj_ (F 0) i (i - 16) := cj_ed ⟨hi, hv, hv2, Or.inr (by omega)⟩
            refine g_if_eq hx hb 95 dX0_patches_89 (by decide) (fun c_89 => ?_) (fun c_89 => ?_)
            · by_cases er : r i = r (i - 16)
              · rw [(p_86.1 er).2]
                exact k95 lab r G h1 hl hu (edge r he h0 (fun _ _ => er))
              · exact absurd ((p_86.2 er).1.symm.trans c_89) (by decide)
            · by_cases er : r i = r (i - 16)
              · exact absurd ((p_86.1 er).1.trans nI_0) c_89
              · rw [(p_86.2 er).2]
                obtain ⟨hu2, hc2⟩ := up_join hu (by omega) (by omega) (by omega) hv hcj er
                refine n_idec (vs' := [.ref h, .int (nI ((cn_ (ub_ (F 0) lab) (i + 1)) - 1)), .int (nI i)]) hx hb dX0_patches_92 rfl (by omega) (by decide) rfl ?_
                rw [hc2, Nat.add_sub_cancel]
                refine k95 _ _ _ (fun k hk => (va_up_ne _ _ hk).trans (h1 k hk)) (fun k hk => ?_) hu2 (edge _ (ue_kept he _ _) (fun q1 q2 => ur_kept (h0 q1 q2) _ _) (fun _ _ => ur_same r i (i - 16)))
                rw [va_up_self]
                by_cases e : k = max (r i) (r (i - 16))
                · rw [e, pk_us, un_s]
                · rw [pk_un e, un_n e]; exact hl k hk
      refine g_iload_n hx hb dX0_patches_4 rfl rfl ?_
      refine g_sipush hx hb (nI 256) dX0_patches_5 (by decide) ?_
      refine n_icmp_ge hx hb 101 dX0_patches_8 (by decide) (by omega) (by omega) (fun c_8 => ?_) (fun c_8 => ?_)
      · omega
      · have i256 : i < 256 := by omega
        have g0 : G 0 = F 0 := h1 0 (by decide)
        refine g_aload_n hx hb dX0_patches_11 rfl rfl ?_
        refine g_get C 6 (by decide) q32 rfl dX0_patches_12 ?_
        refine g_iload_n hx hb dX0_patches_15 rfl rfl ?_
        refine g_iload_n hx hb dX0_patches_16 rfl rfl ?_
        refine g_st C 6 256 rfl (by omega) (by decide) dX0_patches_17 ?_
        refine g_aload_n hx hb dX0_patches_18 rfl rfl ?_
        refine g_get C 0 (by decide) q26 rfl dX0_patches_19 ?_
        refine g_iload_n hx hb dX0_patches_22 rfl rfl ?_
        refine g_ld C 0 256 rfl (by omega) (by decide) dX0_patches_23 ?_
        refine g_top (y := F 0 i) (congrFun g0 _) ?_
        have hu1 := up_new hu
        have he1 := ue_new he
        have h1n : ∀ k, k ≠ 6 → va_up G 6 (upd (G 6) i (nI i)) k = F k := fun k hk => (va_up_ne _ _ hk).trans (h1 k hk)
        have hln : ∀ k, k < i + 1 → va_up G 6 (upd (G 6) i (nI i)) 6 k = nI (un_ lab i i k) := by
          intro k hk
          rw [va_up_self]
          by_cases e : k = i
          · rw [e, pk_us, un_s]
          · rw [pk_un e, un_n e]; exact hl k (by omega)
        refine g_if_le hx hb 95 dX0_patches_24 (by decide) (fun c_24 => ?_) (fun c_24 => ?_)
        · have hc0 : cn_ (ub_ (F 0) (un_ lab i i)) (i + 1) = cn_ (ub_ (F 0) lab) i := (cn_f (by unfold ub_; simp; intro q; exact absurd c_24 (Int32.not_le.mpr q))).trans ub_new
          rw [← hc0]
          refine k95 _ _ _ h1n hln hu1 (fun p q hpq hp => ?_)
          by_cases ep : p = i
          · rw [ep] at hpq; exact absurd c_24 (Int32.not_le.mpr hpq.2.1)
          · exact he1 p q hpq (by omega)
        · have hv : 0 < F 0 i := Int32.not_le.mp c_24
          have hc0 : cn_ (ub_ (F 0) (un_ lab i i)) (i + 1) = cn_ (ub_ (F 0) lab) i + 1 := by rw [cn_t (by unfold ub_; rw [un_s]; exact decide_eq_true ⟨hv, rfl⟩), ub_new]
          refine n_iinc (vs' := [.ref h, .int (nI (cn_ (ub_ (F 0) lab) i + 1)), .int (nI i)]) hx hb dX0_patches_27 rfl (by decide) rfl ?_
          rw [← hc0]
          generalize hlab : un_ lab i i = lab2 at *
          generalize hrr : un_ r i i = r2 at *
          generalize hGG : va_up G 6 (upd (G 6) i (nI i)) = G2 at *
          have g2 : G2 0 = F 0 := h1n 0 (by decide)
          have hcl2 := cn_le (ub_ (F 0) lab2) (i + 1)
          refine g_iload_n hx hb dX0_patches_30 rfl rfl ?_
          refine g_bipush hx hb (nI 16) dX0_patches_31 (by decide) ?_
          refine n_irem hx hb dX0_patches_33 (by omega) (by omega) (by omega) ?_
          refine g_if_le hx hb 62 dX0_patches_34 (by decide) (fun c_34 => ?_) (fun c_34 => ?_)
          · exact k62 i256 hv lab2 r2 G2 h1n hln hu1 he1 (fun q => absurd c_34 (nI_nle q (by omega)))
          · have him : 0 < i % 16 := Nat.pos_of_ne_zero fun q => c_34 (by rw [q]; decide)
            refine g_aload_n hx hb dX0_patches_37 rfl rfl ?_
            refine g_get C 0 (by decide) q26 rfl dX0_patches_38 ?_
            refine g_iload_n hx hb dX0_patches_41 rfl rfl ?_
            refine g_iconst hx hb (nI 1) dX0_patches_42 (by decide) ?_
            refine n_isub hx hb dX0_patches_43 (by omega) ?_
            refine g_ld C 0 256 rfl (by omega) (by decide) dX0_patches_44 ?_
            refine g_top (y := F 0 (i - 1)) (congrFun g2 _) ?_
            refine g_if_le hx hb 62 dX0_patches_45 (by decide) (fun c_45 => ?_) (fun c_45 => ?_)
            · exact k62 i256 hv lab2 r2 G2 h1n hln hu1 he1 (fun _ q => absurd c_45 (Int32.not_le.mpr q))
            · have hv2 : 0 < F 0 (i - 1) := Int32.not_le.mp c_45
              refine g_aload_n hx hb dX0_patches_48 rfl rfl ?_
              refine g_iload_n hx hb dX0_patches_49 rfl rfl ?_
              refine g_iload_n hx hb dX0_patches_50 rfl rfl ?_
              refine g_iconst hx hb (nI 1) dX0_patches_51 (by decide) ?_
              refine n_isub hx hb dX0_patches_52 (by omega) ?_
              refine g_calli C hA (n := 2) (rest := []) (mX_join (kl κ) D d h a G2 (i + 1) lab2 r2 (by omega) hu1.1 hln i (i - 1) (by omega) (by omega)) (lw_V q146 q148 qs7 q16 q149) (by decide +kernel) rfl ⟨rfl, rfl⟩ ⟨by rw [eR]; decide, by rw [eR]; decide⟩ rfl (Nat.le_of_ble_eq_true rfl) dX0_patches_53 (fun x_53 u_53 p_53 => ?_)
              have hcj : cj_ (F 0) i (i - 1) := cj_ed ⟨i256, hv, hv2, Or.inl (by omega)⟩
              refine g_if_eq hx hb 62 dX0_patches_56 (by decide) (fun c_56 => ?_) (fun c_56 => ?_)
              · by_cases er : r2 i = r2 (i - 1)
                · rw [(p_53.1 er).2]
                  exact k62 i256 hv lab2 r2 G2 h1n hln hu1 he1 (fun _ _ => er)
                · exact absurd ((p_53.2 er).1.symm.trans c_56) (by decide)
              · by_cases er : r2 i = r2 (i - 1)
                · exact absurd ((p_53.1 er).1.trans nI_0) c_56
                · rw [(p_53.2 er).2]
                  obtain ⟨hu2, hc2⟩ := up_join hu1 (by omega) (by omega) (by omega) hv hcj er
                  refine n_idec (vs' := [.ref h, .int (nI ((cn_ (ub_ (F 0) lab2) (i + 1)) - 1)), .int (nI i)]) hx hb dX0_patches_59 rfl (by omega) (by decide) rfl ?_
                  rw [hc2, Nat.add_sub_cancel]
                  refine k62 i256 hv _ _ _ (fun k hk => (va_up_ne _ _ hk).trans (h1n k hk)) (fun k hk => ?_) hu2 (ue_kept he1 _ _) (fun _ _ => ur_same r2 i (i - 1))
                  rw [va_up_self]
                  by_cases e : k = max (r2 i) (r2 (i - 1))
                  · rw [e, pk_us, un_s]
                  · rw [pk_un e, un_n e]; exact hln k hk
  refine g_iconst hx hb (nI 0) dX0_patches_0 (by decide) ?_
  refine g_istore_n (vs' := [.ref h, .int (nI 0), .null]) hx hb dX0_patches_1 rfl (by decide) rfl ?_
  refine g_iconst hx hb (nI 0) dX0_patches_2 (by decide) ?_
  refine g_istore_n (vs' := [.ref h, .int (nI 0), .int (nI 0)]) hx hb dX0_patches_3 rfl (by decide) rfl ?_
  exact loop 256 0 (fun k => k) (fun k => k) F rfl (fun _ _ => rfl) (fun k hk => absurd hk (Nat.not_lt_zero _)) ⟨ul_0 _ _, fun k hk => absurd hk (Nat.not_lt_zero _)⟩ (fun p q _ hp => absurd hp (Nat.not_lt_zero _))
end
section
set_option maxRecDepth 100000
set_option maxHeartbeats 4000000 in
theorem mM_take (l : Launch) (D : va_G) (d : ClassId) (h : Nat) (a : Nat → Nat) (F : bx_F) (i j : Nat) (hi : i < 256) (hj : j < 256) : bx_Mi l yX1_take cX1_take 3 .boolean rmb0 D 1 nsM h a d F [.int (nI i), .int (nI j)] (po_take F i j) := by
  refine g_meti (Cn := RX1) (T := TX1) (by decide) rfl in_X1 rfl (cat_ints [nI i, nI j]) 0 rfl ?_
  intro κ el eR C hr hlk
  have hx := C.1
  have hb := C.2.1
  have hA : ∀ q, (ks κ).heap.size ≤ q → bx_A 1 nsM h a d F (ks κ).heap.size q := fun q hq => Or.inr hq
  refine g_vs (vs' := [.ref h, .int (nI i), .int (nI j)]) rfl ?_
  refine g_aload_n hx hb dX1_take_0 rfl rfl ?_
  refine g_get C 4 (by decide) q164 rfl dX1_take_1 ?_
  refine g_iload_n hx hb dX1_take_4 rfl rfl ?_
  refine g_ld C 4 256 rfl (by omega) (by decide) dX1_take_5 ?_
  refine g_if_lt hx hb 24 dX1_take_6 (by decide) (fun c_6 => ?_) (fun c_6 => ?_)
  · refine g_iconst hx hb (nI 0) dX1_take_24 (by decide) ?_
    exact g_zret C hr hlk rfl (Or.inl ⟨rfl, rfl, Or.inl c_6⟩) dX1_take_25
  · refine g_aload_n hx hb dX1_take_9 rfl rfl ?_
    refine g_get C 4 (by decide) q164 rfl dX1_take_10 ?_
    refine g_iload_n hx hb dX1_take_13 rfl rfl ?_
    refine g_ld C 4 256 rfl (by omega) (by decide) dX1_take_14 ?_
    refine g_aload_n hx hb dX1_take_15 rfl rfl ?_
    refine g_get C 4 (by decide) q164 rfl dX1_take_16 ?_
    refine g_iload_n hx hb dX1_take_19 rfl rfl ?_
    refine g_ld C 4 256 rfl (by omega) (by decide) dX1_take_20 ?_
    refine g_icmp_lt hx hb 26 dX1_take_21 (by decide) (fun c_21 => ?_) (fun c_21 => ?_)
    · refine g_aload_n hx hb dX1_take_26 rfl rfl ?_
      refine g_get C 4 (by decide) q164 rfl dX1_take_27 ?_
      refine g_iload_n hx hb dX1_take_30 rfl rfl ?_
      refine g_aload_n hx hb dX1_take_31 rfl rfl ?_
      refine g_get C 4 (by decide) q164 rfl dX1_take_32 ?_
      refine g_iload_n hx hb dX1_take_35 rfl rfl ?_
      refine g_ld C 4 256 rfl (by omega) (by decide) dX1_take_36 ?_
      refine g_st C 4 256 rfl (by omega) (by decide) dX1_take_37 ?_
      refine g_iconst hx hb (nI 1) dX1_take_38 (by decide) ?_
      exact g_zret C hr hlk rfl (Or.inr ⟨rfl, c_6, c_21, rfl⟩) dX1_take_39
    · refine g_iconst hx hb (nI 0) dX1_take_24 (by decide) ?_
      exact g_zret C hr hlk rfl (Or.inl ⟨rfl, rfl, Or.inr (Int32.not_lt.mp c_21)⟩) dX1_take_25

set_option maxHeartbeats 4000000 in
theorem mM_spread (l : Launch) (D : va_G) (d : ClassId) (h : Nat) (a : Nat → Nat) (F : bx_F) (v : Nat → Int32) (i : Nat) (hI : mk_I v (F 4)) (hv : 0 < v i) (hi : i < 256) : bx_Mi l yX1_spread cX1_spread 3 .boolean rmb1 D 1 nsM h a d F [.int (nI i)] (po_spread F v i) := by
  refine g_meti (Cn := RX1) (T := TX1) (by decide) rfl in_X1 rfl (cat_ints [nI i]) 1 rfl ?_
  intro κ el eR C hr hlk
  have hx := C.1
  have hb := C.2.1
  have hA : ∀ q, (ks κ).heap.size ≤ q → bx_A 1 nsM h a d F (ks κ).heap.size q := fun q hq => Or.inr hq
  refine g_vs (vs' := [.ref h, .int (nI i), .null]) rfl ?_
  have k83 : ∀ (b : Int32) (G : bx_F), sp_ F v i (fun j => (0 < i % 16 ∧ j + 1 = i) ∨ (i % 16 < 15 ∧ j = i + 1) ∨ (0 < i / 16 ∧ j + 16 = i)) b G → bx_G κ (bx_Qi κ D 1 nsM h a d F (po_spread F v i)) 3 0 0 (bx_S D 1 nsM h a d (bx_A 1 nsM h a d F (ks κ).heap.size) (ks κ).heap G) 83 [.ref h, .int (nI i), .int b] [] := by
    intro b G hsp
    refine g_iload_n hx hb dX1_spread_83 rfl rfl ?_
    refine g_bipush hx hb (nI 16) dX1_spread_84 (by decide) ?_
    refine n_idiv hx hb dX1_spread_86 (by omega) (by omega) (by omega) ?_
    refine g_bipush hx hb (nI 15) dX1_spread_87 (by decide) ?_
    refine n_icmp_ge hx hb 104 dX1_spread_89 (by decide) (by omega) (by omega) (fun c_89 => ?_) (fun c_89 => ?_)
    · refine g_iload_n hx hb dX1_spread_104 rfl rfl ?_
      refine g_if_eq hx hb 112 dX1_spread_105 (by decide) (fun c_105 => ?_) (fun c_105 => ?_)
      · refine g_iconst hx hb (nI 0) dX1_spread_112 (by decide) ?_
        have hf := sp_b0 (sp_skip (S' := (nb_ i)) hsp (fun q hq => (by unfold nb_ at hq; (try simp only at hq ⊢); omega))) c_105
        exact g_zret C hr hlk rfl (⟨hf.1, hf.2.1, hf.2.2⟩) dX1_spread_113
      · refine g_iconst hx hb (nI 1) dX1_spread_108 (by decide) ?_
        refine g_goto hx hb 113 dX1_spread_109 (by decide) ?_
        have hf := sp_b1 (sp_skip (S' := (nb_ i)) hsp (fun q hq => (by unfold nb_ at hq; (try simp only at hq ⊢); omega))) c_105
        exact g_zret C hr hlk rfl (⟨hf.1, hf.2.1, hf.2.2⟩) dX1_spread_113
    · have hcond : i / 16 < 15 := c_89
      refine g_aload_n hx hb dX1_spread_92 rfl rfl ?_
      refine g_iload_n hx hb dX1_spread_93 rfl rfl ?_
      refine g_iload_n hx hb dX1_spread_94 rfl rfl ?_
      refine g_bipush hx hb (nI 16) dX1_spread_95 (by decide) ?_
      refine n_iadd hx hb dX1_spread_97 ?_
      refine g_calli C hA (n := 2) (rest := []) (mM_take (kl κ) D d h a G i (i + 16) hi (by omega)) (lw_V q256 q258 qs14 q17 q259) (by decide +kernel) rfl ⟨rfl, rfl⟩ ⟨by rw [eR]; decide, by rw [eR]; decide⟩ rfl (Nat.le_of_ble_eq_true rfl) dX1_spread_98 (fun x_98 u_98 p_98 => ?_)
      refine g_if_ne hx hb 108 dX1_spread_101 (by decide) (fun c_101 => ?_) (fun c_101 => ?_)
      · rcases p_98 with ⟨t1, t2, t3⟩ | ⟨t1, t2, t3, t4⟩
        · exact absurd (t1.trans nI_0) c_101
        · rw [t4]
          refine g_iconst hx hb (nI 1) dX1_spread_108 (by decide) ?_
          refine g_goto hx hb 113 dX1_spread_109 (by decide) ?_
          have hf := sp_yes (S' := (nb_ i)) hsp (by unfold nb_; omega) hi hv t2 t3
          exact g_zret C hr hlk rfl (⟨hf.1, hf.2.1, hf.2.2⟩) dX1_spread_113
      · rcases p_98 with ⟨t1, t2, t3⟩ | ⟨t1, t2, t3, t4⟩
        · rw [t2]
          refine g_iload_n hx hb dX1_spread_104 rfl rfl ?_
          refine g_if_eq hx hb 112 dX1_spread_105 (by decide) (fun c_105 => ?_) (fun c_105 => ?_)
          · refine g_iconst hx hb (nI 0) dX1_spread_112 (by decide) ?_
            have hf := sp_b0 (sp_no (S' := (nb_ i)) (j := i + 16) hsp t3 (fun q hq => (by unfold nb_ at hq; (try simp only at hq ⊢); omega))) c_105
            exact g_zret C hr hlk rfl (⟨hf.1, hf.2.1, hf.2.2⟩) dX1_spread_113
          · refine g_iconst hx hb (nI 1) dX1_spread_108 (by decide) ?_
            refine g_goto hx hb 113 dX1_spread_109 (by decide) ?_
            have hf := sp_b1 (sp_no (S' := (nb_ i)) (j := i + 16) hsp t3 (fun q hq => (by unfold nb_ at hq; (try simp only at hq ⊢); omega))) c_105
            exact g_zret C hr hlk rfl (⟨hf.1, hf.2.1, hf.2.2⟩) dX1_spread_113
        · exact absurd (t1.symm.trans c_101) (by decide)
  have k54 : ∀ (b : Int32) (G : bx_F), sp_ F v i (fun j => (0 < i % 16 ∧ j + 1 = i) ∨ (i % 16 < 15 ∧ j = i + 1)) b G → bx_G κ (bx_Qi κ D 1 nsM h a d F (po_spread F v i)) 3 0 0 (bx_S D 1 nsM h a d (bx_A 1 nsM h a d F (ks κ).heap.size) (ks κ).heap G) 54 [.ref h, .int (nI i), .int b] [] := by
    intro b G hsp
    refine g_iload_n hx hb dX1_spread_54 rfl rfl ?_
    refine g_bipush hx hb (nI 16) dX1_spread_55 (by decide) ?_
    refine n_idiv hx hb dX1_spread_57 (by omega) (by omega) (by omega) ?_
    refine g_if_le hx hb 73 dX1_spread_58 (by decide) (fun c_58 => ?_) (fun c_58 => ?_)
    · refine g_iload_n hx hb dX1_spread_73 rfl rfl ?_
      refine g_if_eq hx hb 81 dX1_spread_74 (by decide) (fun c_74 => ?_) (fun c_74 => ?_)
      · refine g_iconst hx hb (nI 0) dX1_spread_81 (by decide) ?_
        refine g_istore_n (vs' := [.ref h, .int (nI i), .int (nI 0)]) hx hb dX1_spread_82 rfl (by decide) rfl ?_
        exact k83 _ _ (sp_b0 (sp_skip (S' := (fun j => (0 < i % 16 ∧ j + 1 = i) ∨ (i % 16 < 15 ∧ j = i + 1) ∨ (0 < i / 16 ∧ j + 16 = i))) hsp (fun q hq => (by have := (nI_leI (a := i / 16) (b := 0) (by omega) (by decide)).mp c_58; (try simp only at hq ⊢); omega))) c_74)
      · refine g_iconst hx hb (nI 1) dX1_spread_77 (by decide) ?_
        refine g_goto hx hb 82 dX1_spread_78 (by decide) ?_
        refine g_istore_n (vs' := [.ref h, .int (nI i), .int (nI 1)]) hx hb dX1_spread_82 rfl (by decide) rfl ?_
        exact k83 _ _ (sp_b1 (sp_skip (S' := (fun j => (0 < i % 16 ∧ j + 1 = i) ∨ (i % 16 < 15 ∧ j = i + 1) ∨ (0 < i / 16 ∧ j + 16 = i))) hsp (fun q hq => (by have := (nI_leI (a := i / 16) (b := 0) (by omega) (by decide)).mp c_58; (try simp only at hq ⊢); omega))) c_74)
    · have hcond : 0 < i / 16 := Nat.pos_of_ne_zero fun q => c_58 (by rw [q]; decide)
      refine g_aload_n hx hb dX1_spread_61 rfl rfl ?_
      refine g_iload_n hx hb dX1_spread_62 rfl rfl ?_
      refine g_iload_n hx hb dX1_spread_63 rfl rfl ?_
      refine g_bipush hx hb (nI 16) dX1_spread_64 (by decide) ?_
      refine n_isub hx hb dX1_spread_66 (by omega) ?_
      refine g_calli C hA (n := 2) (rest := []) (mM_take (kl κ) D d h a G i (i - 16) hi (by omega)) (lw_V q256 q258 qs14 q17 q259) (by decide +kernel) rfl ⟨rfl, rfl⟩ ⟨by rw [eR]; decide, by rw [eR]; decide⟩ rfl (Nat.le_of_ble_eq_true rfl) dX1_spread_67 (fun x_67 u_67 p_67 => ?_)
      refine g_if_ne hx hb 77 dX1_spread_70 (by decide) (fun c_70 => ?_) (fun c_70 => ?_)
      · rcases p_67 with ⟨t1, t2, t3⟩ | ⟨t1, t2, t3, t4⟩
        · exact absurd (t1.trans nI_0) c_70
        · rw [t4]
          refine g_iconst hx hb (nI 1) dX1_spread_77 (by decide) ?_
          refine g_goto hx hb 82 dX1_spread_78 (by decide) ?_
          refine g_istore_n (vs' := [.ref h, .int (nI i), .int (nI 1)]) hx hb dX1_spread_82 rfl (by decide) rfl ?_
          exact k83 _ _ (sp_yes (S' := (fun j => (0 < i % 16 ∧ j + 1 = i) ∨ (i % 16 < 15 ∧ j = i + 1) ∨ (0 < i / 16 ∧ j + 16 = i))) hsp (by unfold nb_; omega) hi hv t2 t3)
      · rcases p_67 with ⟨t1, t2, t3⟩ | ⟨t1, t2, t3, t4⟩
        · rw [t2]
          refine g_iload_n hx hb dX1_spread_73 rfl rfl ?_
          refine g_if_eq hx hb 81 dX1_spread_74 (by decide) (fun c_74 => ?_) (fun c_74 => ?_)
          · refine g_iconst hx hb (nI 0) dX1_spread_81 (by decide) ?_
            refine g_istore_n (vs' := [.ref h, .int (nI i), .int (nI 0)]) hx hb dX1_spread_82 rfl (by decide) rfl ?_
            exact k83 _ _ (sp_b0 (sp_no (S' := (fun j => (0 < i % 16 ∧ j + 1 = i) ∨ (i % 16 < 15 ∧ j = i + 1) ∨ (0 < i / 16 ∧ j + 16 = i))) (j := i - 16) hsp t3 (fun q hq => (by (try simp only at hq ⊢); omega))) c_74)
          · refine g_iconst hx hb (nI 1) dX1_spread_77 (by decide) ?_
            refine g_goto hx hb 82 dX1_spread_78 (by decide) ?_
            refine g_istore_n (vs' := [.ref h, .int (nI i), .int (nI 1)]) hx hb dX1_spread_82 rfl (by decide) rfl ?_
            exact k83 _ _ (sp_b1 (sp_no (S' := (fun j => (0 < i % 16 ∧ j + 1 = i) ∨ (i % 16 < 15 ∧ j = i + 1) ∨ (0 < i / 16 ∧ j + 16 = i))) (j := i - 16) hsp t3 (fun q hq => (by (try simp only at hq ⊢); omega))) c_74)
        · exact absurd (t1.symm.trans c_70) (by decide)
  have k24 : ∀ (b : Int32) (G : bx_F), sp_ F v i (fun j => 0 < i % 16 ∧ j + 1 = i) b G → bx_G κ (bx_Qi κ D 1 nsM h a d F (po_spread F v i)) 3 0 0 (bx_S D 1 nsM h a d (bx_A 1 nsM h a d F (ks κ).heap.size) (ks κ).heap G) 24 [.ref h, .int (nI i), .int b] [] := by
    intro b G hsp
    refine g_iload_n hx hb dX1_spread_24 rfl rfl ?_
    refine g_bipush hx hb (nI 16) dX1_spread_25 (by decide) ?_
    refine n_irem hx hb dX1_spread_27 (by omega) (by omega) (by omega) ?_
    refine g_bipush hx hb (nI 15) dX1_spread_28 (by decide) ?_
    refine n_icmp_ge hx hb 44 dX1_spread_30 (by decide) (by omega) (by omega) (fun c_30 => ?_) (fun c_30 => ?_)
    · refine g_iload_n hx hb dX1_spread_44 rfl rfl ?_
      refine g_if_eq hx hb 52 dX1_spread_45 (by decide) (fun c_45 => ?_) (fun c_45 => ?_)
      · refine g_iconst hx hb (nI 0) dX1_spread_52 (by decide) ?_
        refine g_istore_n (vs' := [.ref h, .int (nI i), .int (nI 0)]) hx hb dX1_spread_53 rfl (by decide) rfl ?_
        exact k54 _ _ (sp_b0 (sp_skip (S' := (fun j => (0 < i % 16 ∧ j + 1 = i) ∨ (i % 16 < 15 ∧ j = i + 1))) hsp (fun q hq => (by (try simp only at hq ⊢); omega))) c_45)
      · refine g_iconst hx hb (nI 1) dX1_spread_48 (by decide) ?_
        refine g_goto hx hb 53 dX1_spread_49 (by decide) ?_
        refine g_istore_n (vs' := [.ref h, .int (nI i), .int (nI 1)]) hx hb dX1_spread_53 rfl (by decide) rfl ?_
        exact k54 _ _ (sp_b1 (sp_skip (S' := (fun j => (0 < i % 16 ∧ j + 1 = i) ∨ (i % 16 < 15 ∧ j = i + 1))) hsp (fun q hq => (by (try simp only at hq ⊢); omega))) c_45)
    · have hcond : i % 16 < 15 := c_30
      refine g_aload_n hx hb dX1_spread_33 rfl rfl ?_
      refine g_iload_n hx hb dX1_spread_34 rfl rfl ?_
      refine g_iload_n hx hb dX1_spread_35 rfl rfl ?_
      refine g_iconst hx hb (nI 1) dX1_spread_36 (by decide) ?_
      refine n_iadd hx hb dX1_spread_37 ?_
      refine g_calli C hA (n := 2) (rest := []) (mM_take (kl κ) D d h a G i (i + 1) hi (by omega)) (lw_V q256 q258 qs14 q17 q259) (by decide +kernel) rfl ⟨rfl, rfl⟩ ⟨by rw [eR]; decide, by rw [eR]; decide⟩ rfl (Nat.le_of_ble_eq_true rfl) dX1_spread_38 (fun x_38 u_38 p_38 => ?_)
      refine g_if_ne hx hb 48 dX1_spread_41 (by decide) (fun c_41 => ?_) (fun c_41 => ?_)
      · rcases p_38 with ⟨t1, t2, t3⟩ | ⟨t1, t2, t3, t4⟩
        · exact absurd (t1.trans nI_0) c_41
        · rw [t4]
          refine g_iconst hx hb (nI 1) dX1_spread_48 (by decide) ?_
          refine g_goto hx hb 53 dX1_spread_49 (by decide) ?_
          refine g_istore_n (vs' := [.ref h, .int (nI i), .int (nI 1)]) hx hb dX1_spread_53 rfl (by decide) rfl ?_
          exact k54 _ _ (sp_yes (S' := (fun j => (0 < i % 16 ∧ j + 1 = i) ∨ (i % 16 < 15 ∧ j = i + 1))) hsp (by unfold nb_; omega) hi hv t2 t3)
      · rcases p_38 with ⟨t1, t2, t3⟩ | ⟨t1, t2, t3, t4⟩
        · rw [t2]
          refine g_iload_n hx hb dX1_spread_44 rfl rfl ?_
          refine g_if_eq hx hb 52 dX1_spread_45 (by decide) (fun c_45 => ?_) (fun c_45 => ?_)
          · refine g_iconst hx hb (nI 0) dX1_spread_52 (by decide) ?_
            refine g_istore_n (vs' := [.ref h, .int (nI i), .int (nI 0)]) hx hb dX1_spread_53 rfl (by decide) rfl ?_
            exact k54 _ _ (sp_b0 (sp_no (S' := (fun j => (0 < i % 16 ∧ j + 1 = i) ∨ (i % 16 < 15 ∧ j = i + 1))) (j := i + 1) hsp t3 (fun q hq => (by (try simp only at hq ⊢); omega))) c_45)
          · refine g_iconst hx hb (nI 1) dX1_spread_48 (by decide) ?_
            refine g_goto hx hb 53 dX1_spread_49 (by decide) ?_
            refine g_istore_n (vs' := [.ref h, .int (nI i), .int (nI 1)]) hx hb dX1_spread_53 rfl (by decide) rfl ?_
            exact k54 _ _ (sp_b1 (sp_no (S' := (fun j => (0 < i % 16 ∧ j + 1 = i) ∨ (i % 16 < 15 ∧ j = i + 1))) (j := i + 1) hsp t3 (fun q hq => (by (try simp only at hq ⊢); omega))) c_45)
        · exact absurd (t1.symm.trans c_41) (by decide)
  have hsp : sp_ F v i (fun _ => False) (nI 0) F := sp_0 hI (fun _ q => q)
  refine g_iload_n hx hb dX1_spread_0 rfl rfl ?_
  refine g_bipush hx hb (nI 16) dX1_spread_1 (by decide) ?_
  refine n_irem hx hb dX1_spread_3 (by omega) (by omega) (by omega) ?_
  refine g_if_le hx hb 22 dX1_spread_4 (by decide) (fun c_4 => ?_) (fun c_4 => ?_)
  · refine g_iconst hx hb (nI 0) dX1_spread_22 (by decide) ?_
    refine g_istore_n (vs' := [.ref h, .int (nI i), .int (nI 0)]) hx hb dX1_spread_23 rfl (by decide) rfl ?_
    exact k24 _ _ (sp_skip (S' := (fun j => 0 < i % 16 ∧ j + 1 = i)) hsp (fun q hq => (by have := (nI_leI (a := i % 16) (b := 0) (by omega) (by decide)).mp c_4; (try simp only at hq ⊢); omega)))
  · have hcond : 0 < i % 16 := Nat.pos_of_ne_zero fun q => c_4 (by rw [q]; decide)
    refine g_aload_n hx hb dX1_spread_7 rfl rfl ?_
    refine g_iload_n hx hb dX1_spread_8 rfl rfl ?_
    refine g_iload_n hx hb dX1_spread_9 rfl rfl ?_
    refine g_iconst hx hb (nI 1) dX1_spread_10 (by decide) ?_
    refine n_isub hx hb dX1_spread_11 (by omega) ?_
    refine g_calli C hA (n := 2) (rest := []) (mM_take (kl κ) D d h a F i (i - 1) hi (by omega)) (lw_V q256 q258 qs14 q17 q259) (by decide +kernel) rfl ⟨rfl, rfl⟩ ⟨by rw [eR]; decide, by rw [eR]; decide⟩ rfl (Nat.le_of_ble_eq_true rfl) dX1_spread_12 (fun x_12 u_12 p_12 => ?_)
    refine g_if_eq hx hb 22 dX1_spread_15 (by decide) (fun c_15 => ?_) (fun c_15 => ?_)
    · rcases p_12 with ⟨t1, t2, t3⟩ | ⟨t1, t2, t3, t4⟩
      · rw [t2]
        refine g_iconst hx hb (nI 0) dX1_spread_22 (by decide) ?_
        refine g_istore_n (vs' := [.ref h, .int (nI i), .int (nI 0)]) hx hb dX1_spread_23 rfl (by decide) rfl ?_
        exact k24 _ _ (sp_no (S' := (fun j => 0 < i % 16 ∧ j + 1 = i)) (j := i - 1) hsp t3 (fun q hq => (by (try simp only at hq ⊢); omega)))
      · exact absurd (t1.symm.trans c_15) (by decide)
    · rcases p_12 with ⟨t1, t2, t3⟩ | ⟨t1, t2, t3, t4⟩
      · exact absurd (t1.trans nI_0) c_15
      · rw [t4]
        refine g_iconst hx hb (nI 1) dX1_spread_18 (by decide) ?_
        refine g_goto hx hb 23 dX1_spread_19 (by decide) ?_
        refine g_istore_n (vs' := [.ref h, .int (nI i), .int (nI 1)]) hx hb dX1_spread_23 rfl (by decide) rfl ?_
        exact k24 _ _ (sp_yes (S' := (fun j => 0 < i % 16 ∧ j + 1 = i)) hsp (by unfold nb_; omega) hi hv t2 t3)

set_option maxHeartbeats 4000000 in
theorem mM_patches (l : Launch) (D : va_G) (d : ClassId) (h : Nat) (a : Nat → Nat) (F : bx_F)  : bx_Mi l yX1_patches cX1_patches 4 .int rmb2 D 1 nsM h a d F [] (po_pat 4 F) := by
  refine g_meti (Cn := RX1) (T := TX1) (by decide) rfl in_X1 rfl (cat_ints []) 3 rfl ?_
  intro κ el eR C hr hlk
  have hx := C.1
  have hb := C.2.1
  have hA : ∀ q, (ks κ).heap.size ≤ q → bx_A 1 nsM h a d F (ks κ).heap.size q := fun q hq => Or.inr hq
  refine g_vs (vs' := [.ref h, .null, .null, .null]) rfl ?_
  have fin : ∀ (G : bx_F), (∀ k, k ≠ 4 → G k = F k) → mk_I (F 0) (G 4) → (∀ q, q < 256 → 0 < F 0 q → mk_S (G 4) q) → bx_G κ (bx_Qi κ D 1 nsM h a d F (po_pat 4 F)) 4 0 0 (bx_S D 1 nsM h a d (bx_A 1 nsM h a d F (ks κ).heap.size) (ks κ).heap G) 80 [.ref h, .null, .null, .null] [] := by
    intro G h1 hI hS
    have loop : ∀ (n k : Nat), k + n = 256 → bx_G κ (bx_Qi κ D 1 nsM h a d F (po_pat 4 F)) 4 0 0 (bx_S D 1 nsM h a d (bx_A 1 nsM h a d F (ks κ).heap.size) (ks κ).heap G) 84 [.ref h, .null, .int (nI (cn_ (fun k => decide (G 4 k = nI k)) k)), .int (nI k)] [] := by
      intro n
      induction n with
      | zero =>
        intro k hn
        refine g_iload_n hx hb dX1_patches_84 rfl rfl ?_
        refine g_sipush hx hb (nI 256) dX1_patches_85 (by decide) ?_
        refine n_icmp_ge hx hb 110 dX1_patches_88 (by decide) (by omega) (by omega) (fun c_88 => ?_) (fun c_88 => ?_)
        · refine g_iload_n hx hb dX1_patches_110 rfl rfl ?_
          exact g_iret C hr hlk (⟨h1, by rw [show k = 256 by omega, np_M hI hS]⟩) dX1_patches_111
        · omega
      | succ n ih =>
        intro k hn
        have hcl := cn_le (fun k => decide (G 4 k = nI k)) k
        refine g_iload_n hx hb dX1_patches_84 rfl rfl ?_
        refine g_sipush hx hb (nI 256) dX1_patches_85 (by decide) ?_
        refine n_icmp_ge hx hb 110 dX1_patches_88 (by decide) (by omega) (by omega) (fun c_88 => ?_) (fun c_88 => ?_)
        · omega
        · refine g_aload_n hx hb dX1_patches_91 rfl rfl ?_
          refine g_get C 4 (by decide) q164 rfl dX1_patches_92 ?_
          refine g_iload_n hx hb dX1_patches_95 rfl rfl ?_
          refine g_ld C 4 256 rfl (by omega) (by decide) dX1_patches_96 ?_
          refine g_iload_n hx hb dX1_patches_97 rfl rfl ?_
          refine g_icmp_ne hx hb 104 dX1_patches_98 (by decide) (fun c_98 => ?_) (fun c_98 => ?_)
          · refine n_iinc (vs' := [.ref h, .null, .int (nI (cn_ (fun k => decide (G 4 k = nI k)) k)), .int (nI (k + 1))]) hx hb dX1_patches_104 rfl (by decide) rfl ?_
            refine g_goto hx hb 84 dX1_patches_107 (by decide) ?_
            have e_ := @cn_f (fun k => decide (G 4 k = nI k)) k (by simp [c_98])
            rw [← e_]
            exact ih (k + 1) (by omega)
          · refine n_iinc (vs' := [.ref h, .null, .int (nI (cn_ (fun k => decide (G 4 k = nI k)) k + 1)), .int (nI k)]) hx hb dX1_patches_101 rfl (by decide) rfl ?_
            refine n_iinc (vs' := [.ref h, .null, .int (nI (cn_ (fun k => decide (G 4 k = nI k)) k + 1)), .int (nI (k + 1))]) hx hb dX1_patches_104 rfl (by decide) rfl ?_
            refine g_goto hx hb 84 dX1_patches_107 (by decide) ?_
            have e_ := @cn_t (fun k => decide (G 4 k = nI k)) k (by simp [c_98])
            rw [← e_]
            exact ih (k + 1) (by omega)
    refine g_iconst hx hb (nI 0) dX1_patches_80 (by decide) ?_
    refine g_istore_n (vs' := [.ref h, .null, .int (nI 0), .null]) hx hb dX1_patches_81 rfl (by decide) rfl ?_
    refine g_iconst hx hb (nI 0) dX1_patches_82 (by decide) ?_
    refine g_istore_n (vs' := [.ref h, .null, .int (nI 0), .int (nI 0)]) hx hb dX1_patches_83 rfl (by decide) rfl ?_
    exact loop 256 0 rfl
  have stop_ : ∀ (G : bx_F), (∀ k, k ≠ 4 → G k = F k) → mk_I (F 0) (G 4) → (∀ q, q < 256 → 0 < F 0 q → mk_S (G 4) q) → bx_G κ (bx_Qi κ D 1 nsM h a d F (po_pat 4 F)) 4 0 0 (bx_S D 1 nsM h a d (bx_A 1 nsM h a d F (ks κ).heap.size) (ks κ).heap G) 37 [.ref h, .int (nI 0), .null, .null] [] := by
    intro G h1 hI hS
    refine g_iload_n hx hb dX1_patches_37 rfl rfl ?_
    refine g_if_eq hx hb 80 dX1_patches_38 (by decide) (fun c_38 => ?_) (fun c_38 => ?_)
    · refine g_less (vs' := [.ref h, .null, .null, .null]) (fun q v hv => by rcases q with _ | _ | _ | _ | q <;> simp at hv ⊢ <;> simp [hv]) ?_
      exact fin G h1 hI hS
    · exact absurd rfl c_38
  have more_ : ∀ (n : Nat) (G : bx_F), ms_ (G 4) ≤ n → (∀ k, k ≠ 4 → G k = F k) → mk_I (F 0) (G 4) → bx_G κ (bx_Qi κ D 1 nsM h a d F (po_pat 4 F)) 4 0 0 (bx_S D 1 nsM h a d (bx_A 1 nsM h a d F (ks κ).heap.size) (ks κ).heap G) 37 [.ref h, .int (nI 1), .null, .null] [] := by
    intro n
    induction n using Nat.strongRecOn with
    | ind n ihw =>
      intro G0 hn0 h10 hI0
      have pass : ∀ (n i : Nat) (b : Int32) (G : bx_F), i + n = 256 → pp_ F G0 (F 0) i b G → bx_G κ (bx_Qi κ D 1 nsM h a d F (po_pat 4 F)) 4 0 0 (bx_S D 1 nsM h a d (bx_A 1 nsM h a d F (ks κ).heap.size) (ks κ).heap G) 45 [.ref h, .int b, .int (nI i), .null] [] := by
        intro n
        induction n with
        | zero =>
          intro i b G hn hp
          refine g_iload_n hx hb dX1_patches_45 rfl rfl ?_
          refine g_sipush hx hb (nI 256) dX1_patches_46 (by decide) ?_
          refine n_icmp_ge hx hb 77 dX1_patches_49 (by decide) (by omega) (by omega) (fun c_49 => ?_) (fun c_49 => ?_)
          · refine g_goto hx hb 37 dX1_patches_77 (by decide) ?_
            refine g_less (vs' := [.ref h, .int b, .null, .null]) (fun q v hv => by rcases q with _ | _ | _ | _ | q <;> simp at hv ⊢ <;> simp [hv]) ?_
            have e256 : i = 256 := by omega
            subst e256
            obtain ⟨h1, hI, hb3⟩ := hp
            rcases hb3 with ⟨eb, eG, hS⟩ | ⟨eb, hlt⟩
            · rw [eb, eG]; exact stop_ G0 h10 hI0 hS
            · rw [eb]; exact ihw (ms_ (G 4)) (by omega) G (Nat.le_refl _) h1 hI
          · omega
        | succ n ih =>
          intro i b G hn hp
          refine g_iload_n hx hb dX1_patches_45 rfl rfl ?_
          refine g_sipush hx hb (nI 256) dX1_patches_46 (by decide) ?_
          refine n_icmp_ge hx hb 77 dX1_patches_49 (by decide) (by omega) (by omega) (fun c_49 => ?_) (fun c_49 => ?_)
          · omega
          · have i256 : i < 256 := by omega
            refine g_aload_n hx hb dX1_patches_52 rfl rfl ?_
            refine g_get C 4 (by decide) q164 rfl dX1_patches_53 ?_
            refine g_iload_n hx hb dX1_patches_56 rfl rfl ?_
            refine g_ld C 4 256 rfl (by omega) (by decide) dX1_patches_57 ?_
            refine g_if_lt hx hb 71 dX1_patches_58 (by decide) (fun c_58 => ?_) (fun c_58 => ?_)
            · refine n_iinc (vs' := [.ref h, .int b, .int (nI (i + 1)), .null]) hx hb dX1_patches_71 rfl (by decide) rfl ?_
              refine g_goto hx hb 45 dX1_patches_74 (by decide) ?_
              exact ih (i + 1) b G (by omega) (pp_skip hp (fun q => absurd c_58 ((mk_pos hp.2.1 i256).mpr q)))
            · have hv : 0 < F 0 i := (mk_pos hp.2.1 i256).mp c_58
              refine g_aload_n hx hb dX1_patches_61 rfl rfl ?_
              refine g_iload_n hx hb dX1_patches_62 rfl rfl ?_
              refine g_calli C hA (n := 1) (rest := []) (mM_spread (kl κ) D d h a G (F 0) i hp.2.1 hv i256) (lw_V q252 q254 qs13 q17 q255) (by decide +kernel) rfl ⟨rfl, rfl⟩ ⟨by rw [eR]; decide, by rw [eR]; decide⟩ rfl (Nat.le_of_ble_eq_true rfl) dX1_patches_63 (fun x_63 u_63 p_63 => ?_)
              obtain ⟨u1, u2, u3⟩ := p_63
              refine g_if_eq hx hb 71 dX1_patches_66 (by decide) (fun c_66 => ?_) (fun c_66 => ?_)
              · rcases u3 with ⟨t1, t2, t3⟩ | ⟨t1, t2⟩
                · rw [t2]
                  refine n_iinc (vs' := [.ref h, .int b, .int (nI (i + 1)), .null]) hx hb dX1_patches_71 rfl (by decide) rfl ?_
                  refine g_goto hx hb 45 dX1_patches_74 (by decide) ?_
                  exact ih (i + 1) b G (by omega) (pp_skip hp (fun _ => t3))
                · exact absurd (t1.symm.trans c_66) (by decide)
              · rcases u3 with ⟨t1, t2, t3⟩ | ⟨t1, t2⟩
                · exact absurd (t1.trans nI_0) c_66
                · refine g_iconst hx hb (nI 1) dX1_patches_69 (by decide) ?_
                  refine g_istore_n (vs' := [.ref h, .int (nI 1), .int (nI i), .null]) hx hb dX1_patches_70 rfl (by decide) rfl ?_
                  refine n_iinc (vs' := [.ref h, .int (nI 1), .int (nI (i + 1)), .null]) hx hb dX1_patches_71 rfl (by decide) rfl ?_
                  refine g_goto hx hb 45 dX1_patches_74 (by decide) ?_
                  exact ih (i + 1) _ _ (by omega) (pp_hit hp u1 u2 t2)
      refine g_iload_n hx hb dX1_patches_37 rfl rfl ?_
      refine g_if_eq hx hb 80 dX1_patches_38 (by decide) (fun c_38 => ?_) (fun c_38 => ?_)
      · exact absurd c_38 (by decide)
      · refine g_iconst hx hb (nI 0) dX1_patches_41 (by decide) ?_
        refine g_istore_n (vs' := [.ref h, .int (nI 0), .null, .null]) hx hb dX1_patches_42 rfl (by decide) rfl ?_
        refine g_iconst hx hb (nI 0) dX1_patches_43 (by decide) ?_
        refine g_istore_n (vs' := [.ref h, .int (nI 0), .int (nI 0), .null]) hx hb dX1_patches_44 rfl (by decide) rfl ?_
        exact pass 256 0 _ G0 rfl ⟨h10, hI0, Or.inl ⟨rfl, rfl, fun q hq => absurd hq (Nat.not_lt_zero _)⟩⟩
  have marks : ∀ (n i : Nat) (G : bx_F), i + n = 256 → (∀ k, k ≠ 4 → G k = F k) → (∀ j, j < i → (0 < F 0 j → G 4 j = nI j) ∧ (¬ 0 < F 0 j → G 4 j = -1)) → bx_G κ (bx_Qi κ D 1 nsM h a d F (po_pat 4 F)) 4 0 0 (bx_S D 1 nsM h a d (bx_A 1 nsM h a d F (ks κ).heap.size) (ks κ).heap G) 2 [.ref h, .int (nI i), .null, .null] [] := by
    intro n
    induction n with
    | zero =>
      intro i G hn h1 h2
      refine g_iload_n hx hb dX1_patches_2 rfl rfl ?_
      refine g_sipush hx hb (nI 256) dX1_patches_3 (by decide) ?_
      refine n_icmp_ge hx hb 35 dX1_patches_6 (by decide) (by omega) (by omega) (fun c_6 => ?_) (fun c_6 => ?_)
      · refine g_iconst hx hb (nI 1) dX1_patches_35 (by decide) ?_
        refine g_istore_n (vs' := [.ref h, .int (nI 1), .null, .null]) hx hb dX1_patches_36 rfl (by decide) rfl ?_
        exact more_ _ G (Nat.le_refl _) h1 (fun k hk => ⟨fun q => ⟨k, (h2 k (by omega)).1 q, Nat.le_refl _, cj_refl _ _⟩, (h2 k (by omega)).2⟩)
      · omega
    | succ n ih =>
      intro i G hn h1 h2
      refine g_iload_n hx hb dX1_patches_2 rfl rfl ?_
      refine g_sipush hx hb (nI 256) dX1_patches_3 (by decide) ?_
      refine n_icmp_ge hx hb 35 dX1_patches_6 (by decide) (by omega) (by omega) (fun c_6 => ?_) (fun c_6 => ?_)
      · omega
      · have g0 : G 0 = F 0 := h1 0 (by decide)
        refine g_aload_n hx hb dX1_patches_9 rfl rfl ?_
        refine g_get C 4 (by decide) q164 rfl dX1_patches_10 ?_
        refine g_iload_n hx hb dX1_patches_13 rfl rfl ?_
        refine g_aload_n hx hb dX1_patches_14 rfl rfl ?_
        refine g_get C 0 (by decide) q160 rfl dX1_patches_15 ?_
        refine g_iload_n hx hb dX1_patches_18 rfl rfl ?_
        refine g_ld C 0 256 rfl (by omega) (by decide) dX1_patches_19 ?_
        refine g_top (y := F 0 i) (congrFun g0 _) ?_
        refine g_if_le hx hb 27 dX1_patches_20 (by decide) (fun c_20 => ?_) (fun c_20 => ?_)
        · refine g_iconst hx hb ((-1)) dX1_patches_27 (by decide) ?_
          refine g_st C 4 256 rfl (by omega) (by decide) dX1_patches_28 ?_
          refine n_iinc (vs' := [.ref h, .int (nI (i + 1)), .null, .null]) hx hb dX1_patches_29 rfl (by decide) rfl ?_
          refine g_goto hx hb 2 dX1_patches_32 (by decide) ?_
          refine ih (i + 1) _ (by omega) (fun k hk => (va_up_ne _ _ hk).trans (h1 k hk)) (fun j hj => ?_)
          rw [va_up_self]
          by_cases e : j = i
          · rw [e, pk_us]; exact ⟨fun q => absurd c_20 (Int32.not_le.mpr q), fun _ => rfl⟩
          · rw [pk_un e]; exact h2 j (by omega)
        · refine g_iload_n hx hb dX1_patches_23 rfl rfl ?_
          refine g_goto hx hb 28 dX1_patches_24 (by decide) ?_
          refine g_st C 4 256 rfl (by omega) (by decide) dX1_patches_28 ?_
          refine n_iinc (vs' := [.ref h, .int (nI (i + 1)), .null, .null]) hx hb dX1_patches_29 rfl (by decide) rfl ?_
          refine g_goto hx hb 2 dX1_patches_32 (by decide) ?_
          refine ih (i + 1) _ (by omega) (fun k hk => (va_up_ne _ _ hk).trans (h1 k hk)) (fun j hj => ?_)
          rw [va_up_self]
          by_cases e : j = i
          · rw [e, pk_us]; exact ⟨fun _ => rfl, fun q => absurd (Int32.not_le.mp c_20) q⟩
          · rw [pk_un e]; exact h2 j (by omega)
  refine g_iconst hx hb (nI 0) dX1_patches_0 (by decide) ?_
  refine g_istore_n (vs' := [.ref h, .int (nI 0), .null, .null]) hx hb dX1_patches_1 rfl (by decide) rfl ?_
  exact marks 256 0 F rfl (fun _ _ => rfl) (fun j hj => absurd hj (Nat.not_lt_zero _))
end
section
set_option maxRecDepth 100000
/-- all arrays of int are of one kind -/
theorem kk_same {D : va_G} {cl : List vw_C} {tys : List (ClassId × FieldType)} {U : State} (h : va_K D cl tys U) {i j : Nat} {c1 c2 : ClassId} (h1 : tys[i]? = some (c1, .int)) (h2 : tys[j]? = some (c2, .int)) : c1 = c2 := by
  have a1 : U.vm.findClass ("[" ++ FieldType.int.toString) = some c1 := (h.2 i _ h1).2
  have a2 : U.vm.findClass ("[" ++ FieldType.int.toString) = some c2 := (h.2 j _ h2).2
  exact Option.some.inj (a1.symm.trans a2)
theorem upd_0 (k : Nat) : upd (fun _ => 0) k 0 = fun _ => 0 := by
  funext j
  unfold upd
  split <;> rfl
abbrev rmX : Room := { frames := 1, cells := 7, slots := 1345, locals := 12 }
abbrev rmM : Room := { frames := 1, cells := 5, slots := 1280, locals := 12 }
set_option maxHeartbeats 4000000 in
theorem mX_init (l : Launch) (D : va_G) (h : Nat) (sz : Nat) : Met l yX0_init (ws_ yX0_init cX0_init 1 none) rmX (va_Pc [.ref h] (fun U => U.heap.size = sz ∧ va_P D vwCl [(h, .inr (0, [.null, .null, .null, .null, .null, .null, .null]))] U.heap ∧ va_K D vwCl [] U ∧ va_D (fun _ => True) [(h, .inr (0, [.null, .null, .null, .null, .null, .null, .null]))])) (va_Qv (fun (_ : (Nat → Nat) × ClassId) => True) (fun u t => bx_B D 0 nsX h u.1 u.2 (va_A [(h, .inr (0, [.null, .null, .null, .null, .null, .null, .null]))] sz) (fun _ _ => 0) t) (va_A [(h, .inr (0, [.null, .null, .null, .null, .null, .null, .null]))] sz)) 7 1345 (va_A [(h, .inr (0, [.null, .null, .null, .null, .null, .null, .null]))] sz) := by
  refine Met.ofW (cc := cX0_init) (maxL := 1) (ret := none) (by decide) rfl ?_
  intro p e s m args below meth c s₁ B hml hv
  obtain ⟨rfl, hsz, hP, hK, hD0⟩ := hv
  have hx := B.exec
  have hb := B.bytes
  have hr := B.returns
  have hts := atoms_spec (ws := ws_ yX0_init cX0_init 1 none) B.pre
  have hts : ∀ w ∈ lw_all, w.before _ s = true := fun w h => hts w (List.mem_cons_of_mem _ h)
  have hown : s.vm.findClass RX0 = some m.cls := findClass_of_methodNamed B.named
  have hlocks := B.notSynchronized
  have hin : meth.name = "<init>" := (name_of_methodNamed B.named B.method).1
  subst hsz
  have hD := hD0.self (sz := s.heap.size)
  generalize hAe : va_A [(h, .inr (0, [.null, .null, .null, .null, .null, .null, .null]))] s.heap.size = A at hD ⊢
  have hA : ∀ q : Nat, s.heap.size ≤ q → A q := fun q h => by rw [← hAe]; exact Or.inr h
  have hS : va_S A s.heap s.heap [] := va_S.rf
  have hl := lv_entry ([.ref h]) (n := 1) (Nat.le_of_ble_eq_true rfl)
  rw [lg_entry_eq]
  generalize (lg_sl ([.ref h]) ++ List.replicate (1 - (lg_sl ([.ref h])).length) Slot.unset).toArray = ls at hl ⊢
  have hl : lv_has ls 1 [(0, .ref h)] := hl
  refine lv_aload_n hx hb dX0_init_0 rfl (lv_at hl 0 rfl) ?_
  refine W.objInit hx hb hown (hts _ q23) (hts _ q24) (hts _ q25) rfl (by rw [hml]; exact hl.1) rfl dX0_init_1 (Nat.le_of_ble_eq_true rfl) (Nat.le_of_ble_eq_true rfl) ?_
  refine W.eq (g2 := F0 m 4 ls []) rfl ?_
  refine lv_aload_n hx hb dX0_init_4 rfl (lv_at hl 0 rfl) ?_
  refine lv_sipush (v := nI 256) hx hb dX0_init_5 (by decide) ?_
  refine va_newa (atype := .int) (ty := .int) (a0 := (256, .inl (fun _ => 0))) (N' := 256) hx hb (hts _ q48) rfl hK hP hD hS hA (fun _ => rfl) (by decide) (by decide) (by decide) (Nat.le_of_ble_eq_true rfl) (Nat.le_of_ble_eq_true rfl) dX0_init_8 (fun q0 d0 H hK hP hD hS => ?_)
  have hK : va_K D vwCl [(d0, .int)] s := hK
  have hP : va_P D vwCl [(h, .inr (0, [.null, .null, .null, .null, .null, .null, .null])), (q0, .inl (d0, 256, .inl (fun _ => 0)))] H := hP
  have hD : va_D A [(h, .inr (0, [.null, .null, .null, .null, .null, .null, .null])), (q0, .inl (d0, 256, .inl (fun _ => 0)))] := hD
  refine W.widen (k := 1) (n := 256) (Nat.le_of_ble_eq_true rfl) (Nat.le_of_ble_eq_true rfl) ?_
  refine va_putF (D := D) (ci := 0) (v := .ref q0) (ty := .array .int) (C := RX0) (T := TX0) (N := 7) hx hb hts in_X0 tyX0 tyX0_ok nmX0 hown hK hP hD hS 0 rfl rfl 0 (by decide) (hts _ q26) (fun _ h9 => h9) rfl hin rfl (by decide +kernel) rfl rfl (Nat.le_of_ble_eq_true rfl) dX0_init_10 (fun H locs hP hD hS => ?_)
  have hP : va_P D vwCl [(h, .inr (0, [.ref q0, .null, .null, .null, .null, .null, .null])), (q0, .inl (d0, 256, .inl (fun _ => 0)))] H := hP
  have hD : va_D A [(h, .inr (0, [.ref q0, .null, .null, .null, .null, .null, .null])), (q0, .inl (d0, 256, .inl (fun _ => 0)))] := hD
  refine lv_aload_n hx hb dX0_init_13 rfl (lv_at hl 0 rfl) ?_
  refine lv_sipush (v := nI 256) hx hb dX0_init_14 (by decide) ?_
  refine va_newa (atype := .int) (ty := .int) (a0 := (256, .inl (fun _ => 0))) (N' := 256) hx hb (hts _ q48) rfl hK hP hD hS hA (fun _ => rfl) (by decide) (by decide) (by decide) (Nat.le_of_ble_eq_true rfl) (Nat.le_of_ble_eq_true rfl) dX0_init_17 (fun q1 d1 H hK hP hD hS => ?_)
  obtain rfl : d0 = d1 := kk_same hK (i := 0) (j := 1) rfl rfl
  have hK := hK.sub (tys' := [(d0, .int)]) [0] rfl
  have hP : va_P D vwCl [(h, .inr (0, [.ref q0, .null, .null, .null, .null, .null, .null])), (q0, .inl (d0, 256, .inl (fun _ => 0))), (q1, .inl (d0, 256, .inl (fun _ => 0)))] H := hP
  have hD : va_D A [(h, .inr (0, [.ref q0, .null, .null, .null, .null, .null, .null])), (q0, .inl (d0, 256, .inl (fun _ => 0))), (q1, .inl (d0, 256, .inl (fun _ => 0)))] := hD
  refine W.widen (k := 2) (n := 512) (Nat.le_of_ble_eq_true rfl) (Nat.le_of_ble_eq_true rfl) ?_
  refine va_putF (D := D) (ci := 0) (v := .ref q1) (ty := .array .int) (C := RX0) (T := TX0) (N := 7) hx hb hts in_X0 tyX0 tyX0_ok nmX0 hown hK hP hD hS 0 rfl rfl 1 (by decide) (hts _ q27) (fun _ h9 => h9) rfl hin rfl (by decide +kernel) rfl rfl (Nat.le_of_ble_eq_true rfl) dX0_init_19 (fun H locs hP hD hS => ?_)
  have hP : va_P D vwCl [(h, .inr (0, [.ref q0, .ref q1, .null, .null, .null, .null, .null])), (q0, .inl (d0, 256, .inl (fun _ => 0))), (q1, .inl (d0, 256, .inl (fun _ => 0)))] H := hP
  have hD : va_D A [(h, .inr (0, [.ref q0, .ref q1, .null, .null, .null, .null, .null])), (q0, .inl (d0, 256, .inl (fun _ => 0))), (q1, .inl (d0, 256, .inl (fun _ => 0)))] := hD
  refine lv_aload_n hx hb dX0_init_22 rfl (lv_at hl 0 rfl) ?_
  refine lv_sipush (v := nI 256) hx hb dX0_init_23 (by decide) ?_
  refine va_newa (atype := .int) (ty := .int) (a0 := (256, .inl (fun _ => 0))) (N' := 256) hx hb (hts _ q48) rfl hK hP hD hS hA (fun _ => rfl) (by decide) (by decide) (by decide) (Nat.le_of_ble_eq_true rfl) (Nat.le_of_ble_eq_true rfl) dX0_init_26 (fun q2 d1 H hK hP hD hS => ?_)
  obtain rfl : d0 = d1 := kk_same hK (i := 0) (j := 1) rfl rfl
  have hK := hK.sub (tys' := [(d0, .int)]) [0] rfl
  have hP : va_P D vwCl [(h, .inr (0, [.ref q0, .ref q1, .null, .null, .null, .null, .null])), (q0, .inl (d0, 256, .inl (fun _ => 0))), (q1, .inl (d0, 256, .inl (fun _ => 0))), (q2, .inl (d0, 256, .inl (fun _ => 0)))] H := hP
  have hD : va_D A [(h, .inr (0, [.ref q0, .ref q1, .null, .null, .null, .null, .null])), (q0, .inl (d0, 256, .inl (fun _ => 0))), (q1, .inl (d0, 256, .inl (fun _ => 0))), (q2, .inl (d0, 256, .inl (fun _ => 0)))] := hD
  refine W.widen (k := 3) (n := 768) (Nat.le_of_ble_eq_true rfl) (Nat.le_of_ble_eq_true rfl) ?_
  refine va_putF (D := D) (ci := 0) (v := .ref q2) (ty := .array .int) (C := RX0) (T := TX0) (N := 7) hx hb hts in_X0 tyX0 tyX0_ok nmX0 hown hK hP hD hS 0 rfl rfl 2 (by decide) (hts _ q28) (fun _ h9 => h9) rfl hin rfl (by decide +kernel) rfl rfl (Nat.le_of_ble_eq_true rfl) dX0_init_28 (fun H locs hP hD hS => ?_)
  have hP : va_P D vwCl [(h, .inr (0, [.ref q0, .ref q1, .ref q2, .null, .null, .null, .null])), (q0, .inl (d0, 256, .inl (fun _ => 0))), (q1, .inl (d0, 256, .inl (fun _ => 0))), (q2, .inl (d0, 256, .inl (fun _ => 0)))] H := hP
  have hD : va_D A [(h, .inr (0, [.ref q0, .ref q1, .ref q2, .null, .null, .null, .null])), (q0, .inl (d0, 256, .inl (fun _ => 0))), (q1, .inl (d0, 256, .inl (fun _ => 0))), (q2, .inl (d0, 256, .inl (fun _ => 0)))] := hD
  refine lv_aload_n hx hb dX0_init_31 rfl (lv_at hl 0 rfl) ?_
  refine lv_bipush (v := nI 16) hx hb dX0_init_32 (by decide) ?_
  refine va_newa (atype := .int) (ty := .int) (a0 := (16, .inl (fun _ => 0))) (N' := 16) hx hb (hts _ q48) rfl hK hP hD hS hA (fun _ => rfl) (by decide) (by decide) (by decide) (Nat.le_of_ble_eq_true rfl) (Nat.le_of_ble_eq_true rfl) dX0_init_34 (fun q3 d1 H hK hP hD hS => ?_)
  obtain rfl : d0 = d1 := kk_same hK (i := 0) (j := 1) rfl rfl
  have hK := hK.sub (tys' := [(d0, .int)]) [0] rfl
  have hP : va_P D vwCl [(h, .inr (0, [.ref q0, .ref q1, .ref q2, .null, .null, .null, .null])), (q0, .inl (d0, 256, .inl (fun _ => 0))), (q1, .inl (d0, 256, .inl (fun _ => 0))), (q2, .inl (d0, 256, .inl (fun _ => 0))), (q3, .inl (d0, 16, .inl (fun _ => 0)))] H := hP
  have hD : va_D A [(h, .inr (0, [.ref q0, .ref q1, .ref q2, .null, .null, .null, .null])), (q0, .inl (d0, 256, .inl (fun _ => 0))), (q1, .inl (d0, 256, .inl (fun _ => 0))), (q2, .inl (d0, 256, .inl (fun _ => 0))), (q3, .inl (d0, 16, .inl (fun _ => 0)))] := hD
  refine W.widen (k := 4) (n := 784) (Nat.le_of_ble_eq_true rfl) (Nat.le_of_ble_eq_true rfl) ?_
  refine va_putF (D := D) (ci := 0) (v := .ref q3) (ty := .array .int) (C := RX0) (T := TX0) (N := 7) hx hb hts in_X0 tyX0 tyX0_ok nmX0 hown hK hP hD hS 0 rfl rfl 3 (by decide) (hts _ q29) (fun _ h9 => h9) rfl hin rfl (by decide +kernel) rfl rfl (Nat.le_of_ble_eq_true rfl) dX0_init_36 (fun H locs hP hD hS => ?_)
  have hP : va_P D vwCl [(h, .inr (0, [.ref q0, .ref q1, .ref q2, .ref q3, .null, .null, .null])), (q0, .inl (d0, 256, .inl (fun _ => 0))), (q1, .inl (d0, 256, .inl (fun _ => 0))), (q2, .inl (d0, 256, .inl (fun _ => 0))), (q3, .inl (d0, 16, .inl (fun _ => 0)))] H := hP
  have hD : va_D A [(h, .inr (0, [.ref q0, .ref q1, .ref q2, .ref q3, .null, .null, .null])), (q0, .inl (d0, 256, .inl (fun _ => 0))), (q1, .inl (d0, 256, .inl (fun _ => 0))), (q2, .inl (d0, 256, .inl (fun _ => 0))), (q3, .inl (d0, 16, .inl (fun _ => 0)))] := hD
  refine lv_aload_n hx hb dX0_init_39 rfl (lv_at hl 0 rfl) ?_
  refine lv_bipush (v := nI 16) hx hb dX0_init_40 (by decide) ?_
  refine va_newa (atype := .int) (ty := .int) (a0 := (16, .inl (fun _ => 0))) (N' := 16) hx hb (hts _ q48) rfl hK hP hD hS hA (fun _ => rfl) (by decide) (by decide) (by decide) (Nat.le_of_ble_eq_true rfl) (Nat.le_of_ble_eq_true rfl) dX0_init_42 (fun q4 d1 H hK hP hD hS => ?_)
  obtain rfl : d0 = d1 := kk_same hK (i := 0) (j := 1) rfl rfl
  have hK := hK.sub (tys' := [(d0, .int)]) [0] rfl
  have hP : va_P D vwCl [(h, .inr (0, [.ref q0, .ref q1, .ref q2, .ref q3, .null, .null, .null])), (q0, .inl (d0, 256, .inl (fun _ => 0))), (q1, .inl (d0, 256, .inl (fun _ => 0))), (q2, .inl (d0, 256, .inl (fun _ => 0))), (q3, .inl (d0, 16, .inl (fun _ => 0))), (q4, .inl (d0, 16, .inl (fun _ => 0)))] H := hP
  have hD : va_D A [(h, .inr (0, [.ref q0, .ref q1, .ref q2, .ref q3, .null, .null, .null])), (q0, .inl (d0, 256, .inl (fun _ => 0))), (q1, .inl (d0, 256, .inl (fun _ => 0))), (q2, .inl (d0, 256, .inl (fun _ => 0))), (q3, .inl (d0, 16, .inl (fun _ => 0))), (q4, .inl (d0, 16, .inl (fun _ => 0)))] := hD
  refine W.widen (k := 5) (n := 800) (Nat.le_of_ble_eq_true rfl) (Nat.le_of_ble_eq_true rfl) ?_
  refine va_putF (D := D) (ci := 0) (v := .ref q4) (ty := .array .int) (C := RX0) (T := TX0) (N := 7) hx hb hts in_X0 tyX0 tyX0_ok nmX0 hown hK hP hD hS 0 rfl rfl 4 (by decide) (hts _ q30) (fun _ h9 => h9) rfl hin rfl (by decide +kernel) rfl rfl (Nat.le_of_ble_eq_true rfl) dX0_init_44 (fun H locs hP hD hS => ?_)
  have hP : va_P D vwCl [(h, .inr (0, [.ref q0, .ref q1, .ref q2, .ref q3, .ref q4, .null, .null])), (q0, .inl (d0, 256, .inl (fun _ => 0))), (q1, .inl (d0, 256, .inl (fun _ => 0))), (q2, .inl (d0, 256, .inl (fun _ => 0))), (q3, .inl (d0, 16, .inl (fun _ => 0))), (q4, .inl (d0, 16, .inl (fun _ => 0)))] H := hP
  have hD : va_D A [(h, .inr (0, [.ref q0, .ref q1, .ref q2, .ref q3, .ref q4, .null, .null])), (q0, .inl (d0, 256, .inl (fun _ => 0))), (q1, .inl (d0, 256, .inl (fun _ => 0))), (q2, .inl (d0, 256, .inl (fun _ => 0))), (q3, .inl (d0, 16, .inl (fun _ => 0))), (q4, .inl (d0, 16, .inl (fun _ => 0)))] := hD
  refine lv_aload_n hx hb dX0_init_47 rfl (lv_at hl 0 rfl) ?_
  refine lv_sipush (v := nI 289) hx hb dX0_init_48 (by decide) ?_
  refine va_newa (atype := .int) (ty := .int) (a0 := (289, .inl (fun _ => 0))) (N' := 289) hx hb (hts _ q48) rfl hK hP hD hS hA (fun _ => rfl) (by decide) (by decide) (by decide) (Nat.le_of_ble_eq_true rfl) (Nat.le_of_ble_eq_true rfl) dX0_init_51 (fun q5 d1 H hK hP hD hS => ?_)
  obtain rfl : d0 = d1 := kk_same hK (i := 0) (j := 1) rfl rfl
  have hK := hK.sub (tys' := [(d0, .int)]) [0] rfl
  have hP : va_P D vwCl [(h, .inr (0, [.ref q0, .ref q1, .ref q2, .ref q3, .ref q4, .null, .null])), (q0, .inl (d0, 256, .inl (fun _ => 0))), (q1, .inl (d0, 256, .inl (fun _ => 0))), (q2, .inl (d0, 256, .inl (fun _ => 0))), (q3, .inl (d0, 16, .inl (fun _ => 0))), (q4, .inl (d0, 16, .inl (fun _ => 0))), (q5, .inl (d0, 289, .inl (fun _ => 0)))] H := hP
  have hD : va_D A [(h, .inr (0, [.ref q0, .ref q1, .ref q2, .ref q3, .ref q4, .null, .null])), (q0, .inl (d0, 256, .inl (fun _ => 0))), (q1, .inl (d0, 256, .inl (fun _ => 0))), (q2, .inl (d0, 256, .inl (fun _ => 0))), (q3, .inl (d0, 16, .inl (fun _ => 0))), (q4, .inl (d0, 16, .inl (fun _ => 0))), (q5, .inl (d0, 289, .inl (fun _ => 0)))] := hD
  refine W.widen (k := 6) (n := 1089) (Nat.le_of_ble_eq_true rfl) (Nat.le_of_ble_eq_true rfl) ?_
  refine va_putF (D := D) (ci := 0) (v := .ref q5) (ty := .array .int) (C := RX0) (T := TX0) (N := 7) hx hb hts in_X0 tyX0 tyX0_ok nmX0 hown hK hP hD hS 0 rfl rfl 5 (by decide) (hts _ q31) (fun _ h9 => h9) rfl hin rfl (by decide +kernel) rfl rfl (Nat.le_of_ble_eq_true rfl) dX0_init_53 (fun H locs hP hD hS => ?_)
  have hP : va_P D vwCl [(h, .inr (0, [.ref q0, .ref q1, .ref q2, .ref q3, .ref q4, .ref q5, .null])), (q0, .inl (d0, 256, .inl (fun _ => 0))), (q1, .inl (d0, 256, .inl (fun _ => 0))), (q2, .inl (d0, 256, .inl (fun _ => 0))), (q3, .inl (d0, 16, .inl (fun _ => 0))), (q4, .inl (d0, 16, .inl (fun _ => 0))), (q5, .inl (d0, 289, .inl (fun _ => 0)))] H := hP
  have hD : va_D A [(h, .inr (0, [.ref q0, .ref q1, .ref q2, .ref q3, .ref q4, .ref q5, .null])), (q0, .inl (d0, 256, .inl (fun _ => 0))), (q1, .inl (d0, 256, .inl (fun _ => 0))), (q2, .inl (d0, 256, .inl (fun _ => 0))), (q3, .inl (d0, 16, .inl (fun _ => 0))), (q4, .inl (d0, 16, .inl (fun _ => 0))), (q5, .inl (d0, 289, .inl (fun _ => 0)))] := hD
  refine lv_aload_n hx hb dX0_init_56 rfl (lv_at hl 0 rfl) ?_
  refine lv_sipush (v := nI 256) hx hb dX0_init_57 (by decide) ?_
  refine va_newa (atype := .int) (ty := .int) (a0 := (256, .inl (fun _ => 0))) (N' := 256) hx hb (hts _ q48) rfl hK hP hD hS hA (fun _ => rfl) (by decide) (by decide) (by decide) (Nat.le_of_ble_eq_true rfl) (Nat.le_of_ble_eq_true rfl) dX0_init_60 (fun q6 d1 H hK hP hD hS => ?_)
  obtain rfl : d0 = d1 := kk_same hK (i := 0) (j := 1) rfl rfl
  have hK := hK.sub (tys' := [(d0, .int)]) [0] rfl
  have hP : va_P D vwCl [(h, .inr (0, [.ref q0, .ref q1, .ref q2, .ref q3, .ref q4, .ref q5, .null])), (q0, .inl (d0, 256, .inl (fun _ => 0))), (q1, .inl (d0, 256, .inl (fun _ => 0))), (q2, .inl (d0, 256, .inl (fun _ => 0))), (q3, .inl (d0, 16, .inl (fun _ => 0))), (q4, .inl (d0, 16, .inl (fun _ => 0))), (q5, .inl (d0, 289, .inl (fun _ => 0))), (q6, .inl (d0, 256, .inl (fun _ => 0)))] H := hP
  have hD : va_D A [(h, .inr (0, [.ref q0, .ref q1, .ref q2, .ref q3, .ref q4, .ref q5, .null])), (q0, .inl (d0, 256, .inl (fun _ => 0))), (q1, .inl (d0, 256, .inl (fun _ => 0))), (q2, .inl (d0, 256, .inl (fun _ => 0))), (q3, .inl (d0, 16, .inl (fun _ => 0))), (q4, .inl (d0, 16, .inl (fun _ => 0))), (q5, .inl (d0, 289, .inl (fun _ => 0))), (q6, .inl (d0, 256, .inl (fun _ => 0)))] := hD
  refine W.widen (k := 7) (n := 1345) (Nat.le_of_ble_eq_true rfl) (Nat.le_of_ble_eq_true rfl) ?_
  refine va_putF (D := D) (ci := 0) (v := .ref q6) (ty := .array .int) (C := RX0) (T := TX0) (N := 7) hx hb hts in_X0 tyX0 tyX0_ok nmX0 hown hK hP hD hS 0 rfl rfl 6 (by decide) (hts _ q32) (fun _ h9 => h9) rfl hin rfl (by decide +kernel) rfl rfl (Nat.le_of_ble_eq_true rfl) dX0_init_62 (fun H locs hP hD hS => ?_)
  have hP : va_P D vwCl [(h, .inr (0, [.ref q0, .ref q1, .ref q2, .ref q3, .ref q4, .ref q5, .ref q6])), (q0, .inl (d0, 256, .inl (fun _ => 0))), (q1, .inl (d0, 256, .inl (fun _ => 0))), (q2, .inl (d0, 256, .inl (fun _ => 0))), (q3, .inl (d0, 16, .inl (fun _ => 0))), (q4, .inl (d0, 16, .inl (fun _ => 0))), (q5, .inl (d0, 289, .inl (fun _ => 0))), (q6, .inl (d0, 256, .inl (fun _ => 0)))] H := hP
  have hD : va_D A [(h, .inr (0, [.ref q0, .ref q1, .ref q2, .ref q3, .ref q4, .ref q5, .ref q6])), (q0, .inl (d0, 256, .inl (fun _ => 0))), (q1, .inl (d0, 256, .inl (fun _ => 0))), (q2, .inl (d0, 256, .inl (fun _ => 0))), (q3, .inl (d0, 16, .inl (fun _ => 0))), (q4, .inl (d0, 16, .inl (fun _ => 0))), (q5, .inl (d0, 289, .inl (fun _ => 0))), (q6, .inl (d0, 256, .inl (fun _ => 0)))] := hD
  refine lv_aload_n hx hb dX0_init_65 rfl (lv_at hl 0 rfl) ?_
  refine va_get (D := D) (ci := 0) (v := .ref q0) (C := RX0) (T := TX0) (N := 7) hx hb hts in_X0 hown hK hP 0 rfl rfl 0 (by decide) (hts _ q26) (fun _ h9 => h9) rfl dX0_init_66 ?_
  refine lv_iconst (v := nI 0) hx hb dX0_init_69 (by decide) ?_
  refine lv_iconst (v := 0) hx hb dX0_init_70 (by decide) ?_
  refine va_iast hx hb hK hP hD hS 1 0 rfl rfl (vp_in_nI (n := 0) (by decide) (by decide)) dX0_init_71 (fun H locs hP hD hS => ?_)
  rw [upd_0] at hP hD
  have hP : va_P D vwCl [(h, .inr (0, [.ref q0, .ref q1, .ref q2, .ref q3, .ref q4, .ref q5, .ref q6])), (q0, .inl (d0, 256, .inl (fun _ => 0))), (q1, .inl (d0, 256, .inl (fun _ => 0))), (q2, .inl (d0, 256, .inl (fun _ => 0))), (q3, .inl (d0, 16, .inl (fun _ => 0))), (q4, .inl (d0, 16, .inl (fun _ => 0))), (q5, .inl (d0, 289, .inl (fun _ => 0))), (q6, .inl (d0, 256, .inl (fun _ => 0)))] H := hP
  have hD : va_D A [(h, .inr (0, [.ref q0, .ref q1, .ref q2, .ref q3, .ref q4, .ref q5, .ref q6])), (q0, .inl (d0, 256, .inl (fun _ => 0))), (q1, .inl (d0, 256, .inl (fun _ => 0))), (q2, .inl (d0, 256, .inl (fun _ => 0))), (q3, .inl (d0, 16, .inl (fun _ => 0))), (q4, .inl (d0, 16, .inl (fun _ => 0))), (q5, .inl (d0, 289, .inl (fun _ => 0))), (q6, .inl (d0, 256, .inl (fun _ => 0)))] := hD
  have hP9 : va_P D vwCl (bx_w 0 nsX h (fun k => [q0, q1, q2, q3, q4, q5, q6].getD k 0) d0 (fun _ _ => 0)) H := hP
  have hD9 : va_D A (bx_w 0 nsX h (fun k => [q0, q1, q2, q3, q4, q5, q6].getD k 0) d0 (fun _ _ => 0)) := hD
  exact W.vret hx hb hr (fun t ht hW => ⟨⟨(fun k => [q0, q1, q2, q3, q4, q5, q6].getD k 0, d0), rfl, trivial, by rw [ht]; exact hP9, va_K.moved hW.alike hK, hD9⟩, hS.F ht⟩) hS.2.2 dX0_init_72
set_option maxHeartbeats 4000000 in
theorem mM_init (l : Launch) (D : va_G) (h : Nat) (sz : Nat) : Met l yX1_init (ws_ yX1_init cX1_init 1 none) rmM (va_Pc [.ref h] (fun U => U.heap.size = sz ∧ va_P D vwCl [(h, .inr (1, [.null, .null, .null, .null, .null]))] U.heap ∧ va_K D vwCl [] U ∧ va_D (fun _ => True) [(h, .inr (1, [.null, .null, .null, .null, .null]))])) (va_Qv (fun (_ : (Nat → Nat) × ClassId) => True) (fun u t => bx_B D 1 nsM h u.1 u.2 (va_A [(h, .inr (1, [.null, .null, .null, .null, .null]))] sz) (fun _ _ => 0) t) (va_A [(h, .inr (1, [.null, .null, .null, .null, .null]))] sz)) 5 1280 (va_A [(h, .inr (1, [.null, .null, .null, .null, .null]))] sz) := by
  refine Met.ofW (cc := cX1_init) (maxL := 1) (ret := none) (by decide) rfl ?_
  intro p e s m args below meth c s₁ B hml hv
  obtain ⟨rfl, hsz, hP, hK, hD0⟩ := hv
  have hx := B.exec
  have hb := B.bytes
  have hr := B.returns
  have hts := atoms_spec (ws := ws_ yX1_init cX1_init 1 none) B.pre
  have hts : ∀ w ∈ lw_all, w.before _ s = true := fun w h => hts w (List.mem_cons_of_mem _ h)
  have hown : s.vm.findClass RX1 = some m.cls := findClass_of_methodNamed B.named
  have hlocks := B.notSynchronized
  have hin : meth.name = "<init>" := (name_of_methodNamed B.named B.method).1
  subst hsz
  have hD := hD0.self (sz := s.heap.size)
  generalize hAe : va_A [(h, .inr (1, [.null, .null, .null, .null, .null]))] s.heap.size = A at hD ⊢
  have hA : ∀ q : Nat, s.heap.size ≤ q → A q := fun q h => by rw [← hAe]; exact Or.inr h
  have hS : va_S A s.heap s.heap [] := va_S.rf
  have hl := lv_entry ([.ref h]) (n := 1) (Nat.le_of_ble_eq_true rfl)
  rw [lg_entry_eq]
  generalize (lg_sl ([.ref h]) ++ List.replicate (1 - (lg_sl ([.ref h])).length) Slot.unset).toArray = ls at hl ⊢
  have hl : lv_has ls 1 [(0, .ref h)] := hl
  refine lv_aload_n hx hb dX1_init_0 rfl (lv_at hl 0 rfl) ?_
  refine W.objInit hx hb hown (hts _ q159) (hts _ q24) (hts _ q25) rfl (by rw [hml]; exact hl.1) rfl dX1_init_1 (Nat.le_of_ble_eq_true rfl) (Nat.le_of_ble_eq_true rfl) ?_
  refine W.eq (g2 := F0 m 4 ls []) rfl ?_
  refine lv_aload_n hx hb dX1_init_4 rfl (lv_at hl 0 rfl) ?_
  refine lv_sipush (v := nI 256) hx hb dX1_init_5 (by decide) ?_
  refine va_newa (atype := .int) (ty := .int) (a0 := (256, .inl (fun _ => 0))) (N' := 256) hx hb (hts _ q48) rfl hK hP hD hS hA (fun _ => rfl) (by decide) (by decide) (by decide) (Nat.le_of_ble_eq_true rfl) (Nat.le_of_ble_eq_true rfl) dX1_init_8 (fun q0 d0 H hK hP hD hS => ?_)
  have hK : va_K D vwCl [(d0, .int)] s := hK
  have hP : va_P D vwCl [(h, .inr (1, [.null, .null, .null, .null, .null])), (q0, .inl (d0, 256, .inl (fun _ => 0)))] H := hP
  have hD : va_D A [(h, .inr (1, [.null, .null, .null, .null, .null])), (q0, .inl (d0, 256, .inl (fun _ => 0)))] := hD
  refine W.widen (k := 1) (n := 256) (Nat.le_of_ble_eq_true rfl) (Nat.le_of_ble_eq_true rfl) ?_
  refine va_putF (D := D) (ci := 1) (v := .ref q0) (ty := .array .int) (C := RX1) (T := TX1) (N := 5) hx hb hts in_X1 tyX1 tyX1_ok nmX1 hown hK hP hD hS 0 rfl rfl 0 (by decide) (hts _ q160) (fun _ h9 => h9) rfl hin rfl (by decide +kernel) rfl rfl (Nat.le_of_ble_eq_true rfl) dX1_init_10 (fun H locs hP hD hS => ?_)
  have hP : va_P D vwCl [(h, .inr (1, [.ref q0, .null, .null, .null, .null])), (q0, .inl (d0, 256, .inl (fun _ => 0)))] H := hP
  have hD : va_D A [(h, .inr (1, [.ref q0, .null, .null, .null, .null])), (q0, .inl (d0, 256, .inl (fun _ => 0)))] := hD
  refine lv_aload_n hx hb dX1_init_13 rfl (lv_at hl 0 rfl) ?_
  refine lv_sipush (v := nI 256) hx hb dX1_init_14 (by decide) ?_
  refine va_newa (atype := .int) (ty := .int) (a0 := (256, .inl (fun _ => 0))) (N' := 256) hx hb (hts _ q48) rfl hK hP hD hS hA (fun _ => rfl) (by decide) (by decide) (by decide) (Nat.le_of_ble_eq_true rfl) (Nat.le_of_ble_eq_true rfl) dX1_init_17 (fun q1 d1 H hK hP hD hS => ?_)
  obtain rfl : d0 = d1 := kk_same hK (i := 0) (j := 1) rfl rfl
  have hK := hK.sub (tys' := [(d0, .int)]) [0] rfl
  have hP : va_P D vwCl [(h, .inr (1, [.ref q0, .null, .null, .null, .null])), (q0, .inl (d0, 256, .inl (fun _ => 0))), (q1, .inl (d0, 256, .inl (fun _ => 0)))] H := hP
  have hD : va_D A [(h, .inr (1, [.ref q0, .null, .null, .null, .null])), (q0, .inl (d0, 256, .inl (fun _ => 0))), (q1, .inl (d0, 256, .inl (fun _ => 0)))] := hD
  refine W.widen (k := 2) (n := 512) (Nat.le_of_ble_eq_true rfl) (Nat.le_of_ble_eq_true rfl) ?_
  refine va_putF (D := D) (ci := 1) (v := .ref q1) (ty := .array .int) (C := RX1) (T := TX1) (N := 5) hx hb hts in_X1 tyX1 tyX1_ok nmX1 hown hK hP hD hS 0 rfl rfl 1 (by decide) (hts _ q161) (fun _ h9 => h9) rfl hin rfl (by decide +kernel) rfl rfl (Nat.le_of_ble_eq_true rfl) dX1_init_19 (fun H locs hP hD hS => ?_)
  have hP : va_P D vwCl [(h, .inr (1, [.ref q0, .ref q1, .null, .null, .null])), (q0, .inl (d0, 256, .inl (fun _ => 0))), (q1, .inl (d0, 256, .inl (fun _ => 0)))] H := hP
  have hD : va_D A [(h, .inr (1, [.ref q0, .ref q1, .null, .null, .null])), (q0, .inl (d0, 256, .inl (fun _ => 0))), (q1, .inl (d0, 256, .inl (fun _ => 0)))] := hD
  refine lv_aload_n hx hb dX1_init_22 rfl (lv_at hl 0 rfl) ?_
  refine lv_sipush (v := nI 256) hx hb dX1_init_23 (by decide) ?_
  refine va_newa (atype := .int) (ty := .int) (a0 := (256, .inl (fun _ => 0))) (N' := 256) hx hb (hts _ q48) rfl hK hP hD hS hA (fun _ => rfl) (by decide) (by decide) (by decide) (Nat.le_of_ble_eq_true rfl) (Nat.le_of_ble_eq_true rfl) dX1_init_26 (fun q2 d1 H hK hP hD hS => ?_)
  obtain rfl : d0 = d1 := kk_same hK (i := 0) (j := 1) rfl rfl
  have hK := hK.sub (tys' := [(d0, .int)]) [0] rfl
  have hP : va_P D vwCl [(h, .inr (1, [.ref q0, .ref q1, .null, .null, .null])), (q0, .inl (d0, 256, .inl (fun _ => 0))), (q1, .inl (d0, 256, .inl (fun _ => 0))), (q2, .inl (d0, 256, .inl (fun _ => 0)))] H := hP
  have hD : va_D A [(h, .inr (1, [.ref q0, .ref q1, .null, .null, .null])), (q0, .inl (d0, 256, .inl (fun _ => 0))), (q1, .inl (d0, 256, .inl (fun _ => 0))), (q2, .inl (d0, 256, .inl (fun _ => 0)))] := hD
  refine W.widen (k := 3) (n := 768) (Nat.le_of_ble_eq_true rfl) (Nat.le_of_ble_eq_true rfl) ?_
  refine va_putF (D := D) (ci := 1) (v := .ref q2) (ty := .array .int) (C := RX1) (T := TX1) (N := 5) hx hb hts in_X1 tyX1 tyX1_ok nmX1 hown hK hP hD hS 0 rfl rfl 2 (by decide) (hts _ q162) (fun _ h9 => h9) rfl hin rfl (by decide +kernel) rfl rfl (Nat.le_of_ble_eq_true rfl) dX1_init_28 (fun H locs hP hD hS => ?_)
  have hP : va_P D vwCl [(h, .inr (1, [.ref q0, .ref q1, .ref q2, .null, .null])), (q0, .inl (d0, 256, .inl (fun _ => 0))), (q1, .inl (d0, 256, .inl (fun _ => 0))), (q2, .inl (d0, 256, .inl (fun _ => 0)))] H := hP
  have hD : va_D A [(h, .inr (1, [.ref q0, .ref q1, .ref q2, .null, .null])), (q0, .inl (d0, 256, .inl (fun _ => 0))), (q1, .inl (d0, 256, .inl (fun _ => 0))), (q2, .inl (d0, 256, .inl (fun _ => 0)))] := hD
  refine lv_aload_n hx hb dX1_init_31 rfl (lv_at hl 0 rfl) ?_
  refine lv_sipush (v := nI 256) hx hb dX1_init_32 (by decide) ?_
  refine va_newa (atype := .int) (ty := .int) (a0 := (256, .inl (fun _ => 0))) (N' := 256) hx hb (hts _ q48) rfl hK hP hD hS hA (fun _ => rfl) (by decide) (by decide) (by decide) (Nat.le_of_ble_eq_true rfl) (Nat.le_of_ble_eq_true rfl) dX1_init_35 (fun q3 d1 H hK hP hD hS => ?_)
  obtain rfl : d0 = d1 := kk_same hK (i := 0) (j := 1) rfl rfl
  have hK := hK.sub (tys' := [(d0, .int)]) [0] rfl
  have hP : va_P D vwCl [(h, .inr (1, [.ref q0, .ref q1, .ref q2, .null, .null])), (q0, .inl (d0, 256, .inl (fun _ => 0))), (q1, .inl (d0, 256, .inl (fun _ => 0))), (q2, .inl (d0, 256, .inl (fun _ => 0))), (q3, .inl (d0, 256, .inl (fun _ => 0)))] H := hP
  have hD : va_D A [(h, .inr (1, [.ref q0, .ref q1, .ref q2, .null, .null])), (q0, .inl (d0, 256, .inl (fun _ => 0))), (q1, .inl (d0, 256, .inl (fun _ => 0))), (q2, .inl (d0, 256, .inl (fun _ => 0))), (q3, .inl (d0, 256, .inl (fun _ => 0)))] := hD
  refine W.widen (k := 4) (n := 1024) (Nat.le_of_ble_eq_true rfl) (Nat.le_of_ble_eq_true rfl) ?_
  refine va_putF (D := D) (ci := 1) (v := .ref q3) (ty := .array .int) (C := RX1) (T := TX1) (N := 5) hx hb hts in_X1 tyX1 tyX1_ok nmX1 hown hK hP hD hS 0 rfl rfl 3 (by decide) (hts _ q163) (fun _ h9 => h9) rfl hin rfl (by decide +kernel) rfl rfl (Nat.le_of_ble_eq_true rfl) dX1_init_37 (fun H locs hP hD hS => ?_)
  have hP : va_P D vwCl [(h, .inr (1, [.ref q0, .ref q1, .ref q2, .ref q3, .null])), (q0, .inl (d0, 256, .inl (fun _ => 0))), (q1, .inl (d0, 256, .inl (fun _ => 0))), (q2, .inl (d0, 256, .inl (fun _ => 0))), (q3, .inl (d0, 256, .inl (fun _ => 0)))] H := hP
  have hD : va_D A [(h, .inr (1, [.ref q0, .ref q1, .ref q2, .ref q3, .null])), (q0, .inl (d0, 256, .inl (fun _ => 0))), (q1, .inl (d0, 256, .inl (fun _ => 0))), (q2, .inl (d0, 256, .inl (fun _ => 0))), (q3, .inl (d0, 256, .inl (fun _ => 0)))] := hD
  refine lv_aload_n hx hb dX1_init_40 rfl (lv_at hl 0 rfl) ?_
  refine lv_sipush (v := nI 256) hx hb dX1_init_41 (by decide) ?_
  refine va_newa (atype := .int) (ty := .int) (a0 := (256, .inl (fun _ => 0))) (N' := 256) hx hb (hts _ q48) rfl hK hP hD hS hA (fun _ => rfl) (by decide) (by decide) (by decide) (Nat.le_of_ble_eq_true rfl) (Nat.le_of_ble_eq_true rfl) dX1_init_44 (fun q4 d1 H hK hP hD hS => ?_)
  obtain rfl : d0 = d1 := kk_same hK (i := 0) (j := 1) rfl rfl
  have hK := hK.sub (tys' := [(d0, .int)]) [0] rfl
  have hP : va_P D vwCl [(h, .inr (1, [.ref q0, .ref q1, .ref q2, .ref q3, .null])), (q0, .inl (d0, 256, .inl (fun _ => 0))), (q1, .inl (d0, 256, .inl (fun _ => 0))), (q2, .inl (d0, 256, .inl (fun _ => 0))), (q3, .inl (d0, 256, .inl (fun _ => 0))), (q4, .inl (d0, 256, .inl (fun _ => 0)))] H := hP
  have hD : va_D A [(h, .inr (1, [.ref q0, .ref q1, .ref q2, .ref q3, .null])), (q0, .inl (d0, 256, .inl (fun _ => 0))), (q1, .inl (d0, 256, .inl (fun _ => 0))), (q2, .inl (d0, 256, .inl (fun _ => 0))), (q3, .inl (d0, 256, .inl (fun _ => 0))), (q4, .inl (d0, 256, .inl (fun _ => 0)))] := hD
  refine W.widen (k := 5) (n := 1280) (Nat.le_of_ble_eq_true rfl) (Nat.le_of_ble_eq_true rfl) ?_
  refine va_putF (D := D) (ci := 1) (v := .ref q4) (ty := .array .int) (C := RX1) (T := TX1) (N := 5) hx hb hts in_X1 tyX1 tyX1_ok nmX1 hown hK hP hD hS 0 rfl rfl 4 (by decide) (hts _ q164) (fun _ h9 => h9) rfl hin rfl (by decide +kernel) rfl rfl (Nat.le_of_ble_eq_true rfl) dX1_init_46 (fun H locs hP hD hS => ?_)
  have hP : va_P D vwCl [(h, .inr (1, [.ref q0, .ref q1, .ref q2, .ref q3, .ref q4])), (q0, .inl (d0, 256, .inl (fun _ => 0))), (q1, .inl (d0, 256, .inl (fun _ => 0))), (q2, .inl (d0, 256, .inl (fun _ => 0))), (q3, .inl (d0, 256, .inl (fun _ => 0))), (q4, .inl (d0, 256, .inl (fun _ => 0)))] H := hP
  have hD : va_D A [(h, .inr (1, [.ref q0, .ref q1, .ref q2, .ref q3, .ref q4])), (q0, .inl (d0, 256, .inl (fun _ => 0))), (q1, .inl (d0, 256, .inl (fun _ => 0))), (q2, .inl (d0, 256, .inl (fun _ => 0))), (q3, .inl (d0, 256, .inl (fun _ => 0))), (q4, .inl (d0, 256, .inl (fun _ => 0)))] := hD
  have hP9 : va_P D vwCl (bx_w 1 nsM h (fun k => [q0, q1, q2, q3, q4].getD k 0) d0 (fun _ _ => 0)) H := hP
  have hD9 : va_D A (bx_w 1 nsM h (fun k => [q0, q1, q2, q3, q4].getD k 0) d0 (fun _ _ => 0)) := hD
  exact W.vret hx hb hr (fun t ht hW => ⟨⟨(fun k => [q0, q1, q2, q3, q4].getD k 0, d0), rfl, trivial, by rw [ht]; exact hP9, va_K.moved hW.alike hK, hD9⟩, hS.F ht⟩) hS.2.2 dX1_init_49
end
section
/-! THE LAW's OWN ROWS: two objects side by side, the script; and what both answers have in common -/
set_option maxRecDepth 100000
def RL : String := "BoxFiltersLaw"
def bx_ad (ns : List Nat) (h : Nat) (a : Nat → Nat) : List Nat := h :: (List.range ns.length).map a
theorem bx_w_ad {ci : Nat} {ns : List Nat} {h : Nat} {a : Nat → Nat} {d : ClassId} {F : bx_F} {k : Nat} {x : Nat × va_E} (hk : (bx_w ci ns h a d F)[k]? = some x) : x.1 ∈ bx_ad ns h a := by
  unfold bx_w at hk
  rcases List.mem_cons.mp (List.mem_of_getElem? hk) with e | e
  · rw [e]; exact List.mem_cons_self
  · obtain ⟨j, hj, rfl⟩ := List.mem_map.mp e
    exact List.mem_cons_of_mem _ (List.mem_map.mpr ⟨j, hj, rfl⟩)
theorem bx_A_ad {ci : Nat} {ns : List Nat} {h : Nat} {a : Nat → Nat} {d : ClassId} {F : bx_F} {sz q : Nat} (hq : bx_A ci ns h a d F sz q) : q ∈ bx_ad ns h a ∨ sz ≤ q := by
  rcases hq with ⟨k, e, hk⟩ | hq
  · exact Or.inl (bx_w_ad hk)
  · exact Or.inr hq
section LWR
variable {κ : bx_K} {Q : State → Prop} {nL cells slots : Nat} {D : va_G} {d : ClassId} {A : Nat → Prop} {pc : Nat} {rest : List Value} {cc : ByteArray} {H : Heap} {locs : List Loc} {ls : Array Slot} {own : String}

theorem l_geni (hx : (kp κ).tables.exec = Jvm.exec) (hb : (kc κ).code = cc) (hml : (kc κ).maxLocals = nL) (hts : ∀ w ∈ lw_all, w.before (ka κ) (ks κ) = true) (hown : (ks κ).vm.findClass own = some (km κ).cls) (hK : va_K D vwCl [(d, .int)] (ks κ)) (hA : ∀ q, (ks κ).heap.size ≤ q → A q) {ci : Nat} {ns : List Nat} {Cn : String} {T : u_T} {h : Nat} {a : Nat → Nat} {F : bx_F} {y : MethodName} {b : ByteArray} {L n idx : Nat} {r : FieldType} {rm : Room} {As : List Value} {post : Int32 → bx_F → Prop} (hc : vwCl[ci]? = some (Cn, T, ns.length)) (hM : bx_Mi (kl κ) y b L r rm D ci ns h a d F As post) (hq : GoodIn lw_all (wsV own idx Cn y (ws_ y b L (some r)))) (hd : y.cls = Cn ∧ y.cls ≠ "java/lang/invoke/MethodHandle" ∧ y.cls ≠ "java/lang/invoke/VarHandle" ∧ (parseMethodDescriptor y.desc).map (fun d => d.parameters.length) = some n) (hn : As.length = n) (hrm : rm.cells = 0 ∧ rm.slots = 0) (hR : rm.frames + 1 ≤ (kR κ).frames ∧ 8 + (L + 11) + rm.locals ≤ (kR κ).locals) (hf : cells ≤ (kR κ).cells ∧ slots ≤ (kR κ).slots) (hsz : ls.size = nL) (hP : va_P D vwCl (bx_w ci ns h a d F) H) (hD : va_D A (bx_w ci ns h a d F)) (hS : va_S A (ks κ).heap H locs) {w2 : va_W} (hP2 : va_P D vwCl w2 H) (hdis : ∀ (k : Nat) (z : Nat × va_E), w2[k]? = some z → z.1 ∉ bx_ad ns h a) (hw : (rest.map fun v => v.category).sum ≤ 8) (hdg : decode cc pc = .ok (.invokevirtual idx, 3))
    (kk : ∀ (x : Int32) (u : bx_F) (H1 : Heap) (locs1 : List Loc), post x u → va_P D vwCl (bx_w ci ns h a d u) H1 → va_D A (bx_w ci ns h a d u) → va_P D vwCl w2 H1 → va_S A (ks κ).heap H1 locs1 → W (kp κ) (kl κ) (ke κ) (kR κ) (ks κ) (km κ) (ka κ) (kb κ) (kh κ) (kc κ) H1 locs1 cells slots Q (F0 (km κ) (pc + 3) ls (.int x :: rest))) : W (kp κ) (kl κ) (ke κ) (kR κ) (ks κ) (km κ) (ka κ) (kb κ) (kh κ) (kc κ) H locs cells slots Q (F0 (km κ) pc ls (As.reverse ++ .ref h :: rest)) := by
  have hFc : ∀ q, bx_A ci ns h a d F H.size q → A q := by
    intro q hq
    rcases hq with ⟨k, e, hk⟩ | hq
    · exact hD.2 k _ hk
    · exact hA q (Nat.le_trans hS.1 hq)
  refine va_calli (va_runV (As := As) (rest := rest) ⟨hx, hb, hml, hown, hts⟩ (hM H.size) (cwV n hts hq rfl hrm.1 hrm.2 hd hR) ⟨fun a0 U g mk q => ?_, va_recv hK hP hc (q0 := 0) rfl, fun U hU hW => ⟨rfl, by rw [hU], by rw [hU]; exact hP, va_K.moved hW.alike hK, hD.weaken (fun _ _ _ _ => trivial)⟩⟩ rfl hn hsz rfl (lv_room hw) hdg ⟨hf.1, hf.2⟩) hS (fun q _ hq => hFc q hq) hFc (fun x u t H1 locs1 ht hvm hpost hB hz hk hS1 => kk x u H1 locs1 hpost (by rw [← ht]; exact hB.1) (hB.2.2.weaken (fun _ _ _ q => hFc _ q)) (hP2.kept (fun k z hz2 => hk z.1 (hP2 k z hz2).lt (fun q => ?_))) hS1)
  · obtain ⟨q0, q1, qP, qK, qD⟩ := q
    exact ⟨q0, q1, qP, va_K.moved (u := U) (U := U.calling g mk a0) (Vm.Alike.refl U.vm) qK, qD⟩
  · rcases bx_A_ad q with e | e
    · exact hdis k z hz2 e
    · exact absurd (hP2 k z hz2).lt (Nat.not_lt.mpr e)
theorem l_genv (hx : (kp κ).tables.exec = Jvm.exec) (hb : (kc κ).code = cc) (hml : (kc κ).maxLocals = nL) (hts : ∀ w ∈ lw_all, w.before (ka κ) (ks κ) = true) (hown : (ks κ).vm.findClass own = some (km κ).cls) (hK : va_K D vwCl [(d, .int)] (ks κ)) (hA : ∀ q, (ks κ).heap.size ≤ q → A q) {ci : Nat} {ns : List Nat} {Cn : String} {T : u_T} {h : Nat} {a : Nat → Nat} {F : bx_F} {y : MethodName} {b : ByteArray} {L n idx : Nat}  {rm : Room} {As : List Value} {post : bx_F → Prop} (hc : vwCl[ci]? = some (Cn, T, ns.length)) (hM : bx_Mv (kl κ) y b L rm D ci ns h a d F As post) (hq : GoodIn lw_all (wsV own idx Cn y (ws_ y b L none))) (hd : y.cls = Cn ∧ y.cls ≠ "java/lang/invoke/MethodHandle" ∧ y.cls ≠ "java/lang/invoke/VarHandle" ∧ (parseMethodDescriptor y.desc).map (fun d => d.parameters.length) = some n) (hn : As.length = n) (hrm : rm.cells = 0 ∧ rm.slots = 0) (hR : rm.frames + 1 ≤ (kR κ).frames ∧ 8 + (L + 11) + rm.locals ≤ (kR κ).locals) (hf : cells ≤ (kR κ).cells ∧ slots ≤ (kR κ).slots) (hsz : ls.size = nL) (hP : va_P D vwCl (bx_w ci ns h a d F) H) (hD : va_D A (bx_w ci ns h a d F)) (hS : va_S A (ks κ).heap H locs) {w2 : va_W} (hP2 : va_P D vwCl w2 H) (hdis : ∀ (k : Nat) (z : Nat × va_E), w2[k]? = some z → z.1 ∉ bx_ad ns h a) (hw : (rest.map fun v => v.category).sum ≤ 8) (hdg : decode cc pc = .ok (.invokevirtual idx, 3))
    (kk : ∀ (u : bx_F) (H1 : Heap) (locs1 : List Loc), post u → va_P D vwCl (bx_w ci ns h a d u) H1 → va_D A (bx_w ci ns h a d u) → va_P D vwCl w2 H1 → va_S A (ks κ).heap H1 locs1 → W (kp κ) (kl κ) (ke κ) (kR κ) (ks κ) (km κ) (ka κ) (kb κ) (kh κ) (kc κ) H1 locs1 cells slots Q (F0 (km κ) (pc + 3) ls rest)) : W (kp κ) (kl κ) (ke κ) (kR κ) (ks κ) (km κ) (ka κ) (kb κ) (kh κ) (kc κ) H locs cells slots Q (F0 (km κ) pc ls (As.reverse ++ .ref h :: rest)) := by
  have hFc : ∀ q, bx_A ci ns h a d F H.size q → A q := by
    intro q hq
    rcases hq with ⟨k, e, hk⟩ | hq
    · exact hD.2 k _ hk
    · exact hA q (Nat.le_trans hS.1 hq)
  refine va_callv (va_runV (As := As) (rest := rest) ⟨hx, hb, hml, hown, hts⟩ (hM H.size) (cwV n hts hq rfl hrm.1 hrm.2 hd hR) ⟨fun a0 U g mk q => ?_, va_recv hK hP hc (q0 := 0) rfl, fun U hU hW => ⟨rfl, by rw [hU], by rw [hU]; exact hP, va_K.moved hW.alike hK, hD.weaken (fun _ _ _ _ => trivial)⟩⟩ rfl hn hsz rfl (lv_room hw) hdg ⟨hf.1, hf.2⟩) hS (fun q _ hq => hFc q hq) hFc (fun u t H1 locs1 ht hvm hpost hB hz hk hS1 => kk u H1 locs1 hpost (by rw [← ht]; exact hB.1) (hB.2.2.weaken (fun _ _ _ q => hFc _ q)) (hP2.kept (fun k z hz2 => hk z.1 (hP2 k z hz2).lt (fun q => ?_))) hS1)
  · obtain ⟨q0, q1, qP, qK, qD⟩ := q
    exact ⟨q0, q1, qP, va_K.moved (u := U) (U := U.calling g mk a0) (Vm.Alike.refl U.vm) qK, qD⟩
  · rcases bx_A_ad q with e | e
    · exact hdis k z hz2 e
    · exact absurd (hP2 k z hz2).lt (Nat.not_lt.mpr e)
end LWR
/-- the law's own world: both objects, apart -/
def lz_S (D : va_G) (d : ClassId) (hX : Nat) (aX : Nat → Nat) (hM : Nat) (aM : Nat → Nat) (H0 : Heap) (FX FM : bx_F) (H : Heap) (locs : List Loc) : Prop := va_P D vwCl (bx_w 0 nsX hX aX d FX) H ∧ va_P D vwCl (bx_w 1 nsM hM aM d FM) H ∧ va_D (fun q => H0.size ≤ q) (bx_w 0 nsX hX aX d FX) ∧ va_D (fun q => H0.size ≤ q) (bx_w 1 nsM hM aM d FM) ∧ va_S (fun q => H0.size ≤ q) H0 H locs
def lz_C (κ : bx_K) (b L : Nat) (xs : Nat → Int32) (D : va_G) (d : ClassId) : Prop := (kp κ).tables.exec = Jvm.exec ∧ (kc κ).code = cL_law ∧ (kc κ).maxLocals = 4 ∧ (∀ w ∈ lw_all, w.before (ka κ) (ks κ) = true) ∧ (ks κ).vm.findClass RL = some (km κ).cls ∧ va_K D vwCl [(d, .int)] (ks κ) ∧ va_X b L xs (ks κ) (ks κ).heap ∧ b < (ks κ).heap.size ∧ kR κ = room_1
/-- no cell is of both objects -/
def lz_D (hX : Nat) (aX : Nat → Nat) (hM : Nat) (aM : Nat → Nat) : Prop := ∀ x ∈ bx_ad nsX hX aX, x ∉ bx_ad nsM hM aM
section LWG
variable {κ : bx_K} {Q : State → Prop} {b L hX hM pc : Nat} {xs : Nat → Int32} {aX aM : Nat → Nat} {D : va_G} {d : ClassId} {FX FM : bx_F} {vs st rest : List Value}

theorem l_callXi (C : lz_C κ b L xs D d) (hap : lz_D hX aX hM aM) {y : MethodName} {b_ : ByteArray} {L_ n idx : Nat} {r : FieldType} {rm : Room} {As : List Value} {post : Int32 → bx_F → Prop} (hM_ : bx_Mi (kl κ) y b_ L_ r rm D 0 nsX hX aX d FX As post) (hq : GoodIn lw_all (wsV RL idx RX0 y (ws_ y b_ L_ (some r)))) (hd : y.cls = RX0 ∧ y.cls ≠ "java/lang/invoke/MethodHandle" ∧ y.cls ≠ "java/lang/invoke/VarHandle" ∧ (parseMethodDescriptor y.desc).map (fun d => d.parameters.length) = some n) (hn : As.length = n) (hrm : rm.cells = 0 ∧ rm.slots = 0) (hR : rm.frames + 1 ≤ room_1.frames ∧ 8 + (L_ + 11) + rm.locals ≤ room_1.locals) (hst : st = As.reverse ++ .ref hX :: rest) (hw : (rest.map fun v => v.category).sum ≤ 8) (hdg : decode cL_law pc = .ok (.invokevirtual idx, 3)) (kk : ∀ (x : Int32) (u : bx_F), post x u → bx_G κ Q 4 600000 7290000 (lz_S D d hX aX hM aM (ks κ).heap u FM) (pc + 3) vs (.int x :: rest)) : bx_G κ Q 4 600000 7290000 (lz_S D d hX aX hM aM (ks κ).heap FX FM) pc vs st := by
  intro H locs ls hS hl
  obtain ⟨hx, hb, hml, hts, hown, hK, hxx, hbl, eR⟩ := C
  subst hst
  exact l_geni hx hb hml hts hown hK (fun q hq => hq) (Cn := RX0) (T := TX0) rfl hM_ hq hd hn hrm (by rw [eR]; exact hR) (by rw [eR]; exact ⟨Nat.le_refl _, Nat.le_refl _⟩) hl.1 hS.1 hS.2.2.1 hS.2.2.2.2 hS.2.1 (fun k z hz q => hap z.1 q (bx_w_ad hz)) hw hdg (fun x u H1 locs1 hp hP1 hD1 hP2 hS1 => kk x u hp H1 locs1 ls ⟨hP1, hP2, hD1, hS.2.2.2.1, hS1⟩ hl)
theorem l_callXv (C : lz_C κ b L xs D d) (hap : lz_D hX aX hM aM) {y : MethodName} {b_ : ByteArray} {L_ n idx : Nat}  {rm : Room} {As : List Value} {post : bx_F → Prop} (hM_ : bx_Mv (kl κ) y b_ L_ rm D 0 nsX hX aX d FX As post) (hq : GoodIn lw_all (wsV RL idx RX0 y (ws_ y b_ L_ none))) (hd : y.cls = RX0 ∧ y.cls ≠ "java/lang/invoke/MethodHandle" ∧ y.cls ≠ "java/lang/invoke/VarHandle" ∧ (parseMethodDescriptor y.desc).map (fun d => d.parameters.length) = some n) (hn : As.length = n) (hrm : rm.cells = 0 ∧ rm.slots = 0) (hR : rm.frames + 1 ≤ room_1.frames ∧ 8 + (L_ + 11) + rm.locals ≤ room_1.locals) (hst : st = As.reverse ++ .ref hX :: rest) (hw : (rest.map fun v => v.category).sum ≤ 8) (hdg : decode cL_law pc = .ok (.invokevirtual idx, 3)) (kk : ∀ (u : bx_F), post u → bx_G κ Q 4 600000 7290000 (lz_S D d hX aX hM aM (ks κ).heap u FM) (pc + 3) vs rest) : bx_G κ Q 4 600000 7290000 (lz_S D d hX aX hM aM (ks κ).heap FX FM) pc vs st := by
  intro H locs ls hS hl
  obtain ⟨hx, hb, hml, hts, hown, hK, hxx, hbl, eR⟩ := C
  subst hst
  exact l_genv hx hb hml hts hown hK (fun q hq => hq) (Cn := RX0) (T := TX0) rfl hM_ hq hd hn hrm (by rw [eR]; exact hR) (by rw [eR]; exact ⟨Nat.le_refl _, Nat.le_refl _⟩) hl.1 hS.1 hS.2.2.1 hS.2.2.2.2 hS.2.1 (fun k z hz q => hap z.1 q (bx_w_ad hz)) hw hdg (fun u H1 locs1 hp hP1 hD1 hP2 hS1 => kk u hp H1 locs1 ls ⟨hP1, hP2, hD1, hS.2.2.2.1, hS1⟩ hl)
theorem l_callMi (C : lz_C κ b L xs D d) (hap : lz_D hX aX hM aM) {y : MethodName} {b_ : ByteArray} {L_ n idx : Nat} {r : FieldType} {rm : Room} {As : List Value} {post : Int32 → bx_F → Prop} (hM_ : bx_Mi (kl κ) y b_ L_ r rm D 1 nsM hM aM d FM As post) (hq : GoodIn lw_all (wsV RL idx RX1 y (ws_ y b_ L_ (some r)))) (hd : y.cls = RX1 ∧ y.cls ≠ "java/lang/invoke/MethodHandle" ∧ y.cls ≠ "java/lang/invoke/VarHandle" ∧ (parseMethodDescriptor y.desc).map (fun d => d.parameters.length) = some n) (hn : As.length = n) (hrm : rm.cells = 0 ∧ rm.slots = 0) (hR : rm.frames + 1 ≤ room_1.frames ∧ 8 + (L_ + 11) + rm.locals ≤ room_1.locals) (hst : st = As.reverse ++ .ref hM :: rest) (hw : (rest.map fun v => v.category).sum ≤ 8) (hdg : decode cL_law pc = .ok (.invokevirtual idx, 3)) (kk : ∀ (x : Int32) (u : bx_F), post x u → bx_G κ Q 4 600000 7290000 (lz_S D d hX aX hM aM (ks κ).heap FX u) (pc + 3) vs (.int x :: rest)) : bx_G κ Q 4 600000 7290000 (lz_S D d hX aX hM aM (ks κ).heap FX FM) pc vs st := by
  intro H locs ls hS hl
  obtain ⟨hx, hb, hml, hts, hown, hK, hxx, hbl, eR⟩ := C
  subst hst
  exact l_geni hx hb hml hts hown hK (fun q hq => hq) (Cn := RX1) (T := TX1) rfl hM_ hq hd hn hrm (by rw [eR]; exact hR) (by rw [eR]; exact ⟨Nat.le_refl _, Nat.le_refl _⟩) hl.1 hS.2.1 hS.2.2.2.1 hS.2.2.2.2 hS.1 (fun k z hz q => hap z.1 (bx_w_ad hz) q) hw hdg (fun x u H1 locs1 hp hP1 hD1 hP2 hS1 => kk x u hp H1 locs1 ls ⟨hP2, hP1, hS.2.2.1, hD1, hS1⟩ hl)
theorem l_callMv (C : lz_C κ b L xs D d) (hap : lz_D hX aX hM aM) {y : MethodName} {b_ : ByteArray} {L_ n idx : Nat}  {rm : Room} {As : List Value} {post : bx_F → Prop} (hM_ : bx_Mv (kl κ) y b_ L_ rm D 1 nsM hM aM d FM As post) (hq : GoodIn lw_all (wsV RL idx RX1 y (ws_ y b_ L_ none))) (hd : y.cls = RX1 ∧ y.cls ≠ "java/lang/invoke/MethodHandle" ∧ y.cls ≠ "java/lang/invoke/VarHandle" ∧ (parseMethodDescriptor y.desc).map (fun d => d.parameters.length) = some n) (hn : As.length = n) (hrm : rm.cells = 0 ∧ rm.slots = 0) (hR : rm.frames + 1 ≤ room_1.frames ∧ 8 + (L_ + 11) + rm.locals ≤ room_1.locals) (hst : st = As.reverse ++ .ref hM :: rest) (hw : (rest.map fun v => v.category).sum ≤ 8) (hdg : decode cL_law pc = .ok (.invokevirtual idx, 3)) (kk : ∀ (u : bx_F), post u → bx_G κ Q 4 600000 7290000 (lz_S D d hX aX hM aM (ks κ).heap FX u) (pc + 3) vs rest) : bx_G κ Q 4 600000 7290000 (lz_S D d hX aX hM aM (ks κ).heap FX FM) pc vs st := by
  intro H locs ls hS hl
  obtain ⟨hx, hb, hml, hts, hown, hK, hxx, hbl, eR⟩ := C
  subst hst
  exact l_genv hx hb hml hts hown hK (fun q hq => hq) (Cn := RX1) (T := TX1) rfl hM_ hq hd hn hrm (by rw [eR]; exact hR) (by rw [eR]; exact ⟨Nat.le_refl _, Nat.le_refl _⟩) hl.1 hS.2.1 hS.2.2.2.1 hS.2.2.2.2 hS.1 (fun k z hz q => hap z.1 (bx_w_ad hz) q) hw hdg (fun u H1 locs1 hp hP1 hD1 hP2 hS1 => kk u hp H1 locs1 ls ⟨hP2, hP1, hS.2.2.1, hD1, hS1⟩ hl)
theorem l_ld (C : lz_C κ b L xs D d) {j : Nat} (hj : j < L) (hL : L ≤ 256) (hdg : decode cL_law pc = .ok (.iaload, 1)) (kk : bx_G κ Q 4 600000 7290000 (lz_S D d hX aX hM aM (ks κ).heap FX FM) (pc + 1) vs (.int (xs j) :: st)) : bx_G κ Q 4 600000 7290000 (lz_S D d hX aX hM aM (ks κ).heap FX FM) pc vs (.int (nI j) :: .ref b :: st) := by
  intro H locs ls hS hl
  obtain ⟨hx, hb, hml, hts, hown, hK, hxx, hbl, eR⟩ := C
  refine va_sld hx hb hxx hbl (Nat.not_le.mpr hbl) hS.2.2.2.2 (vp_in_nI hj (by omega)) hdg ?_
  rw [nI_clamp (by omega)]
  exact kk H locs ls hS hl
theorem l_len (C : lz_C κ b L xs D d) (hdg : decode cL_law pc = .ok (.arraylength, 1)) (kk : bx_G κ Q 4 600000 7290000 (lz_S D d hX aX hM aM (ks κ).heap FX FM) (pc + 1) vs (.int (nI L) :: st)) : bx_G κ Q 4 600000 7290000 (lz_S D d hX aX hM aM (ks κ).heap FX FM) pc vs (.ref b :: st) := by
  intro H locs ls hS hl
  obtain ⟨hx, hb, hml, hts, hown, hK, hxx, hbl, eR⟩ := C
  exact va_slen hx hb hxx hbl (Nat.not_le.mpr hbl) hS.2.2.2.2 hdg (kk H locs ls hS hl)
theorem l_in (C : lz_C κ b L xs D d) {dflt lo hi : Int} {offs : Array Int} {len : Nat} {x : Int32} {off : Int} (tgt : Nat) (hdg : decode cL_law pc = .ok (.tableswitch dflt lo hi offs, len)) (h1 : ¬ x.toInt < lo) (h2 : ¬ hi < x.toInt) (ho : offs[(x.toInt - lo).toNat]? = some off) (ht : (pc : Int) + off = (tgt : Int)) (kk : bx_G κ Q 4 600000 7290000 (lz_S D d hX aX hM aM (ks κ).heap FX FM) tgt vs st) : bx_G κ Q 4 600000 7290000 (lz_S D d hX aX hM aM (ks κ).heap FX FM) pc vs (.int x :: st) := fun H locs ls hS hl => lv_tableIn C.1 C.2.1 hdg h1 h2 ho ht (kk H locs ls hS hl)
theorem l_out (C : lz_C κ b L xs D d) {dflt lo hi : Int} {offs : Array Int} {len : Nat} {x : Int32} (tgt : Nat) (hdg : decode cL_law pc = .ok (.tableswitch dflt lo hi offs, len)) (h : x.toInt < lo ∨ hi < x.toInt) (ht : (pc : Int) + dflt = (tgt : Int)) (kk : bx_G κ Q 4 600000 7290000 (lz_S D d hX aX hM aM (ks κ).heap FX FM) tgt vs st) : bx_G κ Q 4 600000 7290000 (lz_S D d hX aX hM aM (ks κ).heap FX FM) pc vs (.int x :: st) := fun H locs ls hS hl => lv_tableOut C.1 C.2.1 hdg h ht (kk H locs ls hS hl)
end LWG
/-- what both objects have in common between two calls -/
def lwR (f g : bx_F) : Prop := (∀ j, j < 256 → f 0 j = g 0 j) ∧ (∀ j, j < 256 → f 1 j = g 1 j) ∧ bd_ (f 5)
theorem lw_lt2 {x y h : Nat} (hx : x < 2 ^ 30) (hy : y < 2 ^ 30) (hh : h < 2 ^ 30) : nI x - nI h < nI y ↔ x < y + h := by
  rw [Int32.lt_iff_toInt_lt, pk_sub_toInt hx hh, nI_toInt (by omega)]
  omega
theorem lr_0 : lwR (fun _ _ => 0) (fun _ _ => 0) := ⟨fun _ _ => rfl, fun _ _ => rfl, fun _ _ => rfl, fun _ _ => rfl⟩
theorem lr_set {f g u w : bx_F} {r c v x y : Int32} (h : lwR f g) (h1 : po_set f r c v x u) (h2 : po_set g r c v y w) : x = y ∧ lwR u w := by
  by_cases ok : okP r c
  · by_cases hv : v < 0 ∨ nI 255 < v
    · obtain ⟨rfl, rfl⟩ := h1.2.1 ok hv
      obtain ⟨rfl, rfl⟩ := h2.2.1 ok hv
      exact ⟨rfl, h⟩
    · obtain ⟨e1, e2⟩ := h1.2.2 ok hv
      obtain ⟨e3, e4⟩ := h2.2.2 ok hv
      obtain ⟨i, j, hi, hj, rfl, rfl⟩ := okP_nat ok
      rw [ix_nat hi hj] at e1 e2 e3 e4
      refine ⟨by rw [e1, e3]; exact h.1 _ (by omega), ?_⟩
      rw [e2, e4]
      refine ⟨fun q hq => ?_, h.2.1, h.2.2⟩
      rw [va_up_self, va_up_self]
      unfold upd
      split
      · rfl
      · exact h.1 q hq
  · obtain ⟨rfl, rfl⟩ := h1.1 ok
    obtain ⟨rfl, rfl⟩ := h2.1 ok
    exact ⟨rfl, h⟩
theorem lr_pattern {f g u w : bx_F} {p q : Int32} (h : lwR f g) (h1 : po_pattern f p q u) (h2 : po_pattern g p q w) : lwR u w := by
  refine ⟨fun j hj => (h1.2 j hj).trans (h2.2 j hj).symm, fun j hj => ?_, ?_⟩
  · rw [h1.1 1 (by decide), h2.1 1 (by decide)]; exact h.2.1 j hj
  · rw [h1.1 5 (by decide)]; exact h.2.2
theorem lr_f {R : Nat → Nat → (Nat → Int32) → (Nat → Int32) → Prop} {f g u w : bx_F} {p q x y : Int32} (hR : ∀ i j f f' u u', (∀ k, k < 256 → f k = f' k) → R i j f u → R i j f' u' → ∀ k, k < 256 → u k = u' k) (h : lwR f g) (h1 : po_f R f p q x u) (h2 : po_f R g p q y w) : x = y ∧ lwR u w := by
  by_cases ok : okS p q
  · obtain ⟨i, j, hi, hj, e1, e2⟩ := okS_nat ok
    obtain ⟨a1, a2, a3, a4⟩ := h1.2 i j hi hj e1 e2
    obtain ⟨b1, b2, b3, b4⟩ := h2.2 i j hi hj e1 e2
    have key := hR i j _ _ _ _ h.1 a1 b1
    refine ⟨?_, key, fun k hk => by rw [a2, b2]; exact h.2.1 k hk, a3 h.2.2⟩
    rw [a4, b4]
    congr 1
    exact cn_congr fun k hk => by rw [key k hk, h.1 k hk]
  · obtain ⟨rfl, rfl⟩ := h1.1 ok
    obtain ⟨rfl, rfl⟩ := h2.1 ok
    exact ⟨rfl, h⟩
theorem R_dil_u (i j : Nat) (f f' u u' : Nat → Int32) (he : ∀ k, k < 256 → f k = f' k) (h1 : R_dil i j f u) (h2 : R_dil i j f' u') : ∀ k, k < 256 → u k = u' k := fi_uniq h1 h2 he
theorem R_ero_u (i j : Nat) (f f' u u' : Nat → Int32) (he : ∀ k, k < 256 → f k = f' k) (h1 : R_ero i j f u) (h2 : R_ero i j f' u') : ∀ k, k < 256 → u k = u' k := fi_uniq h1 h2 he
theorem R_opn_u (i j : Nat) (f f' u u' : Nat → Int32) (he : ∀ k, k < 256 → f k = f' k) (h1 : R_opn i j f u) (h2 : R_opn i j f' u') : ∀ k, k < 256 → u k = u' k := by
  obtain ⟨m, a1, a2⟩ := h1
  obtain ⟨m', b1, b2⟩ := h2
  exact fi_uniq a2 b2 (fi_uniq a1 b1 he)
theorem R_clo_u (i j : Nat) (f f' u u' : Nat → Int32) (he : ∀ k, k < 256 → f k = f' k) (h1 : R_clo i j f u) (h2 : R_clo i j f' u') : ∀ k, k < 256 → u k = u' k := by
  obtain ⟨m, a1, a2⟩ := h1
  obtain ⟨m', b1, b2⟩ := h2
  exact fi_uniq a2 b2 (fi_uniq a1 b1 he)
theorem R_mean_u (i j : Nat) (f f' u u' : Nat → Int32) (he : ∀ k, k < 256 → f k = f' k) (h1 : R_mean i j f u) (h2 : R_mean i j f' u') : ∀ k, k < 256 → u k = u' k := fun k hk => by
  rw [h1 k hk, h2 k hk]
  exact me_congr he i j hk
theorem lr_threshold {f g u w : bx_F} {p x y : Int32} (h : lwR f g) (h1 : po_threshold f p x u) (h2 : po_threshold g p y w) : x = y ∧ lwR u w := by
  obtain ⟨a1, a2, a3⟩ := h1
  obtain ⟨b1, b2, b3⟩ := h2
  refine ⟨?_, fun j hj => by rw [a2 j hj, b2 j hj, h.1 j hj], fun j hj => by rw [a1 1 (by decide), b1 1 (by decide)]; exact h.2.1 j hj, by rw [a1 5 (by decide)]; exact h.2.2⟩
  rw [a3, b3]
  congr 1
  exact cn_congr fun k hk => by rw [h.1 k hk]
theorem lr_exchange {f g u w : bx_F} (h : lwR f g) (h1 : po_exchange f u) (h2 : po_exchange g w) : lwR u w := by
  refine ⟨fun j hj => by rw [(h1.2 j hj).1, (h2.2 j hj).1]; exact h.2.1 j hj, fun j hj => by rw [(h1.2 j hj).2, (h2.2 j hj).2]; exact h.1 j hj, by rw [h1.1 5 (by decide) (by decide)]; exact h.2.2⟩
theorem lr_keep {f g u w : bx_F} (h : lwR f g) (h1 : po_copy f 1 0 u) (h2 : po_copy g 1 0 w) : lwR u w := by
  refine ⟨fun j hj => by rw [h1.1 0 (by decide), h2.1 0 (by decide)]; exact h.1 j hj, fun j hj => by rw [h1.2 j hj, h2.2 j hj]; exact h.1 j hj, by rw [h1.1 5 (by decide)]; exact h.2.2⟩
theorem lr_pixel {f g u w : bx_F} {r c x y : Int32} (h : lwR f g) (h1 : po_pixel f r c x u) (h2 : po_pixel g r c y w) : x = y ∧ lwR u w := by
  obtain ⟨rfl, a1, a2⟩ := h1
  obtain ⟨rfl, b1, b2⟩ := h2
  refine ⟨?_, h⟩
  by_cases ok : okP r c
  · rw [a2 ok, b2 ok]
    obtain ⟨i, j, hi, hj, rfl, rfl⟩ := okP_nat ok
    rw [ix_nat hi hj]
    exact h.1 _ (by omega)
  · rw [a1 ok, b1 ok]
theorem lr_sum {f g u w : bx_F} {x y : Int32} (h : lwR f g) (h1 : po_sum f x u) (h2 : po_sum g y w) : x = y ∧ lwR u w := by
  obtain ⟨rfl, rfl⟩ := h1
  obtain ⟨rfl, rfl⟩ := h2
  exact ⟨sm_congr h.1, h⟩
theorem lr_equal {f g u w : bx_F} {x y : Int32} (h : lwR f g) (h1 : po_cnt f (fun j => decide (f 0 j = f 1 j)) x u) (h2 : po_cnt g (fun j => decide (g 0 j = g 1 j)) y w) : x = y ∧ lwR u w := by
  obtain ⟨rfl, rfl⟩ := h1
  obtain ⟨rfl, rfl⟩ := h2
  refine ⟨?_, h⟩
  congr 1
  exact cn_congr fun k hk => by rw [h.1 k hk, h.2.1 k hk]
theorem lr_above {f g u w : bx_F} {x y : Int32} (h : lwR f g) (h1 : po_cnt f (fun j => decide (f 1 j < f 0 j)) x u) (h2 : po_cnt g (fun j => decide (g 1 j < g 0 j)) y w) : x = y ∧ lwR u w := by
  obtain ⟨rfl, rfl⟩ := h1
  obtain ⟨rfl, rfl⟩ := h2
  refine ⟨?_, h⟩
  congr 1
  exact cn_congr fun k hk => by rw [h.1 k hk, h.2.1 k hk]
theorem lr_patches {f g u w : bx_F} {x y : Int32} (h : lwR f g) (h1 : po_pat 6 f x u) (h2 : po_pat 4 g y w) : x = y ∧ lwR u w := by
  obtain ⟨a1, rfl⟩ := h1
  obtain ⟨b1, rfl⟩ := h2
  refine ⟨by rw [np_congr h.1], fun j hj => by rw [a1 0 (by decide), b1 0 (by decide)]; exact h.1 j hj, fun j hj => by rw [a1 1 (by decide), b1 1 (by decide)]; exact h.2.1 j hj, by rw [a1 5 (by decide)]; exact h.2.2⟩
end
section
set_option maxRecDepth 100000
set_option maxHeartbeats 4000000 in
theorem lc_set {κ : bx_K} {Q : State → Prop} {b L hX hM : Nat} {xs : Nat → Int32} {aX aM : Nat → Nat} {D : va_G} {d : ClassId} (C : lz_C κ b L xs D d) (hL : L ≤ 256) (hap : lz_D hX aX hM aM) {i : Nat} (hi : i + 4 ≤ L) (FX FM : bx_F) (hR : lwR FX FM) (next : ∀ FX FM : bx_F, lwR FX FM → bx_G κ Q 4 600000 7290000 (lz_S D d hX aX hM aM (ks κ).heap FX FM) 477 [.ref b, .ref hX, .ref hM, .int (nI i)] []) : bx_G κ Q 4 600000 7290000 (lz_S D d hX aX hM aM (ks κ).heap FX FM) 108 [.ref b, .ref hX, .ref hM, .int (nI i)] [] := by
  have hx := C.1
  have hb := C.2.1
  refine g_aload_n hx hb dL_law_108 rfl rfl ?_
  refine g_aload_n hx hb dL_law_109 rfl rfl ?_
  refine g_iload_n hx hb dL_law_110 rfl rfl ?_
  refine g_iconst hx hb (nI 1) dL_law_111 (by decide) ?_
  refine n_iadd hx hb dL_law_112 ?_
  refine l_ld C (by omega) hL dL_law_113 ?_
  refine g_aload_n hx hb dL_law_114 rfl rfl ?_
  refine g_iload_n hx hb dL_law_115 rfl rfl ?_
  refine g_iconst hx hb (nI 2) dL_law_116 (by decide) ?_
  refine n_iadd hx hb dL_law_117 ?_
  refine l_ld C (by omega) hL dL_law_118 ?_
  refine g_aload_n hx hb dL_law_119 rfl rfl ?_
  refine g_iload_n hx hb dL_law_120 rfl rfl ?_
  refine g_iconst hx hb (nI 3) dL_law_121 (by decide) ?_
  refine n_iadd hx hb dL_law_122 ?_
  refine l_ld C (by omega) hL dL_law_123 ?_
  refine l_callXi C hap (n := 3) (rest := []) (mX_set (kl κ) D d hX aX FX (xs (i + 1)) (xs (i + 2)) (xs (i + 3))) (lw_V q49 q50 q51 q16 q52) (by decide +kernel) rfl ⟨rfl, rfl⟩ ⟨by decide, by decide⟩ rfl (Nat.le_of_ble_eq_true rfl) dL_law_124 (fun x1 u1 p1 => ?_)
  refine g_aload_n hx hb dL_law_127 rfl rfl ?_
  refine g_aload_n hx hb dL_law_128 rfl rfl ?_
  refine g_iload_n hx hb dL_law_129 rfl rfl ?_
  refine g_iconst hx hb (nI 1) dL_law_130 (by decide) ?_
  refine n_iadd hx hb dL_law_131 ?_
  refine l_ld C (by omega) hL dL_law_132 ?_
  refine g_aload_n hx hb dL_law_133 rfl rfl ?_
  refine g_iload_n hx hb dL_law_134 rfl rfl ?_
  refine g_iconst hx hb (nI 2) dL_law_135 (by decide) ?_
  refine n_iadd hx hb dL_law_136 ?_
  refine l_ld C (by omega) hL dL_law_137 ?_
  refine g_aload_n hx hb dL_law_138 rfl rfl ?_
  refine g_iload_n hx hb dL_law_139 rfl rfl ?_
  refine g_iconst hx hb (nI 3) dL_law_140 (by decide) ?_
  refine n_iadd hx hb dL_law_141 ?_
  refine l_ld C (by omega) hL dL_law_142 ?_
  refine l_callMi C hap (n := 3) (rest := [.int x1]) (mM_set (kl κ) D d hM aM FM (xs (i + 1)) (xs (i + 2)) (xs (i + 3))) (lw_V q176 q177 q178 q17 q179) (by decide +kernel) rfl ⟨rfl, rfl⟩ ⟨by decide, by decide⟩ rfl (Nat.le_of_ble_eq_true rfl) dL_law_143 (fun x2 u2 p2 => ?_)
  have hc := lr_set hR p1 p2
  exact g_icmp_eq hx hb 477 dL_law_146 (by decide) (fun _ => next u1 u2 hc.2) (fun c => absurd hc.1 c)
set_option maxHeartbeats 4000000 in
theorem lc_pattern {κ : bx_K} {Q : State → Prop} {b L hX hM : Nat} {xs : Nat → Int32} {aX aM : Nat → Nat} {D : va_G} {d : ClassId} (C : lz_C κ b L xs D d) (hL : L ≤ 256) (hap : lz_D hX aX hM aM) {i : Nat} (hi : i + 4 ≤ L) (FX FM : bx_F) (hR : lwR FX FM) (next : ∀ FX FM : bx_F, lwR FX FM → bx_G κ Q 4 600000 7290000 (lz_S D d hX aX hM aM (ks κ).heap FX FM) 477 [.ref b, .ref hX, .ref hM, .int (nI i)] []) : bx_G κ Q 4 600000 7290000 (lz_S D d hX aX hM aM (ks κ).heap FX FM) 151 [.ref b, .ref hX, .ref hM, .int (nI i)] [] := by
  have hx := C.1
  have hb := C.2.1
  refine g_aload_n hx hb dL_law_151 rfl rfl ?_
  refine g_aload_n hx hb dL_law_152 rfl rfl ?_
  refine g_iload_n hx hb dL_law_153 rfl rfl ?_
  refine g_iconst hx hb (nI 1) dL_law_154 (by decide) ?_
  refine n_iadd hx hb dL_law_155 ?_
  refine l_ld C (by omega) hL dL_law_156 ?_
  refine g_aload_n hx hb dL_law_157 rfl rfl ?_
  refine g_iload_n hx hb dL_law_158 rfl rfl ?_
  refine g_iconst hx hb (nI 2) dL_law_159 (by decide) ?_
  refine n_iadd hx hb dL_law_160 ?_
  refine l_ld C (by omega) hL dL_law_161 ?_
  refine l_callXv C hap (n := 2) (rest := []) (mX_pattern (kl κ) D d hX aX FX (xs (i + 1)) (xs (i + 2))) (lw_V q56 q57 q58 q16 q59) (by decide +kernel) rfl ⟨rfl, rfl⟩ ⟨by decide, by decide⟩ rfl (Nat.le_of_ble_eq_true rfl) dL_law_162 (fun u1 p1 => ?_)
  refine g_aload_n hx hb dL_law_165 rfl rfl ?_
  refine g_aload_n hx hb dL_law_166 rfl rfl ?_
  refine g_iload_n hx hb dL_law_167 rfl rfl ?_
  refine g_iconst hx hb (nI 1) dL_law_168 (by decide) ?_
  refine n_iadd hx hb dL_law_169 ?_
  refine l_ld C (by omega) hL dL_law_170 ?_
  refine g_aload_n hx hb dL_law_171 rfl rfl ?_
  refine g_iload_n hx hb dL_law_172 rfl rfl ?_
  refine g_iconst hx hb (nI 2) dL_law_173 (by decide) ?_
  refine n_iadd hx hb dL_law_174 ?_
  refine l_ld C (by omega) hL dL_law_175 ?_
  refine l_callMv C hap (n := 2) (rest := []) (mM_pattern (kl κ) D d hM aM FM (xs (i + 1)) (xs (i + 2))) (lw_V q184 q185 q186 q17 q187) (by decide +kernel) rfl ⟨rfl, rfl⟩ ⟨by decide, by decide⟩ rfl (Nat.le_of_ble_eq_true rfl) dL_law_176 (fun u2 p2 => ?_)
  have hc := lr_pattern hR p1 p2
  refine g_goto hx hb 477 dL_law_179 (by decide) ?_
  exact next u1 u2 hc
set_option maxHeartbeats 4000000 in
theorem lc_dilate {κ : bx_K} {Q : State → Prop} {b L hX hM : Nat} {xs : Nat → Int32} {aX aM : Nat → Nat} {D : va_G} {d : ClassId} (C : lz_C κ b L xs D d) (hL : L ≤ 256) (hap : lz_D hX aX hM aM) {i : Nat} (hi : i + 4 ≤ L) (FX FM : bx_F) (hR : lwR FX FM) (next : ∀ FX FM : bx_F, lwR FX FM → bx_G κ Q 4 600000 7290000 (lz_S D d hX aX hM aM (ks κ).heap FX FM) 477 [.ref b, .ref hX, .ref hM, .int (nI i)] []) : bx_G κ Q 4 600000 7290000 (lz_S D d hX aX hM aM (ks κ).heap FX FM) 182 [.ref b, .ref hX, .ref hM, .int (nI i)] [] := by
  have hx := C.1
  have hb := C.2.1
  refine g_aload_n hx hb dL_law_182 rfl rfl ?_
  refine g_aload_n hx hb dL_law_183 rfl rfl ?_
  refine g_iload_n hx hb dL_law_184 rfl rfl ?_
  refine g_iconst hx hb (nI 1) dL_law_185 (by decide) ?_
  refine n_iadd hx hb dL_law_186 ?_
  refine l_ld C (by omega) hL dL_law_187 ?_
  refine g_aload_n hx hb dL_law_188 rfl rfl ?_
  refine g_iload_n hx hb dL_law_189 rfl rfl ?_
  refine g_iconst hx hb (nI 2) dL_law_190 (by decide) ?_
  refine n_iadd hx hb dL_law_191 ?_
  refine l_ld C (by omega) hL dL_law_192 ?_
  refine l_callXi C hap (n := 2) (rest := []) (mX_dilate (kl κ) D d hX aX FX (xs (i + 1)) (xs (i + 2))) (lw_V q60 q61 q62 q16 q63) (by decide +kernel) rfl ⟨rfl, rfl⟩ ⟨by decide, by decide⟩ rfl (Nat.le_of_ble_eq_true rfl) dL_law_193 (fun x1 u1 p1 => ?_)
  refine g_aload_n hx hb dL_law_196 rfl rfl ?_
  refine g_aload_n hx hb dL_law_197 rfl rfl ?_
  refine g_iload_n hx hb dL_law_198 rfl rfl ?_
  refine g_iconst hx hb (nI 1) dL_law_199 (by decide) ?_
  refine n_iadd hx hb dL_law_200 ?_
  refine l_ld C (by omega) hL dL_law_201 ?_
  refine g_aload_n hx hb dL_law_202 rfl rfl ?_
  refine g_iload_n hx hb dL_law_203 rfl rfl ?_
  refine g_iconst hx hb (nI 2) dL_law_204 (by decide) ?_
  refine n_iadd hx hb dL_law_205 ?_
  refine l_ld C (by omega) hL dL_law_206 ?_
  refine l_callMi C hap (n := 2) (rest := [.int x1]) (mM_dilate (kl κ) D d hM aM FM (xs (i + 1)) (xs (i + 2))) (lw_V q188 q189 q190 q17 q191) (by decide +kernel) rfl ⟨rfl, rfl⟩ ⟨by decide, by decide⟩ rfl (Nat.le_of_ble_eq_true rfl) dL_law_207 (fun x2 u2 p2 => ?_)
  have hc := lr_f R_dil_u hR p1 p2
  exact g_icmp_eq hx hb 477 dL_law_210 (by decide) (fun _ => next u1 u2 hc.2) (fun c => absurd hc.1 c)
set_option maxHeartbeats 4000000 in
theorem lc_erode {κ : bx_K} {Q : State → Prop} {b L hX hM : Nat} {xs : Nat → Int32} {aX aM : Nat → Nat} {D : va_G} {d : ClassId} (C : lz_C κ b L xs D d) (hL : L ≤ 256) (hap : lz_D hX aX hM aM) {i : Nat} (hi : i + 4 ≤ L) (FX FM : bx_F) (hR : lwR FX FM) (next : ∀ FX FM : bx_F, lwR FX FM → bx_G κ Q 4 600000 7290000 (lz_S D d hX aX hM aM (ks κ).heap FX FM) 477 [.ref b, .ref hX, .ref hM, .int (nI i)] []) : bx_G κ Q 4 600000 7290000 (lz_S D d hX aX hM aM (ks κ).heap FX FM) 215 [.ref b, .ref hX, .ref hM, .int (nI i)] [] := by
  have hx := C.1
  have hb := C.2.1
  refine g_aload_n hx hb dL_law_215 rfl rfl ?_
  refine g_aload_n hx hb dL_law_216 rfl rfl ?_
  refine g_iload_n hx hb dL_law_217 rfl rfl ?_
  refine g_iconst hx hb (nI 1) dL_law_218 (by decide) ?_
  refine n_iadd hx hb dL_law_219 ?_
  refine l_ld C (by omega) hL dL_law_220 ?_
  refine g_aload_n hx hb dL_law_221 rfl rfl ?_
  refine g_iload_n hx hb dL_law_222 rfl rfl ?_
  refine g_iconst hx hb (nI 2) dL_law_223 (by decide) ?_
  refine n_iadd hx hb dL_law_224 ?_
  refine l_ld C (by omega) hL dL_law_225 ?_
  refine l_callXi C hap (n := 2) (rest := []) (mX_erode (kl κ) D d hX aX FX (xs (i + 1)) (xs (i + 2))) (lw_V q87 q88 q89 q16 q90) (by decide +kernel) rfl ⟨rfl, rfl⟩ ⟨by decide, by decide⟩ rfl (Nat.le_of_ble_eq_true rfl) dL_law_226 (fun x1 u1 p1 => ?_)
  refine g_aload_n hx hb dL_law_229 rfl rfl ?_
  refine g_aload_n hx hb dL_law_230 rfl rfl ?_
  refine g_iload_n hx hb dL_law_231 rfl rfl ?_
  refine g_iconst hx hb (nI 1) dL_law_232 (by decide) ?_
  refine n_iadd hx hb dL_law_233 ?_
  refine l_ld C (by omega) hL dL_law_234 ?_
  refine g_aload_n hx hb dL_law_235 rfl rfl ?_
  refine g_iload_n hx hb dL_law_236 rfl rfl ?_
  refine g_iconst hx hb (nI 2) dL_law_237 (by decide) ?_
  refine n_iadd hx hb dL_law_238 ?_
  refine l_ld C (by omega) hL dL_law_239 ?_
  refine l_callMi C hap (n := 2) (rest := [.int x1]) (mM_erode (kl κ) D d hM aM FM (xs (i + 1)) (xs (i + 2))) (lw_V q204 q205 q206 q17 q207) (by decide +kernel) rfl ⟨rfl, rfl⟩ ⟨by decide, by decide⟩ rfl (Nat.le_of_ble_eq_true rfl) dL_law_240 (fun x2 u2 p2 => ?_)
  have hc := lr_f R_ero_u hR p1 p2
  exact g_icmp_eq hx hb 477 dL_law_243 (by decide) (fun _ => next u1 u2 hc.2) (fun c => absurd hc.1 c)
set_option maxHeartbeats 4000000 in
theorem lc_open {κ : bx_K} {Q : State → Prop} {b L hX hM : Nat} {xs : Nat → Int32} {aX aM : Nat → Nat} {D : va_G} {d : ClassId} (C : lz_C κ b L xs D d) (hL : L ≤ 256) (hap : lz_D hX aX hM aM) {i : Nat} (hi : i + 4 ≤ L) (FX FM : bx_F) (hR : lwR FX FM) (next : ∀ FX FM : bx_F, lwR FX FM → bx_G κ Q 4 600000 7290000 (lz_S D d hX aX hM aM (ks κ).heap FX FM) 477 [.ref b, .ref hX, .ref hM, .int (nI i)] []) : bx_G κ Q 4 600000 7290000 (lz_S D d hX aX hM aM (ks κ).heap FX FM) 248 [.ref b, .ref hX, .ref hM, .int (nI i)] [] := by
  have hx := C.1
  have hb := C.2.1
  refine g_aload_n hx hb dL_law_248 rfl rfl ?_
  refine g_aload_n hx hb dL_law_249 rfl rfl ?_
  refine g_iload_n hx hb dL_law_250 rfl rfl ?_
  refine g_iconst hx hb (nI 1) dL_law_251 (by decide) ?_
  refine n_iadd hx hb dL_law_252 ?_
  refine l_ld C (by omega) hL dL_law_253 ?_
  refine g_aload_n hx hb dL_law_254 rfl rfl ?_
  refine g_iload_n hx hb dL_law_255 rfl rfl ?_
  refine g_iconst hx hb (nI 2) dL_law_256 (by decide) ?_
  refine n_iadd hx hb dL_law_257 ?_
  refine l_ld C (by omega) hL dL_law_258 ?_
  refine l_callXi C hap (n := 2) (rest := []) (mX_open (kl κ) D d hX aX FX (xs (i + 1)) (xs (i + 2))) (lw_V q91 q92 q93 q16 q94) (by decide +kernel) rfl ⟨rfl, rfl⟩ ⟨by decide, by decide⟩ rfl (Nat.le_of_ble_eq_true rfl) dL_law_259 (fun x1 u1 p1 => ?_)
  refine g_aload_n hx hb dL_law_262 rfl rfl ?_
  refine g_aload_n hx hb dL_law_263 rfl rfl ?_
  refine g_iload_n hx hb dL_law_264 rfl rfl ?_
  refine g_iconst hx hb (nI 1) dL_law_265 (by decide) ?_
  refine n_iadd hx hb dL_law_266 ?_
  refine l_ld C (by omega) hL dL_law_267 ?_
  refine g_aload_n hx hb dL_law_268 rfl rfl ?_
  refine g_iload_n hx hb dL_law_269 rfl rfl ?_
  refine g_iconst hx hb (nI 2) dL_law_270 (by decide) ?_
  refine n_iadd hx hb dL_law_271 ?_
  refine l_ld C (by omega) hL dL_law_272 ?_
  refine l_callMi C hap (n := 2) (rest := [.int x1]) (mM_open (kl κ) D d hM aM FM (xs (i + 1)) (xs (i + 2))) (lw_V q208 q209 q210 q17 q211) (by decide +kernel) rfl ⟨rfl, rfl⟩ ⟨by decide, by decide⟩ rfl (Nat.le_of_ble_eq_true rfl) dL_law_273 (fun x2 u2 p2 => ?_)
  have hc := lr_f R_opn_u hR p1 p2
  exact g_icmp_eq hx hb 477 dL_law_276 (by decide) (fun _ => next u1 u2 hc.2) (fun c => absurd hc.1 c)
set_option maxHeartbeats 4000000 in
theorem lc_close {κ : bx_K} {Q : State → Prop} {b L hX hM : Nat} {xs : Nat → Int32} {aX aM : Nat → Nat} {D : va_G} {d : ClassId} (C : lz_C κ b L xs D d) (hL : L ≤ 256) (hap : lz_D hX aX hM aM) {i : Nat} (hi : i + 4 ≤ L) (FX FM : bx_F) (hR : lwR FX FM) (next : ∀ FX FM : bx_F, lwR FX FM → bx_G κ Q 4 600000 7290000 (lz_S D d hX aX hM aM (ks κ).heap FX FM) 477 [.ref b, .ref hX, .ref hM, .int (nI i)] []) : bx_G κ Q 4 600000 7290000 (lz_S D d hX aX hM aM (ks κ).heap FX FM) 281 [.ref b, .ref hX, .ref hM, .int (nI i)] [] := by
  have hx := C.1
  have hb := C.2.1
  refine g_aload_n hx hb dL_law_281 rfl rfl ?_
  refine g_aload_n hx hb dL_law_282 rfl rfl ?_
  refine g_iload_n hx hb dL_law_283 rfl rfl ?_
  refine g_iconst hx hb (nI 1) dL_law_284 (by decide) ?_
  refine n_iadd hx hb dL_law_285 ?_
  refine l_ld C (by omega) hL dL_law_286 ?_
  refine g_aload_n hx hb dL_law_287 rfl rfl ?_
  refine g_iload_n hx hb dL_law_288 rfl rfl ?_
  refine g_iconst hx hb (nI 2) dL_law_289 (by decide) ?_
  refine n_iadd hx hb dL_law_290 ?_
  refine l_ld C (by omega) hL dL_law_291 ?_
  refine l_callXi C hap (n := 2) (rest := []) (mX_close (kl κ) D d hX aX FX (xs (i + 1)) (xs (i + 2))) (lw_V q95 q96 q97 q16 q98) (by decide +kernel) rfl ⟨rfl, rfl⟩ ⟨by decide, by decide⟩ rfl (Nat.le_of_ble_eq_true rfl) dL_law_292 (fun x1 u1 p1 => ?_)
  refine g_aload_n hx hb dL_law_295 rfl rfl ?_
  refine g_aload_n hx hb dL_law_296 rfl rfl ?_
  refine g_iload_n hx hb dL_law_297 rfl rfl ?_
  refine g_iconst hx hb (nI 1) dL_law_298 (by decide) ?_
  refine n_iadd hx hb dL_law_299 ?_
  refine l_ld C (by omega) hL dL_law_300 ?_
  refine g_aload_n hx hb dL_law_301 rfl rfl ?_
  refine g_iload_n hx hb dL_law_302 rfl rfl ?_
  refine g_iconst hx hb (nI 2) dL_law_303 (by decide) ?_
  refine n_iadd hx hb dL_law_304 ?_
  refine l_ld C (by omega) hL dL_law_305 ?_
  refine l_callMi C hap (n := 2) (rest := [.int x1]) (mM_close (kl κ) D d hM aM FM (xs (i + 1)) (xs (i + 2))) (lw_V q212 q213 q214 q17 q215) (by decide +kernel) rfl ⟨rfl, rfl⟩ ⟨by decide, by decide⟩ rfl (Nat.le_of_ble_eq_true rfl) dL_law_306 (fun x2 u2 p2 => ?_)
  have hc := lr_f R_clo_u hR p1 p2
  exact g_icmp_eq hx hb 477 dL_law_309 (by decide) (fun _ => next u1 u2 hc.2) (fun c => absurd hc.1 c)
set_option maxHeartbeats 4000000 in
theorem lc_mean {κ : bx_K} {Q : State → Prop} {b L hX hM : Nat} {xs : Nat → Int32} {aX aM : Nat → Nat} {D : va_G} {d : ClassId} (C : lz_C κ b L xs D d) (hL : L ≤ 256) (hap : lz_D hX aX hM aM) {i : Nat} (hi : i + 4 ≤ L) (FX FM : bx_F) (hR : lwR FX FM) (next : ∀ FX FM : bx_F, lwR FX FM → bx_G κ Q 4 600000 7290000 (lz_S D d hX aX hM aM (ks κ).heap FX FM) 477 [.ref b, .ref hX, .ref hM, .int (nI i)] []) : bx_G κ Q 4 600000 7290000 (lz_S D d hX aX hM aM (ks κ).heap FX FM) 314 [.ref b, .ref hX, .ref hM, .int (nI i)] [] := by
  have hx := C.1
  have hb := C.2.1
  refine g_aload_n hx hb dL_law_314 rfl rfl ?_
  refine g_aload_n hx hb dL_law_315 rfl rfl ?_
  refine g_iload_n hx hb dL_law_316 rfl rfl ?_
  refine g_iconst hx hb (nI 1) dL_law_317 (by decide) ?_
  refine n_iadd hx hb dL_law_318 ?_
  refine l_ld C (by omega) hL dL_law_319 ?_
  refine g_aload_n hx hb dL_law_320 rfl rfl ?_
  refine g_iload_n hx hb dL_law_321 rfl rfl ?_
  refine g_iconst hx hb (nI 2) dL_law_322 (by decide) ?_
  refine n_iadd hx hb dL_law_323 ?_
  refine l_ld C (by omega) hL dL_law_324 ?_
  refine l_callXi C hap (n := 2) (rest := []) (mX_mean (kl κ) D d hX aX FX (xs (i + 1)) (xs (i + 2)) hR.2.2) (lw_V q99 q100 q101 q16 q102) (by decide +kernel) rfl ⟨rfl, rfl⟩ ⟨by decide, by decide⟩ rfl (Nat.le_of_ble_eq_true rfl) dL_law_325 (fun x1 u1 p1 => ?_)
  refine g_aload_n hx hb dL_law_328 rfl rfl ?_
  refine g_aload_n hx hb dL_law_329 rfl rfl ?_
  refine g_iload_n hx hb dL_law_330 rfl rfl ?_
  refine g_iconst hx hb (nI 1) dL_law_331 (by decide) ?_
  refine n_iadd hx hb dL_law_332 ?_
  refine l_ld C (by omega) hL dL_law_333 ?_
  refine g_aload_n hx hb dL_law_334 rfl rfl ?_
  refine g_iload_n hx hb dL_law_335 rfl rfl ?_
  refine g_iconst hx hb (nI 2) dL_law_336 (by decide) ?_
  refine n_iadd hx hb dL_law_337 ?_
  refine l_ld C (by omega) hL dL_law_338 ?_
  refine l_callMi C hap (n := 2) (rest := [.int x1]) (mM_mean (kl κ) D d hM aM FM (xs (i + 1)) (xs (i + 2))) (lw_V q216 q217 q218 q17 q219) (by decide +kernel) rfl ⟨rfl, rfl⟩ ⟨by decide, by decide⟩ rfl (Nat.le_of_ble_eq_true rfl) dL_law_339 (fun x2 u2 p2 => ?_)
  have hc := lr_f R_mean_u hR p1 p2
  exact g_icmp_eq hx hb 477 dL_law_342 (by decide) (fun _ => next u1 u2 hc.2) (fun c => absurd hc.1 c)
set_option maxHeartbeats 4000000 in
theorem lc_threshold {κ : bx_K} {Q : State → Prop} {b L hX hM : Nat} {xs : Nat → Int32} {aX aM : Nat → Nat} {D : va_G} {d : ClassId} (C : lz_C κ b L xs D d) (hL : L ≤ 256) (hap : lz_D hX aX hM aM) {i : Nat} (hi : i + 4 ≤ L) (FX FM : bx_F) (hR : lwR FX FM) (next : ∀ FX FM : bx_F, lwR FX FM → bx_G κ Q 4 600000 7290000 (lz_S D d hX aX hM aM (ks κ).heap FX FM) 477 [.ref b, .ref hX, .ref hM, .int (nI i)] []) : bx_G κ Q 4 600000 7290000 (lz_S D d hX aX hM aM (ks κ).heap FX FM) 347 [.ref b, .ref hX, .ref hM, .int (nI i)] [] := by
  have hx := C.1
  have hb := C.2.1
  refine g_aload_n hx hb dL_law_347 rfl rfl ?_
  refine g_aload_n hx hb dL_law_348 rfl rfl ?_
  refine g_iload_n hx hb dL_law_349 rfl rfl ?_
  refine g_iconst hx hb (nI 1) dL_law_350 (by decide) ?_
  refine n_iadd hx hb dL_law_351 ?_
  refine l_ld C (by omega) hL dL_law_352 ?_
  refine l_callXi C hap (n := 1) (rest := []) (mX_threshold (kl κ) D d hX aX FX (xs (i + 1))) (lw_V q114 q115 q116 q16 q117) (by decide +kernel) rfl ⟨rfl, rfl⟩ ⟨by decide, by decide⟩ rfl (Nat.le_of_ble_eq_true rfl) dL_law_353 (fun x1 u1 p1 => ?_)
  refine g_aload_n hx hb dL_law_356 rfl rfl ?_
  refine g_aload_n hx hb dL_law_357 rfl rfl ?_
  refine g_iload_n hx hb dL_law_358 rfl rfl ?_
  refine g_iconst hx hb (nI 1) dL_law_359 (by decide) ?_
  refine n_iadd hx hb dL_law_360 ?_
  refine l_ld C (by omega) hL dL_law_361 ?_
  refine l_callMi C hap (n := 1) (rest := [.int x1]) (mM_threshold (kl κ) D d hM aM FM (xs (i + 1))) (lw_V q220 q221 q222 q17 q223) (by decide +kernel) rfl ⟨rfl, rfl⟩ ⟨by decide, by decide⟩ rfl (Nat.le_of_ble_eq_true rfl) dL_law_362 (fun x2 u2 p2 => ?_)
  have hc := lr_threshold hR p1 p2
  exact g_icmp_eq hx hb 477 dL_law_365 (by decide) (fun _ => next u1 u2 hc.2) (fun c => absurd hc.1 c)
set_option maxHeartbeats 4000000 in
theorem lc_exchange {κ : bx_K} {Q : State → Prop} {b L hX hM : Nat} {xs : Nat → Int32} {aX aM : Nat → Nat} {D : va_G} {d : ClassId} (C : lz_C κ b L xs D d) (hL : L ≤ 256) (hap : lz_D hX aX hM aM) {i : Nat} (hi : i + 4 ≤ L) (FX FM : bx_F) (hR : lwR FX FM) (next : ∀ FX FM : bx_F, lwR FX FM → bx_G κ Q 4 600000 7290000 (lz_S D d hX aX hM aM (ks κ).heap FX FM) 477 [.ref b, .ref hX, .ref hM, .int (nI i)] []) : bx_G κ Q 4 600000 7290000 (lz_S D d hX aX hM aM (ks κ).heap FX FM) 370 [.ref b, .ref hX, .ref hM, .int (nI i)] [] := by
  have hx := C.1
  have hb := C.2.1
  refine g_aload_n hx hb dL_law_370 rfl rfl ?_
  refine l_callXv C hap (n := 0) (rest := []) (mX_exchange (kl κ) D d hX aX FX ) (lw_V q118 q119 q120 q16 q121) (by decide +kernel) rfl ⟨rfl, rfl⟩ ⟨by decide, by decide⟩ rfl (Nat.le_of_ble_eq_true rfl) dL_law_371 (fun u1 p1 => ?_)
  refine g_aload_n hx hb dL_law_374 rfl rfl ?_
  refine l_callMv C hap (n := 0) (rest := []) (mM_exchange (kl κ) D d hM aM FM ) (lw_V q224 q225 q226 q17 q227) (by decide +kernel) rfl ⟨rfl, rfl⟩ ⟨by decide, by decide⟩ rfl (Nat.le_of_ble_eq_true rfl) dL_law_375 (fun u2 p2 => ?_)
  have hc := lr_exchange hR p1 p2
  refine g_goto hx hb 477 dL_law_378 (by decide) ?_
  exact next u1 u2 hc
set_option maxHeartbeats 4000000 in
theorem lc_keep {κ : bx_K} {Q : State → Prop} {b L hX hM : Nat} {xs : Nat → Int32} {aX aM : Nat → Nat} {D : va_G} {d : ClassId} (C : lz_C κ b L xs D d) (hL : L ≤ 256) (hap : lz_D hX aX hM aM) {i : Nat} (hi : i + 4 ≤ L) (FX FM : bx_F) (hR : lwR FX FM) (next : ∀ FX FM : bx_F, lwR FX FM → bx_G κ Q 4 600000 7290000 (lz_S D d hX aX hM aM (ks κ).heap FX FM) 477 [.ref b, .ref hX, .ref hM, .int (nI i)] []) : bx_G κ Q 4 600000 7290000 (lz_S D d hX aX hM aM (ks κ).heap FX FM) 381 [.ref b, .ref hX, .ref hM, .int (nI i)] [] := by
  have hx := C.1
  have hb := C.2.1
  refine g_aload_n hx hb dL_law_381 rfl rfl ?_
  refine l_callXv C hap (n := 0) (rest := []) (mX_keep (kl κ) D d hX aX FX ) (lw_V q122 q123 q124 q16 q125) (by decide +kernel) rfl ⟨rfl, rfl⟩ ⟨by decide, by decide⟩ rfl (Nat.le_of_ble_eq_true rfl) dL_law_382 (fun u1 p1 => ?_)
  refine g_aload_n hx hb dL_law_385 rfl rfl ?_
  refine l_callMv C hap (n := 0) (rest := []) (mM_keep (kl κ) D d hM aM FM ) (lw_V q228 q229 q230 q17 q231) (by decide +kernel) rfl ⟨rfl, rfl⟩ ⟨by decide, by decide⟩ rfl (Nat.le_of_ble_eq_true rfl) dL_law_386 (fun u2 p2 => ?_)
  have hc := lr_keep hR p1 p2
  refine g_goto hx hb 477 dL_law_389 (by decide) ?_
  exact next u1 u2 hc
set_option maxHeartbeats 4000000 in
theorem lc_pixel {κ : bx_K} {Q : State → Prop} {b L hX hM : Nat} {xs : Nat → Int32} {aX aM : Nat → Nat} {D : va_G} {d : ClassId} (C : lz_C κ b L xs D d) (hL : L ≤ 256) (hap : lz_D hX aX hM aM) {i : Nat} (hi : i + 4 ≤ L) (FX FM : bx_F) (hR : lwR FX FM) (next : ∀ FX FM : bx_F, lwR FX FM → bx_G κ Q 4 600000 7290000 (lz_S D d hX aX hM aM (ks κ).heap FX FM) 477 [.ref b, .ref hX, .ref hM, .int (nI i)] []) : bx_G κ Q 4 600000 7290000 (lz_S D d hX aX hM aM (ks κ).heap FX FM) 392 [.ref b, .ref hX, .ref hM, .int (nI i)] [] := by
  have hx := C.1
  have hb := C.2.1
  refine g_aload_n hx hb dL_law_392 rfl rfl ?_
  refine g_aload_n hx hb dL_law_393 rfl rfl ?_
  refine g_iload_n hx hb dL_law_394 rfl rfl ?_
  refine g_iconst hx hb (nI 1) dL_law_395 (by decide) ?_
  refine n_iadd hx hb dL_law_396 ?_
  refine l_ld C (by omega) hL dL_law_397 ?_
  refine g_aload_n hx hb dL_law_398 rfl rfl ?_
  refine g_iload_n hx hb dL_law_399 rfl rfl ?_
  refine g_iconst hx hb (nI 2) dL_law_400 (by decide) ?_
  refine n_iadd hx hb dL_law_401 ?_
  refine l_ld C (by omega) hL dL_law_402 ?_
  refine l_callXi C hap (n := 2) (rest := []) (mX_pixel (kl κ) D d hX aX FX (xs (i + 1)) (xs (i + 2))) (lw_V q126 q127 q128 q16 q129) (by decide +kernel) rfl ⟨rfl, rfl⟩ ⟨by decide, by decide⟩ rfl (Nat.le_of_ble_eq_true rfl) dL_law_403 (fun x1 u1 p1 => ?_)
  refine g_aload_n hx hb dL_law_406 rfl rfl ?_
  refine g_aload_n hx hb dL_law_407 rfl rfl ?_
  refine g_iload_n hx hb dL_law_408 rfl rfl ?_
  refine g_iconst hx hb (nI 1) dL_law_409 (by decide) ?_
  refine n_iadd hx hb dL_law_410 ?_
  refine l_ld C (by omega) hL dL_law_411 ?_
  refine g_aload_n hx hb dL_law_412 rfl rfl ?_
  refine g_iload_n hx hb dL_law_413 rfl rfl ?_
  refine g_iconst hx hb (nI 2) dL_law_414 (by decide) ?_
  refine n_iadd hx hb dL_law_415 ?_
  refine l_ld C (by omega) hL dL_law_416 ?_
  refine l_callMi C hap (n := 2) (rest := [.int x1]) (mM_pixel (kl κ) D d hM aM FM (xs (i + 1)) (xs (i + 2))) (lw_V q232 q233 q234 q17 q235) (by decide +kernel) rfl ⟨rfl, rfl⟩ ⟨by decide, by decide⟩ rfl (Nat.le_of_ble_eq_true rfl) dL_law_417 (fun x2 u2 p2 => ?_)
  have hc := lr_pixel hR p1 p2
  exact g_icmp_eq hx hb 477 dL_law_420 (by decide) (fun _ => next u1 u2 hc.2) (fun c => absurd hc.1 c)
set_option maxHeartbeats 4000000 in
theorem lc_sum {κ : bx_K} {Q : State → Prop} {b L hX hM : Nat} {xs : Nat → Int32} {aX aM : Nat → Nat} {D : va_G} {d : ClassId} (C : lz_C κ b L xs D d) (hL : L ≤ 256) (hap : lz_D hX aX hM aM) {i : Nat} (hi : i + 4 ≤ L) (FX FM : bx_F) (hR : lwR FX FM) (next : ∀ FX FM : bx_F, lwR FX FM → bx_G κ Q 4 600000 7290000 (lz_S D d hX aX hM aM (ks κ).heap FX FM) 477 [.ref b, .ref hX, .ref hM, .int (nI i)] []) : bx_G κ Q 4 600000 7290000 (lz_S D d hX aX hM aM (ks κ).heap FX FM) 425 [.ref b, .ref hX, .ref hM, .int (nI i)] [] := by
  have hx := C.1
  have hb := C.2.1
  refine g_aload_n hx hb dL_law_425 rfl rfl ?_
  refine l_callXi C hap (n := 0) (rest := []) (mX_sum (kl κ) D d hX aX FX ) (lw_V q130 q131 q132 q16 q133) (by decide +kernel) rfl ⟨rfl, rfl⟩ ⟨by decide, by decide⟩ rfl (Nat.le_of_ble_eq_true rfl) dL_law_426 (fun x1 u1 p1 => ?_)
  refine g_aload_n hx hb dL_law_429 rfl rfl ?_
  refine l_callMi C hap (n := 0) (rest := [.int x1]) (mM_sum (kl κ) D d hM aM FM ) (lw_V q236 q237 q238 q17 q239) (by decide +kernel) rfl ⟨rfl, rfl⟩ ⟨by decide, by decide⟩ rfl (Nat.le_of_ble_eq_true rfl) dL_law_430 (fun x2 u2 p2 => ?_)
  have hc := lr_sum hR p1 p2
  exact g_icmp_eq hx hb 477 dL_law_433 (by decide) (fun _ => next u1 u2 hc.2) (fun c => absurd hc.1 c)
set_option maxHeartbeats 4000000 in
theorem lc_equal {κ : bx_K} {Q : State → Prop} {b L hX hM : Nat} {xs : Nat → Int32} {aX aM : Nat → Nat} {D : va_G} {d : ClassId} (C : lz_C κ b L xs D d) (hL : L ≤ 256) (hap : lz_D hX aX hM aM) {i : Nat} (hi : i + 4 ≤ L) (FX FM : bx_F) (hR : lwR FX FM) (next : ∀ FX FM : bx_F, lwR FX FM → bx_G κ Q 4 600000 7290000 (lz_S D d hX aX hM aM (ks κ).heap FX FM) 477 [.ref b, .ref hX, .ref hM, .int (nI i)] []) : bx_G κ Q 4 600000 7290000 (lz_S D d hX aX hM aM (ks κ).heap FX FM) 438 [.ref b, .ref hX, .ref hM, .int (nI i)] [] := by
  have hx := C.1
  have hb := C.2.1
  refine g_aload_n hx hb dL_law_438 rfl rfl ?_
  refine l_callXi C hap (n := 0) (rest := []) (mX_equal (kl κ) D d hX aX FX ) (lw_V q134 q135 q136 q16 q137) (by decide +kernel) rfl ⟨rfl, rfl⟩ ⟨by decide, by decide⟩ rfl (Nat.le_of_ble_eq_true rfl) dL_law_439 (fun x1 u1 p1 => ?_)
  refine g_aload_n hx hb dL_law_442 rfl rfl ?_
  refine l_callMi C hap (n := 0) (rest := [.int x1]) (mM_equal (kl κ) D d hM aM FM ) (lw_V q240 q241 q242 q17 q243) (by decide +kernel) rfl ⟨rfl, rfl⟩ ⟨by decide, by decide⟩ rfl (Nat.le_of_ble_eq_true rfl) dL_law_443 (fun x2 u2 p2 => ?_)
  have hc := lr_equal hR p1 p2
  exact g_icmp_eq hx hb 477 dL_law_446 (by decide) (fun _ => next u1 u2 hc.2) (fun c => absurd hc.1 c)
set_option maxHeartbeats 4000000 in
theorem lc_above {κ : bx_K} {Q : State → Prop} {b L hX hM : Nat} {xs : Nat → Int32} {aX aM : Nat → Nat} {D : va_G} {d : ClassId} (C : lz_C κ b L xs D d) (hL : L ≤ 256) (hap : lz_D hX aX hM aM) {i : Nat} (hi : i + 4 ≤ L) (FX FM : bx_F) (hR : lwR FX FM) (next : ∀ FX FM : bx_F, lwR FX FM → bx_G κ Q 4 600000 7290000 (lz_S D d hX aX hM aM (ks κ).heap FX FM) 477 [.ref b, .ref hX, .ref hM, .int (nI i)] []) : bx_G κ Q 4 600000 7290000 (lz_S D d hX aX hM aM (ks κ).heap FX FM) 451 [.ref b, .ref hX, .ref hM, .int (nI i)] [] := by
  have hx := C.1
  have hb := C.2.1
  refine g_aload_n hx hb dL_law_451 rfl rfl ?_
  refine l_callXi C hap (n := 0) (rest := []) (mX_above (kl κ) D d hX aX FX ) (lw_V q138 q139 q140 q16 q141) (by decide +kernel) rfl ⟨rfl, rfl⟩ ⟨by decide, by decide⟩ rfl (Nat.le_of_ble_eq_true rfl) dL_law_452 (fun x1 u1 p1 => ?_)
  refine g_aload_n hx hb dL_law_455 rfl rfl ?_
  refine l_callMi C hap (n := 0) (rest := [.int x1]) (mM_above (kl κ) D d hM aM FM ) (lw_V q244 q245 q246 q17 q247) (by decide +kernel) rfl ⟨rfl, rfl⟩ ⟨by decide, by decide⟩ rfl (Nat.le_of_ble_eq_true rfl) dL_law_456 (fun x2 u2 p2 => ?_)
  have hc := lr_above hR p1 p2
  exact g_icmp_eq hx hb 477 dL_law_459 (by decide) (fun _ => next u1 u2 hc.2) (fun c => absurd hc.1 c)
set_option maxHeartbeats 4000000 in
theorem lc_patches {κ : bx_K} {Q : State → Prop} {b L hX hM : Nat} {xs : Nat → Int32} {aX aM : Nat → Nat} {D : va_G} {d : ClassId} (C : lz_C κ b L xs D d) (hL : L ≤ 256) (hap : lz_D hX aX hM aM) {i : Nat} (hi : i + 4 ≤ L) (FX FM : bx_F) (hR : lwR FX FM) (next : ∀ FX FM : bx_F, lwR FX FM → bx_G κ Q 4 600000 7290000 (lz_S D d hX aX hM aM (ks κ).heap FX FM) 477 [.ref b, .ref hX, .ref hM, .int (nI i)] []) : bx_G κ Q 4 600000 7290000 (lz_S D d hX aX hM aM (ks κ).heap FX FM) 464 [.ref b, .ref hX, .ref hM, .int (nI i)] [] := by
  have hx := C.1
  have hb := C.2.1
  refine g_aload_n hx hb dL_law_464 rfl rfl ?_
  refine l_callXi C hap (n := 0) (rest := []) (mX_patches (kl κ) D d hX aX FX ) (lw_V q142 q143 q144 q16 q145) (by decide +kernel) rfl ⟨rfl, rfl⟩ ⟨by decide, by decide⟩ rfl (Nat.le_of_ble_eq_true rfl) dL_law_465 (fun x1 u1 p1 => ?_)
  refine g_aload_n hx hb dL_law_468 rfl rfl ?_
  refine l_callMi C hap (n := 0) (rest := [.int x1]) (mM_patches (kl κ) D d hM aM FM ) (lw_V q248 q249 q250 q17 q251) (by decide +kernel) rfl ⟨rfl, rfl⟩ ⟨by decide, by decide⟩ rfl (Nat.le_of_ble_eq_true rfl) dL_law_469 (fun x2 u2 p2 => ?_)
  have hc := lr_patches hR p1 p2
  exact g_icmp_eq hx hb 477 dL_law_472 (by decide) (fun _ => next u1 u2 hc.2) (fun c => absurd hc.1 c)
end
section
set_option maxRecDepth 100000
set_option maxHeartbeats 4000000 in
theorem law_loop {κ : bx_K} {Q : State → Prop} {b L hX hM : Nat} {xs : Nat → Int32} {aX aM : Nat → Nat} {D : va_G} {d : ClassId} (C : lz_C κ b L xs D d) (hL : L ≤ 256) (hap : lz_D hX aX hM aM) (fin : ∀ FX FM : bx_F, bx_G κ Q 4 600000 7290000 (lz_S D d hX aX hM aM (ks κ).heap FX FM) 483 [.ref b, .ref hX, .ref hM, .null] []) : ∀ (n i : Nat) (FX FM : bx_F), L ≤ i + n → i ≤ L + 4 → lwR FX FM → bx_G κ Q 4 600000 7290000 (lz_S D d hX aX hM aM (ks κ).heap FX FM) 18 [.ref b, .ref hX, .ref hM, .int (nI i)] [] := by
  have hx := C.1
  have hb := C.2.1
  intro n
  induction n with
  | zero =>
    intro i FX FM hn hi4 hR
    refine g_iload_n hx hb dL_law_18 rfl rfl ?_
    refine g_aload_n hx hb dL_law_19 rfl rfl ?_
    refine l_len C dL_law_20 ?_
    refine g_iconst hx hb (nI 4) dL_law_21 (by decide) ?_
    refine g_isub hx hb dL_law_22 ?_
    refine g_icmp_gt hx hb 483 dL_law_23 (by decide) (fun c => ?_) (fun c => ?_)
    · refine g_less (vs' := [.ref b, .ref hX, .ref hM, .null]) (fun q v hv => by rcases q with _ | _ | _ | _ | q <;> simp at hv ⊢ <;> simp [hv]) ?_
      exact fin FX FM
    · exact absurd ((lw_lt2 (by omega) (by omega) (by omega)).mpr (by omega)) c
  | succ n ih =>
    intro i FX FM hn hi4 hR
    refine g_iload_n hx hb dL_law_18 rfl rfl ?_
    refine g_aload_n hx hb dL_law_19 rfl rfl ?_
    refine l_len C dL_law_20 ?_
    refine g_iconst hx hb (nI 4) dL_law_21 (by decide) ?_
    refine g_isub hx hb dL_law_22 ?_
    refine g_icmp_gt hx hb 483 dL_law_23 (by decide) (fun c => ?_) (fun c => ?_)
    · refine g_less (vs' := [.ref b, .ref hX, .ref hM, .null]) (fun q v hv => by rcases q with _ | _ | _ | _ | q <;> simp at hv ⊢ <;> simp [hv]) ?_
      exact fin FX FM
    · have hi : i + 4 ≤ L := Nat.le_of_not_lt fun y => c ((lw_lt2 (by omega) (by omega) (by omega)).mpr y)
      have next : ∀ FX FM : bx_F, lwR FX FM → bx_G κ Q 4 600000 7290000 (lz_S D d hX aX hM aM (ks κ).heap FX FM) 477 [.ref b, .ref hX, .ref hM, .int (nI i)] [] := by
        intro FX FM hR
        refine g_iinc (vs' := [.ref b, .ref hX, .ref hM, .int (nI (i + 4))]) hx hb dL_law_477 rfl (nI_add i 4) (by decide) rfl ?_
        refine g_goto hx hb 18 dL_law_480 (by decide) ?_
        exact ih (i + 4) FX FM (by omega) (by omega) hR
      refine g_aload_n hx hb dL_law_26 rfl rfl ?_
      refine g_iload_n hx hb dL_law_27 rfl rfl ?_
      refine l_ld C (by omega) hL dL_law_28 ?_
      refine g_bipush hx hb (nI 15) dL_law_29 (by decide) ?_
      refine g_iand hx hb dL_law_31 ?_
      obtain ⟨k, hk, ek⟩ := pk_andE (xs i) (m := nI 15) 4 (by decide)
      refine g_top ek ?_
      have hk : k < 16 := hk
      have hk2 : k = 0 ∨ k = 1 ∨ k = 2 ∨ k = 3 ∨ k = 4 ∨ k = 5 ∨ k = 6 ∨ k = 7 ∨ k = 8 ∨ k = 9 ∨ k = 10 ∨ k = 11 ∨ k = 12 ∨ k = 13 ∨ k = 14 ∨ k = 15 := by omega
      rcases hk2 with rfl | rfl | rfl | rfl | rfl | rfl | rfl | rfl | rfl | rfl | rfl | rfl | rfl | rfl | rfl | rfl
      · exact l_in C 108 dL_law_32 (by decide) (by decide) rfl (by decide) (lc_set C hL hap hi FX FM hR next)
      · exact l_in C 151 dL_law_32 (by decide) (by decide) rfl (by decide) (lc_pattern C hL hap hi FX FM hR next)
      · exact l_in C 182 dL_law_32 (by decide) (by decide) rfl (by decide) (lc_dilate C hL hap hi FX FM hR next)
      · exact l_in C 215 dL_law_32 (by decide) (by decide) rfl (by decide) (lc_erode C hL hap hi FX FM hR next)
      · exact l_in C 248 dL_law_32 (by decide) (by decide) rfl (by decide) (lc_open C hL hap hi FX FM hR next)
      · exact l_in C 281 dL_law_32 (by decide) (by decide) rfl (by decide) (lc_close C hL hap hi FX FM hR next)
      · exact l_in C 314 dL_law_32 (by decide) (by decide) rfl (by decide) (lc_mean C hL hap hi FX FM hR next)
      · exact l_in C 347 dL_law_32 (by decide) (by decide) rfl (by decide) (lc_threshold C hL hap hi FX FM hR next)
      · exact l_in C 370 dL_law_32 (by decide) (by decide) rfl (by decide) (lc_exchange C hL hap hi FX FM hR next)
      · exact l_in C 381 dL_law_32 (by decide) (by decide) rfl (by decide) (lc_keep C hL hap hi FX FM hR next)
      · exact l_in C 392 dL_law_32 (by decide) (by decide) rfl (by decide) (lc_pixel C hL hap hi FX FM hR next)
      · exact l_in C 425 dL_law_32 (by decide) (by decide) rfl (by decide) (lc_sum C hL hap hi FX FM hR next)
      · exact l_in C 438 dL_law_32 (by decide) (by decide) rfl (by decide) (lc_equal C hL hap hi FX FM hR next)
      · exact l_in C 451 dL_law_32 (by decide) (by decide) rfl (by decide) (lc_above C hL hap hi FX FM hR next)
      · exact l_in C 464 dL_law_32 (by decide) (by decide) rfl (by decide) (lc_patches C hL hap hi FX FM hR next)
      · exact l_out C 477 dL_law_32 (by decide) (by decide) (next FX FM hR)
end
section
set_option maxRecDepth 100000
/-- both classes, known at the claim's start -/
theorem classes_ {s0 : State} {b0 : Addr} (ht0 : ∀ w ∈ lw_all, w.before #[Value.ref b0] s0 = true) : ∃ (dC : Nat → ClassId) (dI : Nat → Nat → Nat), ∀ (k : Nat) (q : vw_C), vwCl[k]? = some q → u_Kn s0 q.1 q.2.1 q.2.2 (dC k) (dI k) := by
  obtain ⟨c0_, iS0, hKn0⟩ := u_known (C := RX0) (T := TX0) (N := 7) (n := 7) ht0 in_X0 (ht0 _ q19)
  obtain ⟨c1_, iS1, hKn1⟩ := u_known (C := RX1) (T := TX1) (N := 5) (n := 5) ht0 in_X1 (ht0 _ q155)
  refine ⟨fun k => if k = 0 then c0_ else c1_, fun k => if k = 0 then iS0 else iS1, ?_⟩
  intro k q hq
  match k, hq with
  | 0, hq => cases hq; exact hKn0
  | 1, hq => cases hq; exact hKn1
  | k + 2, hq => simp [vwCl] at hq
theorem bx_ad_w {ci : Nat} {ns : List Nat} {h : Nat} {a : Nat → Nat} {d : ClassId} {F : bx_F} {x : Nat} (hx : x ∈ bx_ad ns h a) : ∃ (k : Nat) (e : va_E), (bx_w ci ns h a d F)[k]? = some (x, e) := by
  unfold bx_ad at hx
  unfold bx_w
  rcases List.mem_cons.mp hx with e | e
  · exact ⟨0, _, by rw [e]; rfl⟩
  · obtain ⟨j, hj, rfl⟩ := List.mem_map.mp e
    have hj := List.mem_range.mp hj
    exact ⟨j + 1, _, by rw [List.getElem?_cons_succ, List.getElem?_map, List.getElem?_range hj]; rfl⟩
theorem lz_of {A : Nat → Prop} {hX hM : Nat} {aX aM : Nat → Nat} {d : ClassId} {FX FM : bx_F} (h : va_D A (bx_w 0 nsX hX aX d FX ++ bx_w 1 nsM hM aM d FM)) : va_D A (bx_w 0 nsX hX aX d FX) ∧ va_D A (bx_w 1 nsM hM aM d FM) ∧ lz_D hX aX hM aM := by
  have len : (bx_w 0 nsX hX aX d FX).length = 8 := rfl
  have l1 : ∀ (k : Nat) (q : Nat × va_E), (bx_w 0 nsX hX aX d FX)[k]? = some q → (bx_w 0 nsX hX aX d FX ++ bx_w 1 nsM hM aM d FM)[k]? = some q := fun k q hk => by
    rw [List.getElem?_append_left (List.getElem?_eq_some_iff.mp hk).1]; exact hk
  have l2 : ∀ (k : Nat) (q : Nat × va_E), (bx_w 1 nsM hM aM d FM)[k]? = some q → (bx_w 0 nsX hX aX d FX ++ bx_w 1 nsM hM aM d FM)[8 + k]? = some q := fun k q hk => by
    rw [List.getElem?_append_right (by rw [len]; omega), len, show 8 + k - 8 = k by omega]; exact hk
  refine ⟨⟨fun i j p q hp hq e => h.1 i j p q (l1 i p hp) (l1 j q hq) e, fun k q hk => h.2 k q (l1 k q hk)⟩, ⟨fun i j p q hp hq e => ?_, fun k q hk => h.2 _ q (l2 k q hk)⟩, fun x hx hx2 => ?_⟩
  · have := h.1 _ _ p q (l2 i p hp) (l2 j q hq) e
    omega
  · obtain ⟨k, e, hk⟩ := bx_ad_w (ci := 0) (d := d) (F := FX) hx
    obtain ⟨j, e2, hj⟩ := bx_ad_w (ci := 1) (d := d) (F := FM) hx2
    have h1 := h.1 _ _ _ _ (l1 k _ hk) (l2 j _ hj) rfl
    have h2 := (List.getElem?_eq_some_iff.mp hk).1
    rw [len] at h2
    omega
theorem bx_L.of {ls : Array Slot} {nL : Nat} {l : List (Nat × Value)} {vs : List Value} (h : lv_has ls nL l) (hs : ∀ (i : Nat) (v : Value), vs[i]? = some v → (i, v) ∈ l ∧ v.category = 1) : bx_L ls nL vs := ⟨h.1, h.2.1, fun i v hv => Or.inr ⟨h.2.2 _ (hs i v hv).1, (hs i v hv).2⟩⟩
end
section
set_option maxRecDepth 100000
/-! THE CLAIM OUT OF ONE WALK OF THE LAW'S BODY. Your part is whole_start (and what it stands on); all else here is the same for every law, but numbers. -/
def R_law : String := "BoxFiltersLaw"
def lw_P (b : Addr) (xs : List Int32) (args : Array Value) (s : State) : Prop := args = #[.ref b] ∧ s.IntsAt b xs ∧ xs.length ≤ 256 ∧ (Jvm.Cond.and given_1 narrow_1).before args s = true
def lw_Q (_ : Array Value) (s : State) (o : Outcome) (t : State) : Prop := o = .returned (some (.int 1)) ∧ Framed s o t [] 600000 7290000
def lw_Z (below : List Frame) (a : Array Value) (s : State) : State → Prop := fun t => ∃ o, t.status = .running ∧ Ended t below o ∧ lw_Q a s o t
/-- the law's own end, with 1 on the stack, nothing written that was there before, its room as the claim has it -/
theorem lw_ret {p : Program} {l : Launch} {e : Env} {s : State} {m : MethodId} {below : List Frame} {meth : Method} {c : Code} {b : Nat} (hx : p.tables.exec = Jvm.exec) (hb : c.code = code) (hr : meth.sig.returnType = ret) (hlocks : meth.locks = false) {pc : Nat} {H : Heap} {ls : Array Slot} (hdg : decode code pc = .ok (.ireturn, 1)) : W p l e room_1 s m #[Value.ref b] below meth c H [] 600000 7290000 (lw_Z below #[Value.ref b] s) (F0 m pc ls [.int 1]) := by
  intro T hT X
  obtain ⟨fs, hret, hrun, hended, hW, hframe⟩ := X.leave (v := some (.int 1)) (hlocks := hlocks) (fun h => by rw [hr] at h; cases h)
  have hmeth' : T.vm.method? m = some meth := X.method'
  refine ⟨T.setFrames fs, ?_, .returned (some (.int 1)), hrun, hended, rfl, ⟨_, rfl⟩, hW, hframe⟩
  jvm_step X.here [X.here.top, hx, hb, hdg, hmeth', hr, ret, narrow_b1]
  (try refine ⟨rfl, ?_⟩); (try refine ⟨rfl, ?_⟩)
  first | (intro acts; rw [hret _ acts rfl rfl rfl]) | rw [hret _ _ rfl rfl rfl]
  exact Steps.refl _
/-- what holds at the law's entry: the machine, the code, the tables' words (any of lw_tbl by 'hts w (by decide +kernel)'), the script of L ints xs at the cell b, what the Statement gives of the start (any of its parts by flat_of_before) -/
def lw_At (p : Program) (s : State) (m : MethodId) (meth : Method) (c : Code) (b L : Nat) (xs : Nat → Int32) : Prop :=
  p.tables.exec = Jvm.exec ∧ c.code = code ∧ meth.sig.returnType = ret ∧ c.maxLocals = 4 ∧ s.vm.findClass R_law = some m.cls ∧ (∀ w ∈ lw_tbl, w.before #[Value.ref b] s = true) ∧ va_X b L xs s s.heap ∧ b < s.heap.size ∧ meth.locks = false ∧ (Jvm.Cond.and given_1 narrow_1).before #[Value.ref b] s = true
theorem whole_start {p : Program} {e : Env} {s : State} {m : MethodId} {below : List Frame} {meth : Method} {c : Code} (l : Launch) {b L : Nat} {xs : Nat → Int32} (hL : L ≤ 256) (C0 : lw_At p s m meth c b L xs) : W p l e room_1 s m #[Value.ref b] below meth c s.heap [] 0 0 (lw_Z below #[Value.ref b] s) (entryFrame m ([Value.ref b] : List Value).toArray 4) := by
  obtain ⟨hx, hb, hr, hml, hown, hts0, hX, hbl, hlk, hgv⟩ := C0
  have hts : ∀ w ∈ lw_all, w.before #[Value.ref b] s = true := fun w h => hts0 w (lw_all_tbl h)
  have hown : s.vm.findClass RL = some m.cls := hown
  have hb : c.code = cL_law := hb
  obtain ⟨dC, dI, hKc⟩ := classes_ hts
  have hK : va_K (dC, dI) vwCl [] s := ⟨hKc, fun k q hk => by simp at hk⟩
  have hP : va_P (dC, dI) vwCl [] s.heap := fun k q hk => by simp at hk
  have hD : va_D (fun q => s.heap.size ≤ q) [] := ⟨fun i j p q hp => by simp at hp, fun k q hk => by simp at hk⟩
  have hA : ∀ q : Nat, s.heap.size ≤ q → (fun q => s.heap.size ≤ q) q := fun q h => h
  have hS : va_S (fun q => s.heap.size ≤ q) s.heap s.heap [] := va_S.rf
  have hl := lv_entry ([.ref b]) (n := 4) (Nat.le_of_ble_eq_true rfl)
  rw [lg_entry_eq]
  generalize (lg_sl ([.ref b]) ++ List.replicate (4 - (lg_sl ([.ref b])).length) Slot.unset).toArray = ls at hl ⊢
  have hl : lv_has ls 4 [(0, .ref b)] := hl
  refine va_new (ci := 0) (fs := [.null, .null, .null, .null, .null, .null, .null]) (C := RX0) (T := TX0) (N := 7) hx hb hts in_X0 tyX0 tyX0_ok hown (hts _ q18) (hts _ q19) (hts _ q16) hK hP hD hS hA rfl (fun j hj => by rcases (show j = 0 ∨ j = 1 ∨ j = 2 ∨ j = 3 ∨ j = 4 ∨ j = 5 ∨ j = 6 by omega) with rfl | rfl | rfl | rfl | rfl | rfl | rfl <;> rfl) (Nat.le_of_ble_eq_true rfl) (Nat.le_of_ble_eq_true rfl) dL_law_0 (fun qX H hP hD hS => ?_)
  have hP : va_P (dC, dI) vwCl [(qX, .inr (0, [.null, .null, .null, .null, .null, .null, .null]))] H := hP
  have hD : va_D (fun q => s.heap.size ≤ q) [(qX, .inr (0, [.null, .null, .null, .null, .null, .null, .null]))] := hD
  refine W.widen (k := 1) (n := 7) (Nat.le_of_ble_eq_true rfl) (Nat.le_of_ble_eq_true rfl) ?_
  refine lv_dup hx hb dL_law_3 rfl ?_
  have hFc := va_free (wc := [(qX, .inr (0, [.null, .null, .null, .null, .null, .null, .null]))]) hD hS hA [0] rfl
  refine va_callv (va_runI (As := []) (rest := [.ref qX]) ⟨hx, hb, hml, hown, hts⟩ (mX_init l (dC, dI) qX H.size) (cwI 0 hts (lw_meth q22) rfl rfl rfl (hts _ q16) (hts _ q20) (hts _ q21) rfl (by decide +kernel) ⟨Nat.le_of_ble_eq_true rfl, Nat.le_of_ble_eq_true rfl⟩) ⟨fun a U g mk q => by obtain ⟨q0, q1, qP, qK, qD⟩ := q; exact ⟨q0, q1, qP, va_K.moved (u := U) (U := U.calling g mk a) (Vm.Alike.refl U.vm) qK, qD⟩, fun U hU hW => ⟨rfl, by rw [hU], by rw [hU]; exact hP, va_K.moved hW.alike hK, hD.weaken (fun _ _ _ _ => trivial)⟩⟩ rfl rfl hl.1 rfl (lv_room (Nat.le_of_ble_eq_true rfl)) dL_law_4 ⟨Nat.le_of_ble_eq_true rfl, Nat.le_of_ble_eq_true rfl⟩) hS (fun q _ h => hFc q h) hFc (fun u t H1 locs ht hvm hw1 hB hz1 hk1 hS => ?_)
  obtain ⟨aX, dX⟩ := u
  obtain ⟨hP1, hK1, hD1⟩ := hB
  rw [ht] at hP1
  have hKX : va_K (dC, dI) vwCl [(dX, .int)] s := va_K.moved hvm.symm hK1
  have hP : va_P (dC, dI) vwCl (bx_w 0 nsX qX aX dX (fun _ _ => 0)) H1 := hP1
  have hD : va_D (fun q => s.heap.size ≤ q) (bx_w 0 nsX qX aX dX (fun _ _ => 0)) := hD1.weaken (fun _ _ _ q => hFc _ q)
  refine lv_astore_n (lv' := [(1, .ref qX), (0, .ref b)]) hx hb dL_law_7 rfl hl (by decide) rfl (fun ls hl => ?_)
  refine W.widen (k := 8) (n := 1352) (Nat.le_of_ble_eq_true rfl) (Nat.le_of_ble_eq_true rfl) ?_
  refine va_new (ci := 1) (fs := [.null, .null, .null, .null, .null]) (C := RX1) (T := TX1) (N := 5) hx hb hts in_X1 tyX1 tyX1_ok hown (hts _ q154) (hts _ q155) (hts _ q17) hK hP hD hS hA rfl (fun j hj => by rcases (show j = 0 ∨ j = 1 ∨ j = 2 ∨ j = 3 ∨ j = 4 by omega) with rfl | rfl | rfl | rfl | rfl <;> rfl) (Nat.le_of_ble_eq_true rfl) (Nat.le_of_ble_eq_true rfl) dL_law_8 (fun qM H hP hD hS => ?_)
  refine W.widen (k := 9) (n := 1357) (Nat.le_of_ble_eq_true rfl) (Nat.le_of_ble_eq_true rfl) ?_
  refine lv_dup hx hb dL_law_11 rfl ?_
  have hPc := hP.sub (ws' := [(qM, .inr (1, [.null, .null, .null, .null, .null]))]) [8] rfl
  have hDc := hD.sub (ws' := [(qM, .inr (1, [.null, .null, .null, .null, .null]))]) [8] (by decide) rfl
  have hFc := va_free (wc := [(qM, .inr (1, [.null, .null, .null, .null, .null]))]) hD hS hA [8] rfl
  refine va_callv (va_runI (As := []) (rest := [.ref qM]) ⟨hx, hb, hml, hown, hts⟩ (mM_init l (dC, dI) qM H.size) (cwI 0 hts (lw_meth q158) rfl rfl rfl (hts _ q17) (hts _ q156) (hts _ q157) rfl (by decide +kernel) ⟨Nat.le_of_ble_eq_true rfl, Nat.le_of_ble_eq_true rfl⟩) ⟨fun a U g mk q => by obtain ⟨q0, q1, qP, qK, qD⟩ := q; exact ⟨q0, q1, qP, va_K.moved (u := U) (U := U.calling g mk a) (Vm.Alike.refl U.vm) qK, qD⟩, fun U hU hW => ⟨rfl, by rw [hU], by rw [hU]; exact hPc, va_K.moved hW.alike hK, hDc.weaken (fun _ _ _ _ => trivial)⟩⟩ rfl rfl hl.1 rfl (lv_room (Nat.le_of_ble_eq_true rfl)) dL_law_12 ⟨Nat.le_of_ble_eq_true rfl, Nat.le_of_ble_eq_true rfl⟩) hS (fun q _ h => hFc q h) hFc (fun u t H1 locs ht hvm hw1 hB hz1 hk1 hS => ?_)
  obtain ⟨aM, dM⟩ := u
  obtain ⟨hP1, hK1, hD1⟩ := hB
  rw [ht] at hP1
  have hKM : va_K (dC, dI) vwCl [(dM, .int)] s := va_K.moved hvm.symm hK1
  obtain rfl : dX = dM := kk_same (hKX.app hKM) (i := 0) (j := 1) rfl rfl
  obtain ⟨hP, hD⟩ := va_join (wr := bx_w 0 nsX qX aX dX (fun _ _ => 0)) (w1 := bx_w 1 nsM qM aM dX (fun _ _ => 0)) hP hD [8] [0, 1, 2, 3, 4, 5, 6, 7] rfl rfl (by decide) (by decide) hk1 hFc hP1 hD1
  obtain ⟨hDX, hDM, hap⟩ := lz_of hD
  have hPX : va_P (dC, dI) vwCl (bx_w 0 nsX qX aX dX (fun _ _ => 0)) H1 := fun k q hk => hP k q (by rw [List.getElem?_append_left (List.getElem?_eq_some_iff.mp hk).1]; exact hk)
  refine lv_astore_n (lv' := [(2, .ref qM), (1, .ref qX), (0, .ref b)]) hx hb dL_law_15 rfl hl (by decide) rfl (fun ls hl => ?_)
  refine lv_iconst (v := nI 0) hx hb dL_law_16 (by decide) ?_
  refine lv_istore_n (lv' := [(3, .int (nI 0)), (2, .ref qM), (1, .ref qX), (0, .ref b)]) hx hb dL_law_17 rfl hl (by decide) rfl (fun ls hl => ?_)
  refine W.widen (k := 600000) (n := 7290000) (Nat.le_of_ble_eq_true rfl) (Nat.le_of_ble_eq_true rfl) ?_
  have C : lz_C (p, l, e, room_1, s, m, #[Value.ref b], below, meth, c) b L xs (dC, dI) dX := ⟨hx, hb, hml, hts, hown, hKX, hX, hbl, rfl⟩
  refine law_loop C hL hap (Q := lw_Z below #[Value.ref b] s) (fun FX FM H locs ls hS hl => ?_) L 0 (fun _ _ => 0) (fun _ _ => 0) (by omega) (by omega) lr_0 H1 locs ls ⟨hPX, hP1, hDX, hDM, hS⟩ (bx_L.of hl (fun i v hv => ?_))
  · refine lv_iconst (v := 1) hx hb dL_law_483 (by decide) ?_
    refine va_forget (fun q hq => hS.2.2.2.2.2.2 q hq) ?_
    exact lw_ret hx hb hr hlk dL_law_484
  · rcases i with _ | _ | _ | _ | i <;> simp at hv ⊢ <;> subst hv <;> simp [Value.category]
set_option maxHeartbeats 4000000 in
theorem lw_walk (l : Launch) (b : Addr) (xs : List Int32) : MetFree l x (headSpec (Jvm.Cond.code x code maxLocals ret :: tables_1) room_1) (lw_P b xs) (fun _ _ _ _ _ => True) lw_Q := by
  refine MetFree.of_bodyS (code := code) (maxLocals := maxLocals) (ret := ret) (by decide) ?_ ?_
  · intro args s m h hn
    obtain ⟨meth, c, h1, h2, h3, h4, h5, h6, -, -⟩ := Cond.code_spec hn (atoms_spec (ws := Jvm.Cond.code x code maxLocals ret :: tables_1) h _ List.mem_cons_self)
    exact ⟨meth, c, h1, h2, h3, h4, h5, h6⟩
  · intro p e s m args below meth c s₁ B hml0 hP _
    obtain ⟨rfl, hx, hbd, hgv⟩ := hP
    obtain ⟨scr, harrAt, hlist, hof, hsmall⟩ := hx
    obtain ⟨hcb, hkn, -, -⟩ := State.arrayAt?_spec harrAt
    have hown : s.vm.findClass R_law = some m.cls := findClass_of_methodNamed B.named
    have hts0 : ∀ c ∈ (Jvm.Cond.code x code maxLocals ret :: tables_1), c.before #[Value.ref b] s = true := atoms_spec (ws := Jvm.Cond.code x code maxLocals ret :: tables_1) B.pre
    have hts : ∀ w ∈ lw_tbl, w.before #[Value.ref b] s = true := k2_hts_sels lw_privs (fun w hw => hts0 w (List.mem_cons_of_mem _ hw)) lw_privs_ok
    have hml : c.maxLocals = 4 := B.maxLocals_eq (hts0 _ List.mem_cons_self)
    have X₀ : Stand p l e room_1 s m #[Value.ref b] below meth c s₁ [] 0 0 := Stand.of_body B
    have hh0 : s₁.heap = s.heap := by rw [B.state]; rfl
    have hsz : scr.slots.size = xs.length := by rw [← Array.length_toList, hlist, List.length_map]
    have hval : ∀ j : Nat, j < xs.length → scr.slots[j]? = some (.int (xs.getD j 0)) := fun j hj => by
      rw [← Array.getElem?_toList, hlist]
      simp [hj]
    have hbl : b < s.heap.size := (Array.getElem?_eq_some_iff.mp hcb).1
    have hX : va_X b xs.length (fun j => xs.getD j 0) s s.heap := ⟨scr, hcb, hof, hkn, hsz, hval⟩
    have K : W p l e room_1 s m #[Value.ref b] below meth c s₁.heap [] 0 0 (lw_Z below #[Value.ref b] s) (entryFrame m ([Value.ref b] : List Value).toArray 4) := by
      rw [hh0]
      exact whole_start l hbd ⟨B.exec, B.bytes, B.returns, hml, hown, hts, hX, hbl, B.notSynchronized, hgv⟩
    obtain ⟨t, a1, o, b1, b2, b3⟩ := K s₁ rfl X₀
    exact ⟨t, o, a1, b1, b2, b3⟩
theorem lw_pre_spec {args : Array Value} {s : State} (h : (Jvm.Cond.and given_1 narrow_1).before args s = true) (hr : rest_1_c.before args s = true) : ∃ (b : Addr) (xs : List Int32), lw_P b xs args s := by
  have hs := flat_of_before _ h
  have hq := flat_of_before _ hr
  have hc : (Cond.count 1).before args s = true := hs _ (by decide +kernel)
  have harr : (Cond.arrayOf (.arg 0) .int).before args s = true := hs _ (by decide +kernel)
  have hle : (Cond.le (.length (.arg 0)) (.int 256)).before args s = true := hs _ (by decide +kernel)
  have hlen : (Cond.isInt (.length (.arg 0))).before args s = true := hq _ (by decide +kernel)
  have hall : (Cond.all (.arg 0) (.isInt (.elem (.arg 0) (.index 0)))).before args s = true := hq _ (by decide +kernel)
  obtain ⟨b, xs, hb, hx⟩ := State.ints_of_pre rfl harr hlen hall
  have hsm : xs.length < 2 ^ 31 := hx.choose_spec.2.2.2
  have hev : (Term.length (.arg 0)).eval args s none [] s = some (.int xs.length.toInt32) := hx.length_eval hb
  have hv := Cond.le_ints hev (show (Term.int 256).eval args s none [] s = some (.int 256) from rfl)
  have hd : xs.length.toInt32 ≤ 256 := by
    simpa [Cond.before, Cond.holds, hv] using hle
  have hN : xs.length ≤ 256 := (Int32.ofNat_le_ofNat hsm (by decide)).mp (show Int32.ofNat xs.length ≤ Int32.ofNat 256 from hd)
  exact ⟨b, xs, Cond.one_arg hc (show args[0]? = some (.ref b) from hb), hx, hN, h⟩
theorem lw_comes (l : Launch) : Comes l x (Jvm.Cond.code x code maxLocals ret :: tables_1) room_1 (fun tb e args s => Calls_1 tb e args s ∧ rest_1 tb e args s ∧ Pre_1 tb e args s)
    (fun _ _ args s o t => lw_Q args s o t) := by
  intro p e ha hc hk s m args below hf hfit hheap happ hpre
  obtain ⟨b, xs, hP⟩ := lw_pre_spec hpre.2.2 hpre.2.1
  obtain ⟨k, o, h1, h2, h3, hQ⟩ := lw_walk l b xs p e ha hc hk s m args below hf ((Spec.applies_iff_loose hf).mp happ).1 hP trivial
  exact ⟨k, o, h1, h2, h3, hQ⟩
theorem lw_frame {s t : State} {o : Outcome} {args : Array Value} (h : Framed s o t [] 600000 7290000) :
    Framed s o t (fieldLocs frame_1_writes args s ++ arrayLocs frame_1_arrays args s ++ staticLocs frame_1_statics s) 600000 7290000 := h
theorem lw_limb (L : Cond) (hL : ∀ (args : Array Value) (s t : State), L.after args s (.returned (some (.int 1))) t = true) :
    ArmFor flags0 classFile x code maxLocals ret World_1 tables_1 room_1 Calls_1 rest_1 Pre_1
      (fun tb e a s o t => postC L tb e a s o t ∧ Framed s o t (fieldLocs frame_1_writes a s ++ arrayLocs frame_1_arrays a s ++ staticLocs frame_1_statics s) 600000 7290000) := by
  intro l _ _ _ p e ha hc hk s m args below hf hfit hheap happ hpre
  obtain ⟨k, o, h1, h2, h3, rfl, hF⟩ := lw_comes l p e ha hc hk s m args below hf hfit hheap happ hpre
  exact ⟨k, _, h1, h2, h3, hL args s _, lw_frame hF⟩
theorem i_vc : Claimed_1_1 ∧ Claimed_1_2 := ⟨lw_limb limb_1_1 (fun args s t => by simp [limb_1_1, Cond.after, Cond.holds, Cond.value]), lw_limb limb_1_2 (fun args s t => Cond.after_iff.mpr (by
  first | (rw [show limb_1_2 = Cond.eq .result (.int 1) from rfl, Cond.eq_ints (x := 1) (y := 1) rfl rfl]; simp; done) | (simp [limb_1_2, Cond.value, Term.eval]; done)))⟩
end
