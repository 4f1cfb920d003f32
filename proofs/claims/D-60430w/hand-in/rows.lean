section
-- ===== PART A: goes FIRST, ahead of the names: the tables' words, and 'selects' of the private methods out of them =====
/-- a private method of a class that the tables say can be made, by its rows of tables_1 -/
def lw_okq (q : MethodName × Nat) : Prop := (q.1.cls ≠ "java/lang/invoke/MethodHandle" ∧ q.1.cls ≠ "java/lang/invoke/VarHandle") ∧ Cond.instantiable q.1.cls q.2 ∈ tables_1 ∧ Cond.privateMethod q.1 ∈ tables_1 ∧ Cond.instanceMethod q.1 ∈ tables_1
set_option maxRecDepth 100000
theorem lw_t1 {w : Cond} (h : w ∈ tables_1_1) : w ∈ tables_1 := List.mem_append_left _ h
theorem lw_t2 {w : Cond} (h : w ∈ tables_1_2) : w ∈ tables_1 := List.mem_append_right _ h
theorem lw_p0 : lw_okq (⟨"ParamCloneFinder", "distance", "(I)I"⟩, 13) := ⟨⟨by decide +kernel, by decide +kernel⟩, lw_t1 (List.mem_of_getElem? (i := 4) rfl), lw_t1 (List.mem_of_getElem? (i := 61) rfl), lw_t1 (List.mem_of_getElem? (i := 62) rfl)⟩
theorem lw_p1 : lw_okq (⟨"ParamCloneFinder", "wantedDistance", "(I)I"⟩, 13) := ⟨⟨by decide +kernel, by decide +kernel⟩, lw_t1 (List.mem_of_getElem? (i := 4) rfl), lw_t1 (List.mem_of_getElem? (i := 73) rfl), lw_t1 (List.mem_of_getElem? (i := 74) rfl)⟩
theorem lw_p2 : lw_okq (⟨"ParamCloneFinder", "extendFailure", "(I)V"⟩, 13) := ⟨⟨by decide +kernel, by decide +kernel⟩, lw_t1 (List.mem_of_getElem? (i := 4) rfl), lw_t1 (List.mem_of_getElem? (i := 77) rfl), lw_t1 (List.mem_of_getElem? (i := 78) rfl)⟩
theorem lw_p3 : lw_okq (⟨"ParamCloneFinder", "search", "()V"⟩, 13) := ⟨⟨by decide +kernel, by decide +kernel⟩, lw_t1 (List.mem_of_getElem? (i := 4) rfl), lw_t1 (List.mem_of_getElem? (i := 101) rfl), lw_t1 (List.mem_of_getElem? (i := 102) rfl)⟩
theorem lw_p4 : lw_okq (⟨"ParamCloneFinder", "sweep", "(I)V"⟩, 13) := ⟨⟨by decide +kernel, by decide +kernel⟩, lw_t1 (List.mem_of_getElem? (i := 4) rfl), lw_t1 (List.mem_of_getElem? (i := 117) rfl), lw_t1 (List.mem_of_getElem? (i := 118) rfl)⟩
theorem lw_p5 : lw_okq (⟨"ParamCloneFinder", "sweepDiagonal", "(II)V"⟩, 13) := ⟨⟨by decide +kernel, by decide +kernel⟩, lw_t1 (List.mem_of_getElem? (i := 4) rfl), lw_t1 (List.mem_of_getElem? (i := 121) rfl), lw_t1 (List.mem_of_getElem? (i := 122) rfl)⟩
theorem lw_p6 : lw_okq (⟨"ParamCloneFinder", "takeClone", "(III)V"⟩, 13) := ⟨⟨by decide +kernel, by decide +kernel⟩, lw_t1 (List.mem_of_getElem? (i := 4) rfl), lw_t1 (List.mem_of_getElem? (i := 125) rfl), lw_t1 (List.mem_of_getElem? (i := 126) rfl)⟩
theorem lw_p7 : lw_okq (⟨"ParamCloneFinderModel", "isToken", "(I)Z"⟩, 3) := ⟨⟨by decide +kernel, by decide +kernel⟩, lw_t1 (List.mem_of_getElem? (i := 145) rfl), lw_t1 (List.mem_of_getElem? (i := 165) rfl), lw_t1 (List.mem_of_getElem? (i := 166) rfl)⟩
theorem lw_p8 : lw_okq (⟨"ParamCloneFinderModel", "inText", "(I)Z"⟩, 3) := ⟨⟨by decide +kernel, by decide +kernel⟩, lw_t1 (List.mem_of_getElem? (i := 145) rfl), lw_t1 (List.mem_of_getElem? (i := 173) rfl), lw_t1 (List.mem_of_getElem? (i := 174) rfl)⟩
theorem lw_p9 : lw_okq (⟨"ParamCloneFinderModel", "isMatch", "(I)Z"⟩, 3) := ⟨⟨by decide +kernel, by decide +kernel⟩, lw_t1 (List.mem_of_getElem? (i := 145) rfl), lw_t1 (List.mem_of_getElem? (i := 197) rfl), lw_t1 (List.mem_of_getElem? (i := 198) rfl)⟩
theorem lw_p10 : lw_okq (⟨"ParamCloneFinderModel", "alike", "(III)Z"⟩, 3) := ⟨⟨by decide +kernel, by decide +kernel⟩, lw_t1 (List.mem_of_getElem? (i := 145) rfl), lw_t1 (List.mem_of_getElem? (i := 201) rfl), lw_t1 (List.mem_of_getElem? (i := 202) rfl)⟩
theorem lw_p11 : lw_okq (⟨"ParamCloneFinderModel", "renames", "(III)Z"⟩, 3) := ⟨⟨by decide +kernel, by decide +kernel⟩, lw_t1 (List.mem_of_getElem? (i := 145) rfl), lw_t1 (List.mem_of_getElem? (i := 205) rfl), lw_t1 (List.mem_of_getElem? (i := 206) rfl)⟩
theorem lw_p12 : lw_okq (⟨"ParamCloneFinderModel", "firstWithTwin", "(I)I"⟩, 3) := ⟨⟨by decide +kernel, by decide +kernel⟩, lw_t1 (List.mem_of_getElem? (i := 145) rfl), lw_t1 (List.mem_of_getElem? (i := 222) rfl), lw_t1 (List.mem_of_getElem? (i := 223) rfl)⟩
theorem lw_p13 : lw_okq (⟨"ParamCloneFinderModel", "twin", "(II)I"⟩, 3) := ⟨⟨by decide +kernel, by decide +kernel⟩, lw_t1 (List.mem_of_getElem? (i := 145) rfl), lw_t1 (List.mem_of_getElem? (i := 226) rfl), lw_t1 (List.mem_of_getElem? (i := 227) rfl)⟩
def lw_privs_1 : List (MethodName × Nat) := [(⟨"ParamCloneFinder", "distance", "(I)I"⟩, 13), (⟨"ParamCloneFinder", "wantedDistance", "(I)I"⟩, 13), (⟨"ParamCloneFinder", "extendFailure", "(I)V"⟩, 13), (⟨"ParamCloneFinder", "search", "()V"⟩, 13), (⟨"ParamCloneFinder", "sweep", "(I)V"⟩, 13), (⟨"ParamCloneFinder", "sweepDiagonal", "(II)V"⟩, 13), (⟨"ParamCloneFinder", "takeClone", "(III)V"⟩, 13), (⟨"ParamCloneFinderModel", "isToken", "(I)Z"⟩, 3), (⟨"ParamCloneFinderModel", "inText", "(I)Z"⟩, 3), (⟨"ParamCloneFinderModel", "isMatch", "(I)Z"⟩, 3), (⟨"ParamCloneFinderModel", "alike", "(III)Z"⟩, 3), (⟨"ParamCloneFinderModel", "renames", "(III)Z"⟩, 3), (⟨"ParamCloneFinderModel", "firstWithTwin", "(I)I"⟩, 3), (⟨"ParamCloneFinderModel", "twin", "(II)I"⟩, 3)]
theorem lw_r1 : ∀ q ∈ lw_privs_1, lw_okq q := List.forall_mem_cons.mpr ⟨lw_p0, List.forall_mem_cons.mpr ⟨lw_p1, List.forall_mem_cons.mpr ⟨lw_p2, List.forall_mem_cons.mpr ⟨lw_p3, List.forall_mem_cons.mpr ⟨lw_p4, List.forall_mem_cons.mpr ⟨lw_p5, List.forall_mem_cons.mpr ⟨lw_p6, List.forall_mem_cons.mpr ⟨lw_p7, List.forall_mem_cons.mpr ⟨lw_p8, List.forall_mem_cons.mpr ⟨lw_p9, List.forall_mem_cons.mpr ⟨lw_p10, List.forall_mem_cons.mpr ⟨lw_p11, List.forall_mem_cons.mpr ⟨lw_p12, List.forall_mem_cons.mpr ⟨lw_p13, fun _ h => absurd h List.not_mem_nil⟩⟩⟩⟩⟩⟩⟩⟩⟩⟩⟩⟩⟩⟩
def lw_privs : List (MethodName × Nat) := lw_privs_1
def lw_tbl : List Cond := k2_sels lw_privs ++ tables_1
theorem lw_privs_ok : ∀ q ∈ lw_privs, lw_okq q := lw_r1
-- ===== ONE list of words for every method: the tables' words that hold all through a run =====
def lw_all : List Cond := lw_tbl.filter goodWord
/-- a word of the tables by its place: claim/WORDS.tsv -/
theorem lw_w {w : Cond} (i : Nat) (h : lw_tbl[i]? = some w) (g : goodWord w = true) : w ∈ lw_all := List.mem_filter.mpr ⟨List.mem_of_getElem? h, g⟩
theorem lw_all_tbl {w : Cond} (h : w ∈ lw_all) : w ∈ lw_tbl := (List.mem_filter.mp h).1
theorem lw_self : GoodIn lw_all lw_all := fun w h => ⟨h, good_of_word (List.mem_filter.mp h).2⟩
/-- a class's field words, by their places -/
theorem lw_in (ws : List Cond) (ps : List Nat) (hp : ws = ps.filterMap (fun i => lw_tbl[i]?)) (hg : ws.all goodWord = true) : ∀ w ∈ ws, w ∈ lw_all := by
  intro w h
  have h1 := List.all_eq_true.mp hg w h
  rw [hp] at h
  obtain ⟨i, -, hi⟩ := List.mem_filterMap.mp h
  exact lw_w i hi h1
/-- the words of a contract for the method y with code b, L locals, answer r -/
abbrev ws_ (y : MethodName) (b : ByteArray) (L : Nat) (r : Option FieldType) : List Cond := Cond.code y b L r :: lw_all
theorem lw_meth {y : MethodName} {b : ByteArray} {L : Nat} {r : Option FieldType} (h : Cond.code y b L r ∈ lw_all) : GoodIn lw_all (ws_ y b L r) := by
  intro w hw
  rcases List.mem_cons.mp hw with e | e
  · rw [e]
    exact lw_self _ h
  · exact lw_self _ e
theorem lw_app {a c : List Cond} (ha : ∀ w ∈ a, w ∈ lw_all) (hc : GoodIn lw_all c) : GoodIn lw_all (a ++ c) := by
  intro w hw
  rcases List.mem_append.mp hw with e | e
  · exact lw_self w (ha w e)
  · exact hc w e
/-- what a call through an object asks: cwV n hts (lw_V ..) -/
theorem lw_V {own : String} {idx : Nat} {C : String} {y : MethodName} {b : ByteArray} {L : Nat} {r : Option FieldType} (h1 : Cond.methodLink own idx y ∈ lw_all) (h2 : Cond.instanceMethod y ∈ lw_all) (h3 : Cond.selects C y y ∈ lw_all) (h4 : Cond.initialized C ∈ lw_all) (h5 : Cond.code y b L r ∈ lw_all) : GoodIn lw_all (wsV own idx C y (ws_ y b L r)) := by
  refine lw_app ?_ (lw_meth h5)
  intro w hw
  simp only [List.mem_cons, List.not_mem_nil, or_false] at hw
  rcases hw with e | e | e | e
  · rw [e]; exact h1
  · rw [e]; exact h2
  · rw [e]; exact h3
  · rw [e]; exact h4
/-- what a static call asks: va_cwS n hts (lw_S ..) -/
theorem lw_S {own : String} {idx : Nat} {y : MethodName} {b : ByteArray} {L : Nat} {r : Option FieldType} (h1 : Cond.methodLink own idx y ∈ lw_all) (h2 : Cond.static y ∈ lw_all) (h3 : Cond.initialized y.cls ∈ lw_all) (h4 : Cond.code y b L r ∈ lw_all) : GoodIn lw_all (va_wsS own idx y (ws_ y b L r)) := by
  refine lw_app ?_ (lw_meth h4)
  intro w hw
  simp only [List.mem_cons, List.not_mem_nil, or_false] at hw
  rcases hw with e | e | e
  · rw [e]; exact h1
  · rw [e]; exact h2
  · rw [e]; exact h3
/-- the words of a contract for a method WITH HANDLERS (hh: its table) -/
abbrev wsW_ (y : MethodName) (b : ByteArray) (L : Nat) (r : Option FieldType) (hh : List (Nat × Nat × Nat × Nat)) : List Cond := Cond.codeWith y b L r hh :: lw_all
theorem lw_methW {y : MethodName} {b : ByteArray} {L : Nat} {r : Option FieldType} {hh : List (Nat × Nat × Nat × Nat)} (h : Cond.codeWith y b L r hh ∈ lw_all) : GoodIn lw_all (wsW_ y b L r hh) := by
  intro w hw
  rcases List.mem_cons.mp hw with e | e
  · rw [e]
    exact lw_self _ h
  · exact lw_self _ e
/-- any list of words by their places (lw_in), good -/
theorem lw_good {ws : List Cond} (h : ∀ w ∈ ws, w ∈ lw_all) : GoodIn lw_all ws := fun w hw => lw_self w (h w hw)
/-- what a call of a method with handlers asks: vx_cwVW n hts (lw_VW ..), vx_cwSW n hts (lw_SW ..) -/
theorem lw_VW {own : String} {idx : Nat} {C : String} {y : MethodName} {b : ByteArray} {L : Nat} {r : Option FieldType} {hh : List (Nat × Nat × Nat × Nat)} (h1 : Cond.methodLink own idx y ∈ lw_all) (h2 : Cond.instanceMethod y ∈ lw_all) (h3 : Cond.selects C y y ∈ lw_all) (h4 : Cond.initialized C ∈ lw_all) (h5 : Cond.codeWith y b L r hh ∈ lw_all) : GoodIn lw_all (wsV own idx C y (wsW_ y b L r hh)) := by
  refine lw_app ?_ (lw_methW h5)
  intro w hw
  simp only [List.mem_cons, List.not_mem_nil, or_false] at hw
  rcases hw with e | e | e | e
  · rw [e]; exact h1
  · rw [e]; exact h2
  · rw [e]; exact h3
  · rw [e]; exact h4
theorem lw_SW {own : String} {idx : Nat} {y : MethodName} {b : ByteArray} {L : Nat} {r : Option FieldType} {hh : List (Nat × Nat × Nat × Nat)} (h1 : Cond.methodLink own idx y ∈ lw_all) (h2 : Cond.static y ∈ lw_all) (h3 : Cond.initialized y.cls ∈ lw_all) (h4 : Cond.codeWith y b L r hh ∈ lw_all) : GoodIn lw_all (va_wsS own idx y (wsW_ y b L r hh)) := by
  refine lw_app ?_ (lw_methW h4)
  intro w hw
  simp only [List.mem_cons, List.not_mem_nil, or_false] at hw
  rcases hw with e | e | e
  · rw [e]; exact h1
  · rw [e]; exact h2
  · rw [e]; exact h3
/-- a word by its place in its run of the tables -/
theorem lw_at {r : List Cond} (hr : ∀ w ∈ r, w ∈ lw_tbl) {w : Cond} (i : Nat) (h : r[i]? = some w) : w ∈ lw_tbl := hr w (List.mem_of_getElem? h)
theorem lw_g {w : Cond} (h : w ∈ lw_tbl) (g : goodWord w = true) : w ∈ lw_all := List.mem_filter.mpr ⟨h, g⟩
theorem lw_ms : ∀ w ∈ k2_sels lw_privs, w ∈ lw_tbl := fun w h => show w ∈ k2_sels lw_privs ++ tables_1 from List.mem_append_left _ h
theorem lw_m1 : ∀ w ∈ tables_1_1, w ∈ lw_tbl := fun w h => show w ∈ k2_sels lw_privs ++ tables_1 from List.mem_append_right (k2_sels lw_privs) (show w ∈ tables_1 from List.mem_append_left _ h)
theorem lw_m2 : ∀ w ∈ tables_1_2, w ∈ lw_tbl := fun w h => show w ∈ k2_sels lw_privs ++ tables_1 from List.mem_append_right (k2_sels lw_privs) (show w ∈ tables_1 from List.mem_append_right _ h)
theorem qs0 : (Cond.selects "ParamCloneFinder" ⟨"ParamCloneFinder", "distance", "(I)I"⟩ ⟨"ParamCloneFinder", "distance", "(I)I"⟩) ∈ lw_all := lw_g (lw_at lw_ms 0 rfl) rfl
theorem qs1 : (Cond.selects "ParamCloneFinder" ⟨"ParamCloneFinder", "wantedDistance", "(I)I"⟩ ⟨"ParamCloneFinder", "wantedDistance", "(I)I"⟩) ∈ lw_all := lw_g (lw_at lw_ms 1 rfl) rfl
theorem qs2 : (Cond.selects "ParamCloneFinder" ⟨"ParamCloneFinder", "extendFailure", "(I)V"⟩ ⟨"ParamCloneFinder", "extendFailure", "(I)V"⟩) ∈ lw_all := lw_g (lw_at lw_ms 2 rfl) rfl
theorem qs3 : (Cond.selects "ParamCloneFinder" ⟨"ParamCloneFinder", "search", "()V"⟩ ⟨"ParamCloneFinder", "search", "()V"⟩) ∈ lw_all := lw_g (lw_at lw_ms 3 rfl) rfl
theorem qs4 : (Cond.selects "ParamCloneFinder" ⟨"ParamCloneFinder", "sweep", "(I)V"⟩ ⟨"ParamCloneFinder", "sweep", "(I)V"⟩) ∈ lw_all := lw_g (lw_at lw_ms 4 rfl) rfl
theorem qs5 : (Cond.selects "ParamCloneFinder" ⟨"ParamCloneFinder", "sweepDiagonal", "(II)V"⟩ ⟨"ParamCloneFinder", "sweepDiagonal", "(II)V"⟩) ∈ lw_all := lw_g (lw_at lw_ms 5 rfl) rfl
theorem qs6 : (Cond.selects "ParamCloneFinder" ⟨"ParamCloneFinder", "takeClone", "(III)V"⟩ ⟨"ParamCloneFinder", "takeClone", "(III)V"⟩) ∈ lw_all := lw_g (lw_at lw_ms 6 rfl) rfl
theorem qs7 : (Cond.selects "ParamCloneFinderModel" ⟨"ParamCloneFinderModel", "isToken", "(I)Z"⟩ ⟨"ParamCloneFinderModel", "isToken", "(I)Z"⟩) ∈ lw_all := lw_g (lw_at lw_ms 7 rfl) rfl
theorem qs8 : (Cond.selects "ParamCloneFinderModel" ⟨"ParamCloneFinderModel", "inText", "(I)Z"⟩ ⟨"ParamCloneFinderModel", "inText", "(I)Z"⟩) ∈ lw_all := lw_g (lw_at lw_ms 8 rfl) rfl
theorem qs9 : (Cond.selects "ParamCloneFinderModel" ⟨"ParamCloneFinderModel", "isMatch", "(I)Z"⟩ ⟨"ParamCloneFinderModel", "isMatch", "(I)Z"⟩) ∈ lw_all := lw_g (lw_at lw_ms 9 rfl) rfl
theorem qs10 : (Cond.selects "ParamCloneFinderModel" ⟨"ParamCloneFinderModel", "alike", "(III)Z"⟩ ⟨"ParamCloneFinderModel", "alike", "(III)Z"⟩) ∈ lw_all := lw_g (lw_at lw_ms 10 rfl) rfl
theorem qs11 : (Cond.selects "ParamCloneFinderModel" ⟨"ParamCloneFinderModel", "renames", "(III)Z"⟩ ⟨"ParamCloneFinderModel", "renames", "(III)Z"⟩) ∈ lw_all := lw_g (lw_at lw_ms 11 rfl) rfl
theorem qs12 : (Cond.selects "ParamCloneFinderModel" ⟨"ParamCloneFinderModel", "firstWithTwin", "(I)I"⟩ ⟨"ParamCloneFinderModel", "firstWithTwin", "(I)I"⟩) ∈ lw_all := lw_g (lw_at lw_ms 12 rfl) rfl
theorem qs13 : (Cond.selects "ParamCloneFinderModel" ⟨"ParamCloneFinderModel", "twin", "(II)I"⟩ ⟨"ParamCloneFinderModel", "twin", "(II)I"⟩) ∈ lw_all := lw_g (lw_at lw_ms 13 rfl) rfl
end
section
/-! ParamCloneFinder -/
set_option maxRecDepth 100000
def RX0 : String := "ParamCloneFinder"
def TX0 : u_T := fun k => match k with
  | 0 => ("ParamCloneFinder", "textLen", "I", false)
  | 1 => ("ParamCloneFinder", "token", "[I", true)
  | 2 => ("ParamCloneFinder", "back", "[I", true)
  | 3 => ("ParamCloneFinder", "patternLen", "I", false)
  | 4 => ("ParamCloneFinder", "wanted", "[I", true)
  | 5 => ("ParamCloneFinder", "wantedBack", "[I", true)
  | 6 => ("ParamCloneFinder", "fail", "[I", true)
  | 7 => ("ParamCloneFinder", "found", "I", false)
  | 8 => ("ParamCloneFinder", "foundAt", "[I", true)
  | 9 => ("ParamCloneFinder", "longest", "I", false)
  | 10 => ("ParamCloneFinder", "firstAt", "I", false)
  | 11 => ("ParamCloneFinder", "secondAt", "I", false)
  | _ => ("ParamCloneFinder", "repeated", "[Z", true)
def tyX0 : Nat → FieldType := fun k => match k with
  | 0 => .int
  | 1 => .array .int
  | 2 => .array .int
  | 3 => .int
  | 4 => .array .int
  | 5 => .array .int
  | 6 => .array .int
  | 7 => .int
  | 8 => .array .int
  | 9 => .int
  | 10 => .int
  | 11 => .int
  | _ => .array .boolean
abbrev wsX00 : List Cond := u_ws RX0 TX0 13
set_option maxRecDepth 100000 in
theorem nmX0 : ∀ a, a < 13 → ∀ b, b < 13 → a ≠ b → (TX0 a).2.1 ≠ (TX0 b).2.1 := by decide +kernel
set_option maxRecDepth 100000 in
theorem tyX0_ok : ∀ k, k < 13 → parseFieldDescriptor (TX0 k).2.2.1 = some (tyX0 k) := by decide +kernel
abbrev cX0_init : ByteArray := prog_1_method_1_code
def yX0_init : MethodName := ⟨RX0, "<init>", "()V"⟩
theorem dX0_init_0 : decode cX0_init 0 = .ok (.aload_n 0, 1) := by decide +kernel
theorem dX0_init_1 : decode cX0_init 1 = .ok (.invokespecial 1, 3) := by decide +kernel
theorem dX0_init_4 : decode cX0_init 4 = .ok (.aload_n 0, 1) := by decide +kernel
theorem dX0_init_5 : decode cX0_init 5 = .ok (.bipush 48, 2) := by decide +kernel
theorem dX0_init_7 : decode cX0_init 7 = .ok (.newarray .int, 2) := by decide +kernel
theorem dX0_init_9 : decode cX0_init 9 = .ok (.putfield 7, 3) := by decide +kernel
theorem dX0_init_12 : decode cX0_init 12 = .ok (.aload_n 0, 1) := by decide +kernel
theorem dX0_init_13 : decode cX0_init 13 = .ok (.bipush 48, 2) := by decide +kernel
theorem dX0_init_15 : decode cX0_init 15 = .ok (.newarray .int, 2) := by decide +kernel
theorem dX0_init_17 : decode cX0_init 17 = .ok (.putfield 13, 3) := by decide +kernel
theorem dX0_init_20 : decode cX0_init 20 = .ok (.aload_n 0, 1) := by decide +kernel
theorem dX0_init_21 : decode cX0_init 21 = .ok (.bipush 12, 2) := by decide +kernel
theorem dX0_init_23 : decode cX0_init 23 = .ok (.newarray .int, 2) := by decide +kernel
theorem dX0_init_25 : decode cX0_init 25 = .ok (.putfield 16, 3) := by decide +kernel
theorem dX0_init_28 : decode cX0_init 28 = .ok (.aload_n 0, 1) := by decide +kernel
theorem dX0_init_29 : decode cX0_init 29 = .ok (.bipush 12, 2) := by decide +kernel
theorem dX0_init_31 : decode cX0_init 31 = .ok (.newarray .int, 2) := by decide +kernel
theorem dX0_init_33 : decode cX0_init 33 = .ok (.putfield 19, 3) := by decide +kernel
theorem dX0_init_36 : decode cX0_init 36 = .ok (.aload_n 0, 1) := by decide +kernel
theorem dX0_init_37 : decode cX0_init 37 = .ok (.bipush 12, 2) := by decide +kernel
theorem dX0_init_39 : decode cX0_init 39 = .ok (.newarray .int, 2) := by decide +kernel
theorem dX0_init_41 : decode cX0_init 41 = .ok (.putfield 22, 3) := by decide +kernel
theorem dX0_init_44 : decode cX0_init 44 = .ok (.aload_n 0, 1) := by decide +kernel
theorem dX0_init_45 : decode cX0_init 45 = .ok (.bipush 48, 2) := by decide +kernel
theorem dX0_init_47 : decode cX0_init 47 = .ok (.newarray .int, 2) := by decide +kernel
theorem dX0_init_49 : decode cX0_init 49 = .ok (.putfield 25, 3) := by decide +kernel
theorem dX0_init_52 : decode cX0_init 52 = .ok (.aload_n 0, 1) := by decide +kernel
theorem dX0_init_53 : decode cX0_init 53 = .ok (.bipush 48, 2) := by decide +kernel
theorem dX0_init_55 : decode cX0_init 55 = .ok (.newarray .boolean, 2) := by decide +kernel
theorem dX0_init_57 : decode cX0_init 57 = .ok (.putfield 28, 3) := by decide +kernel
theorem dX0_init_60 : decode cX0_init 60 = .ok (.aload_n 0, 1) := by decide +kernel
theorem dX0_init_61 : decode cX0_init 61 = .ok (.iconst 0, 1) := by decide +kernel
theorem dX0_init_62 : decode cX0_init 62 = .ok (.putfield 32, 3) := by decide +kernel
theorem dX0_init_65 : decode cX0_init 65 = .ok (.return_, 1) := by decide +kernel
abbrev cX0_text : ByteArray := prog_1_method_5_code
def yX0_text : MethodName := ⟨RX0, "text", "(I)I"⟩
theorem dX0_text_0 : decode cX0_text 0 = .ok (.iload_n 1, 1) := by decide +kernel
theorem dX0_text_1 : decode cX0_text 1 = .ok (.invokestatic 36, 3) := by decide +kernel
theorem dX0_text_4 : decode cX0_text 4 = .ok (.ifCond .eq 5, 3) := by decide +kernel
theorem dX0_text_7 : decode cX0_text 7 = .ok (.iconst (-1), 1) := by decide +kernel
theorem dX0_text_8 : decode cX0_text 8 = .ok (.ireturn, 1) := by decide +kernel
theorem dX0_text_9 : decode cX0_text 9 = .ok (.aload_n 0, 1) := by decide +kernel
theorem dX0_text_10 : decode cX0_text 10 = .ok (.getfield 32, 3) := by decide +kernel
theorem dX0_text_13 : decode cX0_text 13 = .ok (.bipush 48, 2) := by decide +kernel
theorem dX0_text_15 : decode cX0_text 15 = .ok (.if_icmp .lt 6, 3) := by decide +kernel
theorem dX0_text_18 : decode cX0_text 18 = .ok (.bipush (-2), 2) := by decide +kernel
theorem dX0_text_20 : decode cX0_text 20 = .ok (.ireturn, 1) := by decide +kernel
theorem dX0_text_21 : decode cX0_text 21 = .ok (.aload_n 0, 1) := by decide +kernel
theorem dX0_text_22 : decode cX0_text 22 = .ok (.getfield 7, 3) := by decide +kernel
theorem dX0_text_25 : decode cX0_text 25 = .ok (.aload_n 0, 1) := by decide +kernel
theorem dX0_text_26 : decode cX0_text 26 = .ok (.getfield 32, 3) := by decide +kernel
theorem dX0_text_29 : decode cX0_text 29 = .ok (.iload_n 1, 1) := by decide +kernel
theorem dX0_text_30 : decode cX0_text 30 = .ok (.iastore, 1) := by decide +kernel
theorem dX0_text_31 : decode cX0_text 31 = .ok (.aload_n 0, 1) := by decide +kernel
theorem dX0_text_32 : decode cX0_text 32 = .ok (.getfield 13, 3) := by decide +kernel
theorem dX0_text_35 : decode cX0_text 35 = .ok (.aload_n 0, 1) := by decide +kernel
theorem dX0_text_36 : decode cX0_text 36 = .ok (.getfield 32, 3) := by decide +kernel
theorem dX0_text_39 : decode cX0_text 39 = .ok (.aload_n 0, 1) := by decide +kernel
theorem dX0_text_40 : decode cX0_text 40 = .ok (.aload_n 0, 1) := by decide +kernel
theorem dX0_text_41 : decode cX0_text 41 = .ok (.getfield 32, 3) := by decide +kernel
theorem dX0_text_44 : decode cX0_text 44 = .ok (.invokevirtual 40, 3) := by decide +kernel
theorem dX0_text_47 : decode cX0_text 47 = .ok (.iastore, 1) := by decide +kernel
theorem dX0_text_48 : decode cX0_text 48 = .ok (.aload_n 0, 1) := by decide +kernel
theorem dX0_text_49 : decode cX0_text 49 = .ok (.dup, 1) := by decide +kernel
theorem dX0_text_50 : decode cX0_text 50 = .ok (.getfield 32, 3) := by decide +kernel
theorem dX0_text_53 : decode cX0_text 53 = .ok (.iconst 1, 1) := by decide +kernel
theorem dX0_text_54 : decode cX0_text 54 = .ok (.iadd, 1) := by decide +kernel
theorem dX0_text_55 : decode cX0_text 55 = .ok (.putfield 32, 3) := by decide +kernel
theorem dX0_text_58 : decode cX0_text 58 = .ok (.aload_n 0, 1) := by decide +kernel
theorem dX0_text_59 : decode cX0_text 59 = .ok (.getfield 32, 3) := by decide +kernel
theorem dX0_text_62 : decode cX0_text 62 = .ok (.ireturn, 1) := by decide +kernel
abbrev cX0_badToken : ByteArray := prog_1_method_2_code
def yX0_badToken : MethodName := ⟨RX0, "badToken", "(I)Z"⟩
theorem dX0_badToken_0 : decode cX0_badToken 0 = .ok (.iload_n 0, 1) := by decide +kernel
theorem dX0_badToken_1 : decode cX0_badToken 1 = .ok (.ifCond .lt 9, 3) := by decide +kernel
theorem dX0_badToken_4 : decode cX0_badToken 4 = .ok (.iload_n 0, 1) := by decide +kernel
theorem dX0_badToken_5 : decode cX0_badToken 5 = .ok (.bipush 31, 2) := by decide +kernel
theorem dX0_badToken_7 : decode cX0_badToken 7 = .ok (.if_icmp .le 7, 3) := by decide +kernel
theorem dX0_badToken_10 : decode cX0_badToken 10 = .ok (.iconst 1, 1) := by decide +kernel
theorem dX0_badToken_11 : decode cX0_badToken 11 = .ok (.goto 4, 3) := by decide +kernel
theorem dX0_badToken_14 : decode cX0_badToken 14 = .ok (.iconst 0, 1) := by decide +kernel
theorem dX0_badToken_15 : decode cX0_badToken 15 = .ok (.ireturn, 1) := by decide +kernel
abbrev cX0_distance : ByteArray := prog_1_method_3_code
def yX0_distance : MethodName := ⟨RX0, "distance", "(I)I"⟩
theorem dX0_distance_0 : decode cX0_distance 0 = .ok (.aload_n 0, 1) := by decide +kernel
theorem dX0_distance_1 : decode cX0_distance 1 = .ok (.getfield 7, 3) := by decide +kernel
theorem dX0_distance_4 : decode cX0_distance 4 = .ok (.iload_n 1, 1) := by decide +kernel
theorem dX0_distance_5 : decode cX0_distance 5 = .ok (.iaload, 1) := by decide +kernel
theorem dX0_distance_6 : decode cX0_distance 6 = .ok (.bipush 16, 2) := by decide +kernel
theorem dX0_distance_8 : decode cX0_distance 8 = .ok (.if_icmp .ge 12, 3) := by decide +kernel
theorem dX0_distance_11 : decode cX0_distance 11 = .ok (.iconst (-1), 1) := by decide +kernel
theorem dX0_distance_12 : decode cX0_distance 12 = .ok (.aload_n 0, 1) := by decide +kernel
theorem dX0_distance_13 : decode cX0_distance 13 = .ok (.getfield 7, 3) := by decide +kernel
theorem dX0_distance_16 : decode cX0_distance 16 = .ok (.iload_n 1, 1) := by decide +kernel
theorem dX0_distance_17 : decode cX0_distance 17 = .ok (.iaload, 1) := by decide +kernel
theorem dX0_distance_18 : decode cX0_distance 18 = .ok (.isub, 1) := by decide +kernel
theorem dX0_distance_19 : decode cX0_distance 19 = .ok (.ireturn, 1) := by decide +kernel
theorem dX0_distance_20 : decode cX0_distance 20 = .ok (.iconst 1, 1) := by decide +kernel
theorem dX0_distance_21 : decode cX0_distance 21 = .ok (.istore_n 2, 1) := by decide +kernel
theorem dX0_distance_22 : decode cX0_distance 22 = .ok (.iload_n 2, 1) := by decide +kernel
theorem dX0_distance_23 : decode cX0_distance 23 = .ok (.iload_n 1, 1) := by decide +kernel
theorem dX0_distance_24 : decode cX0_distance 24 = .ok (.if_icmp .gt 28, 3) := by decide +kernel
theorem dX0_distance_27 : decode cX0_distance 27 = .ok (.aload_n 0, 1) := by decide +kernel
theorem dX0_distance_28 : decode cX0_distance 28 = .ok (.getfield 7, 3) := by decide +kernel
theorem dX0_distance_31 : decode cX0_distance 31 = .ok (.iload_n 1, 1) := by decide +kernel
theorem dX0_distance_32 : decode cX0_distance 32 = .ok (.iload_n 2, 1) := by decide +kernel
theorem dX0_distance_33 : decode cX0_distance 33 = .ok (.isub, 1) := by decide +kernel
theorem dX0_distance_34 : decode cX0_distance 34 = .ok (.iaload, 1) := by decide +kernel
theorem dX0_distance_35 : decode cX0_distance 35 = .ok (.aload_n 0, 1) := by decide +kernel
theorem dX0_distance_36 : decode cX0_distance 36 = .ok (.getfield 7, 3) := by decide +kernel
theorem dX0_distance_39 : decode cX0_distance 39 = .ok (.iload_n 1, 1) := by decide +kernel
theorem dX0_distance_40 : decode cX0_distance 40 = .ok (.iaload, 1) := by decide +kernel
theorem dX0_distance_41 : decode cX0_distance 41 = .ok (.if_icmp .ne 5, 3) := by decide +kernel
theorem dX0_distance_44 : decode cX0_distance 44 = .ok (.iload_n 2, 1) := by decide +kernel
theorem dX0_distance_45 : decode cX0_distance 45 = .ok (.ireturn, 1) := by decide +kernel
theorem dX0_distance_46 : decode cX0_distance 46 = .ok (.iinc 2 1, 3) := by decide +kernel
theorem dX0_distance_49 : decode cX0_distance 49 = .ok (.goto (-27), 3) := by decide +kernel
theorem dX0_distance_52 : decode cX0_distance 52 = .ok (.iconst 0, 1) := by decide +kernel
theorem dX0_distance_53 : decode cX0_distance 53 = .ok (.ireturn, 1) := by decide +kernel
abbrev cX0_change : ByteArray := prog_1_method_6_code
def yX0_change : MethodName := ⟨RX0, "change", "(II)I"⟩
theorem dX0_change_0 : decode cX0_change 0 = .ok (.iload_n 1, 1) := by decide +kernel
theorem dX0_change_1 : decode cX0_change 1 = .ok (.ifCond .lt 11, 3) := by decide +kernel
theorem dX0_change_4 : decode cX0_change 4 = .ok (.iload_n 1, 1) := by decide +kernel
theorem dX0_change_5 : decode cX0_change 5 = .ok (.aload_n 0, 1) := by decide +kernel
theorem dX0_change_6 : decode cX0_change 6 = .ok (.getfield 32, 3) := by decide +kernel
theorem dX0_change_9 : decode cX0_change 9 = .ok (.if_icmp .lt 6, 3) := by decide +kernel
theorem dX0_change_12 : decode cX0_change 12 = .ok (.bipush (-3), 2) := by decide +kernel
theorem dX0_change_14 : decode cX0_change 14 = .ok (.ireturn, 1) := by decide +kernel
theorem dX0_change_15 : decode cX0_change 15 = .ok (.iload_n 2, 1) := by decide +kernel
theorem dX0_change_16 : decode cX0_change 16 = .ok (.invokestatic 36, 3) := by decide +kernel
theorem dX0_change_19 : decode cX0_change 19 = .ok (.ifCond .eq 5, 3) := by decide +kernel
theorem dX0_change_22 : decode cX0_change 22 = .ok (.iconst (-1), 1) := by decide +kernel
theorem dX0_change_23 : decode cX0_change 23 = .ok (.ireturn, 1) := by decide +kernel
theorem dX0_change_24 : decode cX0_change 24 = .ok (.aload_n 0, 1) := by decide +kernel
theorem dX0_change_25 : decode cX0_change 25 = .ok (.getfield 7, 3) := by decide +kernel
theorem dX0_change_28 : decode cX0_change 28 = .ok (.iload_n 1, 1) := by decide +kernel
theorem dX0_change_29 : decode cX0_change 29 = .ok (.iaload, 1) := by decide +kernel
theorem dX0_change_30 : decode cX0_change 30 = .ok (.istore_n 3, 1) := by decide +kernel
theorem dX0_change_31 : decode cX0_change 31 = .ok (.aload_n 0, 1) := by decide +kernel
theorem dX0_change_32 : decode cX0_change 32 = .ok (.getfield 7, 3) := by decide +kernel
theorem dX0_change_35 : decode cX0_change 35 = .ok (.iload_n 1, 1) := by decide +kernel
theorem dX0_change_36 : decode cX0_change 36 = .ok (.iload_n 2, 1) := by decide +kernel
theorem dX0_change_37 : decode cX0_change 37 = .ok (.iastore, 1) := by decide +kernel
theorem dX0_change_38 : decode cX0_change 38 = .ok (.iload_n 1, 1) := by decide +kernel
theorem dX0_change_39 : decode cX0_change 39 = .ok (.istore 4, 2) := by decide +kernel
theorem dX0_change_41 : decode cX0_change 41 = .ok (.iload 4, 2) := by decide +kernel
theorem dX0_change_43 : decode cX0_change 43 = .ok (.aload_n 0, 1) := by decide +kernel
theorem dX0_change_44 : decode cX0_change 44 = .ok (.getfield 32, 3) := by decide +kernel
theorem dX0_change_47 : decode cX0_change 47 = .ok (.if_icmp .ge 22, 3) := by decide +kernel
theorem dX0_change_50 : decode cX0_change 50 = .ok (.aload_n 0, 1) := by decide +kernel
theorem dX0_change_51 : decode cX0_change 51 = .ok (.getfield 13, 3) := by decide +kernel
theorem dX0_change_54 : decode cX0_change 54 = .ok (.iload 4, 2) := by decide +kernel
theorem dX0_change_56 : decode cX0_change 56 = .ok (.aload_n 0, 1) := by decide +kernel
theorem dX0_change_57 : decode cX0_change 57 = .ok (.iload 4, 2) := by decide +kernel
theorem dX0_change_59 : decode cX0_change 59 = .ok (.invokevirtual 40, 3) := by decide +kernel
theorem dX0_change_62 : decode cX0_change 62 = .ok (.iastore, 1) := by decide +kernel
theorem dX0_change_63 : decode cX0_change 63 = .ok (.iinc 4 1, 3) := by decide +kernel
theorem dX0_change_66 : decode cX0_change 66 = .ok (.goto (-25), 3) := by decide +kernel
theorem dX0_change_69 : decode cX0_change 69 = .ok (.iload_n 3, 1) := by decide +kernel
theorem dX0_change_70 : decode cX0_change 70 = .ok (.ireturn, 1) := by decide +kernel
abbrev cX0_pattern : ByteArray := prog_1_method_7_code
def yX0_pattern : MethodName := ⟨RX0, "pattern", "(I)I"⟩
theorem dX0_pattern_0 : decode cX0_pattern 0 = .ok (.iload_n 1, 1) := by decide +kernel
theorem dX0_pattern_1 : decode cX0_pattern 1 = .ok (.invokestatic 36, 3) := by decide +kernel
theorem dX0_pattern_4 : decode cX0_pattern 4 = .ok (.ifCond .eq 5, 3) := by decide +kernel
theorem dX0_pattern_7 : decode cX0_pattern 7 = .ok (.iconst (-1), 1) := by decide +kernel
theorem dX0_pattern_8 : decode cX0_pattern 8 = .ok (.ireturn, 1) := by decide +kernel
theorem dX0_pattern_9 : decode cX0_pattern 9 = .ok (.aload_n 0, 1) := by decide +kernel
theorem dX0_pattern_10 : decode cX0_pattern 10 = .ok (.getfield 44, 3) := by decide +kernel
theorem dX0_pattern_13 : decode cX0_pattern 13 = .ok (.bipush 12, 2) := by decide +kernel
theorem dX0_pattern_15 : decode cX0_pattern 15 = .ok (.if_icmp .lt 6, 3) := by decide +kernel
theorem dX0_pattern_18 : decode cX0_pattern 18 = .ok (.bipush (-2), 2) := by decide +kernel
theorem dX0_pattern_20 : decode cX0_pattern 20 = .ok (.ireturn, 1) := by decide +kernel
theorem dX0_pattern_21 : decode cX0_pattern 21 = .ok (.aload_n 0, 1) := by decide +kernel
theorem dX0_pattern_22 : decode cX0_pattern 22 = .ok (.getfield 44, 3) := by decide +kernel
theorem dX0_pattern_25 : decode cX0_pattern 25 = .ok (.istore_n 2, 1) := by decide +kernel
theorem dX0_pattern_26 : decode cX0_pattern 26 = .ok (.aload_n 0, 1) := by decide +kernel
theorem dX0_pattern_27 : decode cX0_pattern 27 = .ok (.getfield 16, 3) := by decide +kernel
theorem dX0_pattern_30 : decode cX0_pattern 30 = .ok (.iload_n 2, 1) := by decide +kernel
theorem dX0_pattern_31 : decode cX0_pattern 31 = .ok (.iload_n 1, 1) := by decide +kernel
theorem dX0_pattern_32 : decode cX0_pattern 32 = .ok (.iastore, 1) := by decide +kernel
theorem dX0_pattern_33 : decode cX0_pattern 33 = .ok (.aload_n 0, 1) := by decide +kernel
theorem dX0_pattern_34 : decode cX0_pattern 34 = .ok (.getfield 19, 3) := by decide +kernel
theorem dX0_pattern_37 : decode cX0_pattern 37 = .ok (.iload_n 2, 1) := by decide +kernel
theorem dX0_pattern_38 : decode cX0_pattern 38 = .ok (.aload_n 0, 1) := by decide +kernel
theorem dX0_pattern_39 : decode cX0_pattern 39 = .ok (.iload_n 2, 1) := by decide +kernel
theorem dX0_pattern_40 : decode cX0_pattern 40 = .ok (.invokevirtual 47, 3) := by decide +kernel
theorem dX0_pattern_43 : decode cX0_pattern 43 = .ok (.iastore, 1) := by decide +kernel
theorem dX0_pattern_44 : decode cX0_pattern 44 = .ok (.aload_n 0, 1) := by decide +kernel
theorem dX0_pattern_45 : decode cX0_pattern 45 = .ok (.dup, 1) := by decide +kernel
theorem dX0_pattern_46 : decode cX0_pattern 46 = .ok (.getfield 44, 3) := by decide +kernel
theorem dX0_pattern_49 : decode cX0_pattern 49 = .ok (.iconst 1, 1) := by decide +kernel
theorem dX0_pattern_50 : decode cX0_pattern 50 = .ok (.iadd, 1) := by decide +kernel
theorem dX0_pattern_51 : decode cX0_pattern 51 = .ok (.putfield 44, 3) := by decide +kernel
theorem dX0_pattern_54 : decode cX0_pattern 54 = .ok (.aload_n 0, 1) := by decide +kernel
theorem dX0_pattern_55 : decode cX0_pattern 55 = .ok (.iload_n 2, 1) := by decide +kernel
theorem dX0_pattern_56 : decode cX0_pattern 56 = .ok (.invokevirtual 50, 3) := by decide +kernel
theorem dX0_pattern_59 : decode cX0_pattern 59 = .ok (.aload_n 0, 1) := by decide +kernel
theorem dX0_pattern_60 : decode cX0_pattern 60 = .ok (.getfield 44, 3) := by decide +kernel
theorem dX0_pattern_63 : decode cX0_pattern 63 = .ok (.ireturn, 1) := by decide +kernel
abbrev cX0_wantedDistance : ByteArray := prog_1_method_8_code
def yX0_wantedDistance : MethodName := ⟨RX0, "wantedDistance", "(I)I"⟩
theorem dX0_wantedDistance_0 : decode cX0_wantedDistance 0 = .ok (.aload_n 0, 1) := by decide +kernel
theorem dX0_wantedDistance_1 : decode cX0_wantedDistance 1 = .ok (.getfield 16, 3) := by decide +kernel
theorem dX0_wantedDistance_4 : decode cX0_wantedDistance 4 = .ok (.iload_n 1, 1) := by decide +kernel
theorem dX0_wantedDistance_5 : decode cX0_wantedDistance 5 = .ok (.iaload, 1) := by decide +kernel
theorem dX0_wantedDistance_6 : decode cX0_wantedDistance 6 = .ok (.bipush 16, 2) := by decide +kernel
theorem dX0_wantedDistance_8 : decode cX0_wantedDistance 8 = .ok (.if_icmp .ge 12, 3) := by decide +kernel
theorem dX0_wantedDistance_11 : decode cX0_wantedDistance 11 = .ok (.iconst (-1), 1) := by decide +kernel
theorem dX0_wantedDistance_12 : decode cX0_wantedDistance 12 = .ok (.aload_n 0, 1) := by decide +kernel
theorem dX0_wantedDistance_13 : decode cX0_wantedDistance 13 = .ok (.getfield 16, 3) := by decide +kernel
theorem dX0_wantedDistance_16 : decode cX0_wantedDistance 16 = .ok (.iload_n 1, 1) := by decide +kernel
theorem dX0_wantedDistance_17 : decode cX0_wantedDistance 17 = .ok (.iaload, 1) := by decide +kernel
theorem dX0_wantedDistance_18 : decode cX0_wantedDistance 18 = .ok (.isub, 1) := by decide +kernel
theorem dX0_wantedDistance_19 : decode cX0_wantedDistance 19 = .ok (.ireturn, 1) := by decide +kernel
theorem dX0_wantedDistance_20 : decode cX0_wantedDistance 20 = .ok (.iconst 1, 1) := by decide +kernel
theorem dX0_wantedDistance_21 : decode cX0_wantedDistance 21 = .ok (.istore_n 2, 1) := by decide +kernel
theorem dX0_wantedDistance_22 : decode cX0_wantedDistance 22 = .ok (.iload_n 2, 1) := by decide +kernel
theorem dX0_wantedDistance_23 : decode cX0_wantedDistance 23 = .ok (.iload_n 1, 1) := by decide +kernel
theorem dX0_wantedDistance_24 : decode cX0_wantedDistance 24 = .ok (.if_icmp .gt 28, 3) := by decide +kernel
theorem dX0_wantedDistance_27 : decode cX0_wantedDistance 27 = .ok (.aload_n 0, 1) := by decide +kernel
theorem dX0_wantedDistance_28 : decode cX0_wantedDistance 28 = .ok (.getfield 16, 3) := by decide +kernel
theorem dX0_wantedDistance_31 : decode cX0_wantedDistance 31 = .ok (.iload_n 1, 1) := by decide +kernel
theorem dX0_wantedDistance_32 : decode cX0_wantedDistance 32 = .ok (.iload_n 2, 1) := by decide +kernel
theorem dX0_wantedDistance_33 : decode cX0_wantedDistance 33 = .ok (.isub, 1) := by decide +kernel
theorem dX0_wantedDistance_34 : decode cX0_wantedDistance 34 = .ok (.iaload, 1) := by decide +kernel
theorem dX0_wantedDistance_35 : decode cX0_wantedDistance 35 = .ok (.aload_n 0, 1) := by decide +kernel
theorem dX0_wantedDistance_36 : decode cX0_wantedDistance 36 = .ok (.getfield 16, 3) := by decide +kernel
theorem dX0_wantedDistance_39 : decode cX0_wantedDistance 39 = .ok (.iload_n 1, 1) := by decide +kernel
theorem dX0_wantedDistance_40 : decode cX0_wantedDistance 40 = .ok (.iaload, 1) := by decide +kernel
theorem dX0_wantedDistance_41 : decode cX0_wantedDistance 41 = .ok (.if_icmp .ne 5, 3) := by decide +kernel
theorem dX0_wantedDistance_44 : decode cX0_wantedDistance 44 = .ok (.iload_n 2, 1) := by decide +kernel
theorem dX0_wantedDistance_45 : decode cX0_wantedDistance 45 = .ok (.ireturn, 1) := by decide +kernel
theorem dX0_wantedDistance_46 : decode cX0_wantedDistance 46 = .ok (.iinc 2 1, 3) := by decide +kernel
theorem dX0_wantedDistance_49 : decode cX0_wantedDistance 49 = .ok (.goto (-27), 3) := by decide +kernel
theorem dX0_wantedDistance_52 : decode cX0_wantedDistance 52 = .ok (.iconst 0, 1) := by decide +kernel
theorem dX0_wantedDistance_53 : decode cX0_wantedDistance 53 = .ok (.ireturn, 1) := by decide +kernel
abbrev cX0_extendFailure : ByteArray := prog_1_method_9_code
def yX0_extendFailure : MethodName := ⟨RX0, "extendFailure", "(I)V"⟩
theorem dX0_extendFailure_0 : decode cX0_extendFailure 0 = .ok (.aload_n 0, 1) := by decide +kernel
theorem dX0_extendFailure_1 : decode cX0_extendFailure 1 = .ok (.getfield 22, 3) := by decide +kernel
theorem dX0_extendFailure_4 : decode cX0_extendFailure 4 = .ok (.iload_n 1, 1) := by decide +kernel
theorem dX0_extendFailure_5 : decode cX0_extendFailure 5 = .ok (.iconst 0, 1) := by decide +kernel
theorem dX0_extendFailure_6 : decode cX0_extendFailure 6 = .ok (.iastore, 1) := by decide +kernel
theorem dX0_extendFailure_7 : decode cX0_extendFailure 7 = .ok (.iload_n 1, 1) := by decide +kernel
theorem dX0_extendFailure_8 : decode cX0_extendFailure 8 = .ok (.ifCond .ne 4, 3) := by decide +kernel
theorem dX0_extendFailure_11 : decode cX0_extendFailure 11 = .ok (.return_, 1) := by decide +kernel
theorem dX0_extendFailure_12 : decode cX0_extendFailure 12 = .ok (.aload_n 0, 1) := by decide +kernel
theorem dX0_extendFailure_13 : decode cX0_extendFailure 13 = .ok (.getfield 22, 3) := by decide +kernel
theorem dX0_extendFailure_16 : decode cX0_extendFailure 16 = .ok (.iload_n 1, 1) := by decide +kernel
theorem dX0_extendFailure_17 : decode cX0_extendFailure 17 = .ok (.iconst 1, 1) := by decide +kernel
theorem dX0_extendFailure_18 : decode cX0_extendFailure 18 = .ok (.isub, 1) := by decide +kernel
theorem dX0_extendFailure_19 : decode cX0_extendFailure 19 = .ok (.iaload, 1) := by decide +kernel
theorem dX0_extendFailure_20 : decode cX0_extendFailure 20 = .ok (.istore_n 2, 1) := by decide +kernel
theorem dX0_extendFailure_21 : decode cX0_extendFailure 21 = .ok (.iload_n 2, 1) := by decide +kernel
theorem dX0_extendFailure_22 : decode cX0_extendFailure 22 = .ok (.ifCond .le 34, 3) := by decide +kernel
theorem dX0_extendFailure_25 : decode cX0_extendFailure 25 = .ok (.aload_n 0, 1) := by decide +kernel
theorem dX0_extendFailure_26 : decode cX0_extendFailure 26 = .ok (.getfield 19, 3) := by decide +kernel
theorem dX0_extendFailure_29 : decode cX0_extendFailure 29 = .ok (.iload_n 1, 1) := by decide +kernel
theorem dX0_extendFailure_30 : decode cX0_extendFailure 30 = .ok (.iaload, 1) := by decide +kernel
theorem dX0_extendFailure_31 : decode cX0_extendFailure 31 = .ok (.iload_n 2, 1) := by decide +kernel
theorem dX0_extendFailure_32 : decode cX0_extendFailure 32 = .ok (.invokestatic 54, 3) := by decide +kernel
theorem dX0_extendFailure_35 : decode cX0_extendFailure 35 = .ok (.aload_n 0, 1) := by decide +kernel
theorem dX0_extendFailure_36 : decode cX0_extendFailure 36 = .ok (.getfield 19, 3) := by decide +kernel
theorem dX0_extendFailure_39 : decode cX0_extendFailure 39 = .ok (.iload_n 2, 1) := by decide +kernel
theorem dX0_extendFailure_40 : decode cX0_extendFailure 40 = .ok (.iaload, 1) := by decide +kernel
theorem dX0_extendFailure_41 : decode cX0_extendFailure 41 = .ok (.if_icmp .eq 15, 3) := by decide +kernel
theorem dX0_extendFailure_44 : decode cX0_extendFailure 44 = .ok (.aload_n 0, 1) := by decide +kernel
theorem dX0_extendFailure_45 : decode cX0_extendFailure 45 = .ok (.getfield 22, 3) := by decide +kernel
theorem dX0_extendFailure_48 : decode cX0_extendFailure 48 = .ok (.iload_n 2, 1) := by decide +kernel
theorem dX0_extendFailure_49 : decode cX0_extendFailure 49 = .ok (.iconst 1, 1) := by decide +kernel
theorem dX0_extendFailure_50 : decode cX0_extendFailure 50 = .ok (.isub, 1) := by decide +kernel
theorem dX0_extendFailure_51 : decode cX0_extendFailure 51 = .ok (.iaload, 1) := by decide +kernel
theorem dX0_extendFailure_52 : decode cX0_extendFailure 52 = .ok (.istore_n 2, 1) := by decide +kernel
theorem dX0_extendFailure_53 : decode cX0_extendFailure 53 = .ok (.goto (-32), 3) := by decide +kernel
theorem dX0_extendFailure_56 : decode cX0_extendFailure 56 = .ok (.aload_n 0, 1) := by decide +kernel
theorem dX0_extendFailure_57 : decode cX0_extendFailure 57 = .ok (.getfield 19, 3) := by decide +kernel
theorem dX0_extendFailure_60 : decode cX0_extendFailure 60 = .ok (.iload_n 1, 1) := by decide +kernel
theorem dX0_extendFailure_61 : decode cX0_extendFailure 61 = .ok (.iaload, 1) := by decide +kernel
theorem dX0_extendFailure_62 : decode cX0_extendFailure 62 = .ok (.iload_n 2, 1) := by decide +kernel
theorem dX0_extendFailure_63 : decode cX0_extendFailure 63 = .ok (.invokestatic 54, 3) := by decide +kernel
theorem dX0_extendFailure_66 : decode cX0_extendFailure 66 = .ok (.aload_n 0, 1) := by decide +kernel
theorem dX0_extendFailure_67 : decode cX0_extendFailure 67 = .ok (.getfield 19, 3) := by decide +kernel
theorem dX0_extendFailure_70 : decode cX0_extendFailure 70 = .ok (.iload_n 2, 1) := by decide +kernel
theorem dX0_extendFailure_71 : decode cX0_extendFailure 71 = .ok (.iaload, 1) := by decide +kernel
theorem dX0_extendFailure_72 : decode cX0_extendFailure 72 = .ok (.if_icmp .ne 6, 3) := by decide +kernel
theorem dX0_extendFailure_75 : decode cX0_extendFailure 75 = .ok (.iinc 2 1, 3) := by decide +kernel
theorem dX0_extendFailure_78 : decode cX0_extendFailure 78 = .ok (.aload_n 0, 1) := by decide +kernel
theorem dX0_extendFailure_79 : decode cX0_extendFailure 79 = .ok (.getfield 22, 3) := by decide +kernel
theorem dX0_extendFailure_82 : decode cX0_extendFailure 82 = .ok (.iload_n 1, 1) := by decide +kernel
theorem dX0_extendFailure_83 : decode cX0_extendFailure 83 = .ok (.iload_n 2, 1) := by decide +kernel
theorem dX0_extendFailure_84 : decode cX0_extendFailure 84 = .ok (.iastore, 1) := by decide +kernel
theorem dX0_extendFailure_85 : decode cX0_extendFailure 85 = .ok (.return_, 1) := by decide +kernel
abbrev cX0_within : ByteArray := prog_1_method_4_code
def yX0_within : MethodName := ⟨RX0, "within", "(II)I"⟩
theorem dX0_within_0 : decode cX0_within 0 = .ok (.iload_n 0, 1) := by decide +kernel
theorem dX0_within_1 : decode cX0_within 1 = .ok (.iload_n 1, 1) := by decide +kernel
theorem dX0_within_2 : decode cX0_within 2 = .ok (.if_icmp .le 7, 3) := by decide +kernel
theorem dX0_within_5 : decode cX0_within 5 = .ok (.iconst 0, 1) := by decide +kernel
theorem dX0_within_6 : decode cX0_within 6 = .ok (.goto 4, 3) := by decide +kernel
theorem dX0_within_9 : decode cX0_within 9 = .ok (.iload_n 0, 1) := by decide +kernel
theorem dX0_within_10 : decode cX0_within 10 = .ok (.ireturn, 1) := by decide +kernel
end
section
set_option maxRecDepth 100000
abbrev cX0_patternFrom : ByteArray := prog_1_method_10_code
def yX0_patternFrom : MethodName := ⟨RX0, "patternFrom", "(II)I"⟩
theorem dX0_patternFrom_0 : decode cX0_patternFrom 0 = .ok (.iload_n 2, 1) := by decide +kernel
theorem dX0_patternFrom_1 : decode cX0_patternFrom 1 = .ok (.iconst 1, 1) := by decide +kernel
theorem dX0_patternFrom_2 : decode cX0_patternFrom 2 = .ok (.if_icmp .lt 23, 3) := by decide +kernel
theorem dX0_patternFrom_5 : decode cX0_patternFrom 5 = .ok (.iload_n 2, 1) := by decide +kernel
theorem dX0_patternFrom_6 : decode cX0_patternFrom 6 = .ok (.bipush 12, 2) := by decide +kernel
theorem dX0_patternFrom_8 : decode cX0_patternFrom 8 = .ok (.if_icmp .gt 17, 3) := by decide +kernel
theorem dX0_patternFrom_11 : decode cX0_patternFrom 11 = .ok (.iload_n 1, 1) := by decide +kernel
theorem dX0_patternFrom_12 : decode cX0_patternFrom 12 = .ok (.ifCond .lt 13, 3) := by decide +kernel
theorem dX0_patternFrom_15 : decode cX0_patternFrom 15 = .ok (.iload_n 1, 1) := by decide +kernel
theorem dX0_patternFrom_16 : decode cX0_patternFrom 16 = .ok (.aload_n 0, 1) := by decide +kernel
theorem dX0_patternFrom_17 : decode cX0_patternFrom 17 = .ok (.getfield 32, 3) := by decide +kernel
theorem dX0_patternFrom_20 : decode cX0_patternFrom 20 = .ok (.iload_n 2, 1) := by decide +kernel
theorem dX0_patternFrom_21 : decode cX0_patternFrom 21 = .ok (.isub, 1) := by decide +kernel
theorem dX0_patternFrom_22 : decode cX0_patternFrom 22 = .ok (.if_icmp .le 6, 3) := by decide +kernel
theorem dX0_patternFrom_25 : decode cX0_patternFrom 25 = .ok (.bipush (-3), 2) := by decide +kernel
theorem dX0_patternFrom_27 : decode cX0_patternFrom 27 = .ok (.ireturn, 1) := by decide +kernel
theorem dX0_patternFrom_28 : decode cX0_patternFrom 28 = .ok (.aload_n 0, 1) := by decide +kernel
theorem dX0_patternFrom_29 : decode cX0_patternFrom 29 = .ok (.iconst 0, 1) := by decide +kernel
theorem dX0_patternFrom_30 : decode cX0_patternFrom 30 = .ok (.putfield 44, 3) := by decide +kernel
theorem dX0_patternFrom_33 : decode cX0_patternFrom 33 = .ok (.iconst 0, 1) := by decide +kernel
theorem dX0_patternFrom_34 : decode cX0_patternFrom 34 = .ok (.istore_n 3, 1) := by decide +kernel
theorem dX0_patternFrom_35 : decode cX0_patternFrom 35 = .ok (.iload_n 3, 1) := by decide +kernel
theorem dX0_patternFrom_36 : decode cX0_patternFrom 36 = .ok (.iload_n 2, 1) := by decide +kernel
theorem dX0_patternFrom_37 : decode cX0_patternFrom 37 = .ok (.if_icmp .ge 22, 3) := by decide +kernel
theorem dX0_patternFrom_40 : decode cX0_patternFrom 40 = .ok (.aload_n 0, 1) := by decide +kernel
theorem dX0_patternFrom_41 : decode cX0_patternFrom 41 = .ok (.aload_n 0, 1) := by decide +kernel
theorem dX0_patternFrom_42 : decode cX0_patternFrom 42 = .ok (.getfield 7, 3) := by decide +kernel
theorem dX0_patternFrom_45 : decode cX0_patternFrom 45 = .ok (.iload_n 1, 1) := by decide +kernel
theorem dX0_patternFrom_46 : decode cX0_patternFrom 46 = .ok (.iload_n 3, 1) := by decide +kernel
theorem dX0_patternFrom_47 : decode cX0_patternFrom 47 = .ok (.iadd, 1) := by decide +kernel
theorem dX0_patternFrom_48 : decode cX0_patternFrom 48 = .ok (.iaload, 1) := by decide +kernel
theorem dX0_patternFrom_49 : decode cX0_patternFrom 49 = .ok (.invokevirtual 58, 3) := by decide +kernel
theorem dX0_patternFrom_52 : decode cX0_patternFrom 52 = .ok (.pop, 1) := by decide +kernel
theorem dX0_patternFrom_53 : decode cX0_patternFrom 53 = .ok (.iinc 3 1, 3) := by decide +kernel
theorem dX0_patternFrom_56 : decode cX0_patternFrom 56 = .ok (.goto (-21), 3) := by decide +kernel
theorem dX0_patternFrom_59 : decode cX0_patternFrom 59 = .ok (.iload_n 2, 1) := by decide +kernel
theorem dX0_patternFrom_60 : decode cX0_patternFrom 60 = .ok (.ireturn, 1) := by decide +kernel
abbrev cX0_clearPattern : ByteArray := prog_1_method_11_code
def yX0_clearPattern : MethodName := ⟨RX0, "clearPattern", "()V"⟩
theorem dX0_clearPattern_0 : decode cX0_clearPattern 0 = .ok (.aload_n 0, 1) := by decide +kernel
theorem dX0_clearPattern_1 : decode cX0_clearPattern 1 = .ok (.iconst 0, 1) := by decide +kernel
theorem dX0_clearPattern_2 : decode cX0_clearPattern 2 = .ok (.putfield 44, 3) := by decide +kernel
theorem dX0_clearPattern_5 : decode cX0_clearPattern 5 = .ok (.return_, 1) := by decide +kernel
abbrev cX0_clearText : ByteArray := prog_1_method_12_code
def yX0_clearText : MethodName := ⟨RX0, "clearText", "()V"⟩
theorem dX0_clearText_0 : decode cX0_clearText 0 = .ok (.aload_n 0, 1) := by decide +kernel
theorem dX0_clearText_1 : decode cX0_clearText 1 = .ok (.iconst 0, 1) := by decide +kernel
theorem dX0_clearText_2 : decode cX0_clearText 2 = .ok (.putfield 32, 3) := by decide +kernel
theorem dX0_clearText_5 : decode cX0_clearText 5 = .ok (.return_, 1) := by decide +kernel
abbrev cX0_matches : ByteArray := prog_1_method_14_code
def yX0_matches : MethodName := ⟨RX0, "matches", "()I"⟩
theorem dX0_matches_0 : decode cX0_matches 0 = .ok (.aload_n 0, 1) := by decide +kernel
theorem dX0_matches_1 : decode cX0_matches 1 = .ok (.invokevirtual 64, 3) := by decide +kernel
theorem dX0_matches_4 : decode cX0_matches 4 = .ok (.aload_n 0, 1) := by decide +kernel
theorem dX0_matches_5 : decode cX0_matches 5 = .ok (.getfield 61, 3) := by decide +kernel
theorem dX0_matches_8 : decode cX0_matches 8 = .ok (.ireturn, 1) := by decide +kernel
abbrev cX0_search : ByteArray := prog_1_method_13_code
def yX0_search : MethodName := ⟨RX0, "search", "()V"⟩
theorem dX0_search_0 : decode cX0_search 0 = .ok (.aload_n 0, 1) := by decide +kernel
theorem dX0_search_1 : decode cX0_search 1 = .ok (.iconst 0, 1) := by decide +kernel
theorem dX0_search_2 : decode cX0_search 2 = .ok (.putfield 61, 3) := by decide +kernel
theorem dX0_search_5 : decode cX0_search 5 = .ok (.aload_n 0, 1) := by decide +kernel
theorem dX0_search_6 : decode cX0_search 6 = .ok (.getfield 44, 3) := by decide +kernel
theorem dX0_search_9 : decode cX0_search 9 = .ok (.ifCond .ne 4, 3) := by decide +kernel
theorem dX0_search_12 : decode cX0_search 12 = .ok (.return_, 1) := by decide +kernel
theorem dX0_search_13 : decode cX0_search 13 = .ok (.iconst 0, 1) := by decide +kernel
theorem dX0_search_14 : decode cX0_search 14 = .ok (.istore_n 1, 1) := by decide +kernel
theorem dX0_search_15 : decode cX0_search 15 = .ok (.iconst 0, 1) := by decide +kernel
theorem dX0_search_16 : decode cX0_search 16 = .ok (.istore_n 2, 1) := by decide +kernel
theorem dX0_search_17 : decode cX0_search 17 = .ok (.iload_n 2, 1) := by decide +kernel
theorem dX0_search_18 : decode cX0_search 18 = .ok (.aload_n 0, 1) := by decide +kernel
theorem dX0_search_19 : decode cX0_search 19 = .ok (.getfield 32, 3) := by decide +kernel
theorem dX0_search_22 : decode cX0_search 22 = .ok (.if_icmp .ge 118, 3) := by decide +kernel
theorem dX0_search_25 : decode cX0_search 25 = .ok (.iload_n 1, 1) := by decide +kernel
theorem dX0_search_26 : decode cX0_search 26 = .ok (.aload_n 0, 1) := by decide +kernel
theorem dX0_search_27 : decode cX0_search 27 = .ok (.getfield 44, 3) := by decide +kernel
theorem dX0_search_30 : decode cX0_search 30 = .ok (.if_icmp .ne 12, 3) := by decide +kernel
theorem dX0_search_33 : decode cX0_search 33 = .ok (.aload_n 0, 1) := by decide +kernel
theorem dX0_search_34 : decode cX0_search 34 = .ok (.getfield 22, 3) := by decide +kernel
theorem dX0_search_37 : decode cX0_search 37 = .ok (.iload_n 1, 1) := by decide +kernel
theorem dX0_search_38 : decode cX0_search 38 = .ok (.iconst 1, 1) := by decide +kernel
theorem dX0_search_39 : decode cX0_search 39 = .ok (.isub, 1) := by decide +kernel
theorem dX0_search_40 : decode cX0_search 40 = .ok (.iaload, 1) := by decide +kernel
theorem dX0_search_41 : decode cX0_search 41 = .ok (.istore_n 1, 1) := by decide +kernel
theorem dX0_search_42 : decode cX0_search 42 = .ok (.iload_n 1, 1) := by decide +kernel
theorem dX0_search_43 : decode cX0_search 43 = .ok (.ifCond .le 34, 3) := by decide +kernel
theorem dX0_search_46 : decode cX0_search 46 = .ok (.aload_n 0, 1) := by decide +kernel
theorem dX0_search_47 : decode cX0_search 47 = .ok (.getfield 13, 3) := by decide +kernel
theorem dX0_search_50 : decode cX0_search 50 = .ok (.iload_n 2, 1) := by decide +kernel
theorem dX0_search_51 : decode cX0_search 51 = .ok (.iaload, 1) := by decide +kernel
theorem dX0_search_52 : decode cX0_search 52 = .ok (.iload_n 1, 1) := by decide +kernel
theorem dX0_search_53 : decode cX0_search 53 = .ok (.invokestatic 54, 3) := by decide +kernel
theorem dX0_search_56 : decode cX0_search 56 = .ok (.aload_n 0, 1) := by decide +kernel
theorem dX0_search_57 : decode cX0_search 57 = .ok (.getfield 19, 3) := by decide +kernel
theorem dX0_search_60 : decode cX0_search 60 = .ok (.iload_n 1, 1) := by decide +kernel
theorem dX0_search_61 : decode cX0_search 61 = .ok (.iaload, 1) := by decide +kernel
theorem dX0_search_62 : decode cX0_search 62 = .ok (.if_icmp .eq 15, 3) := by decide +kernel
theorem dX0_search_65 : decode cX0_search 65 = .ok (.aload_n 0, 1) := by decide +kernel
theorem dX0_search_66 : decode cX0_search 66 = .ok (.getfield 22, 3) := by decide +kernel
theorem dX0_search_69 : decode cX0_search 69 = .ok (.iload_n 1, 1) := by decide +kernel
theorem dX0_search_70 : decode cX0_search 70 = .ok (.iconst 1, 1) := by decide +kernel
theorem dX0_search_71 : decode cX0_search 71 = .ok (.isub, 1) := by decide +kernel
theorem dX0_search_72 : decode cX0_search 72 = .ok (.iaload, 1) := by decide +kernel
theorem dX0_search_73 : decode cX0_search 73 = .ok (.istore_n 1, 1) := by decide +kernel
theorem dX0_search_74 : decode cX0_search 74 = .ok (.goto (-32), 3) := by decide +kernel
theorem dX0_search_77 : decode cX0_search 77 = .ok (.aload_n 0, 1) := by decide +kernel
theorem dX0_search_78 : decode cX0_search 78 = .ok (.getfield 13, 3) := by decide +kernel
theorem dX0_search_81 : decode cX0_search 81 = .ok (.iload_n 2, 1) := by decide +kernel
theorem dX0_search_82 : decode cX0_search 82 = .ok (.iaload, 1) := by decide +kernel
theorem dX0_search_83 : decode cX0_search 83 = .ok (.iload_n 1, 1) := by decide +kernel
theorem dX0_search_84 : decode cX0_search 84 = .ok (.invokestatic 54, 3) := by decide +kernel
theorem dX0_search_87 : decode cX0_search 87 = .ok (.aload_n 0, 1) := by decide +kernel
theorem dX0_search_88 : decode cX0_search 88 = .ok (.getfield 19, 3) := by decide +kernel
theorem dX0_search_91 : decode cX0_search 91 = .ok (.iload_n 1, 1) := by decide +kernel
theorem dX0_search_92 : decode cX0_search 92 = .ok (.iaload, 1) := by decide +kernel
theorem dX0_search_93 : decode cX0_search 93 = .ok (.if_icmp .ne 6, 3) := by decide +kernel
theorem dX0_search_96 : decode cX0_search 96 = .ok (.iinc 1 1, 3) := by decide +kernel
theorem dX0_search_99 : decode cX0_search 99 = .ok (.iload_n 1, 1) := by decide +kernel
theorem dX0_search_100 : decode cX0_search 100 = .ok (.aload_n 0, 1) := by decide +kernel
theorem dX0_search_101 : decode cX0_search 101 = .ok (.getfield 44, 3) := by decide +kernel
theorem dX0_search_104 : decode cX0_search 104 = .ok (.if_icmp .ne 30, 3) := by decide +kernel
theorem dX0_search_107 : decode cX0_search 107 = .ok (.aload_n 0, 1) := by decide +kernel
theorem dX0_search_108 : decode cX0_search 108 = .ok (.getfield 25, 3) := by decide +kernel
theorem dX0_search_111 : decode cX0_search 111 = .ok (.aload_n 0, 1) := by decide +kernel
theorem dX0_search_112 : decode cX0_search 112 = .ok (.getfield 61, 3) := by decide +kernel
theorem dX0_search_115 : decode cX0_search 115 = .ok (.iload_n 2, 1) := by decide +kernel
theorem dX0_search_116 : decode cX0_search 116 = .ok (.iconst 1, 1) := by decide +kernel
theorem dX0_search_117 : decode cX0_search 117 = .ok (.iadd, 1) := by decide +kernel
theorem dX0_search_118 : decode cX0_search 118 = .ok (.aload_n 0, 1) := by decide +kernel
theorem dX0_search_119 : decode cX0_search 119 = .ok (.getfield 44, 3) := by decide +kernel
theorem dX0_search_122 : decode cX0_search 122 = .ok (.isub, 1) := by decide +kernel
theorem dX0_search_123 : decode cX0_search 123 = .ok (.iastore, 1) := by decide +kernel
theorem dX0_search_124 : decode cX0_search 124 = .ok (.aload_n 0, 1) := by decide +kernel
theorem dX0_search_125 : decode cX0_search 125 = .ok (.dup, 1) := by decide +kernel
theorem dX0_search_126 : decode cX0_search 126 = .ok (.getfield 61, 3) := by decide +kernel
theorem dX0_search_129 : decode cX0_search 129 = .ok (.iconst 1, 1) := by decide +kernel
theorem dX0_search_130 : decode cX0_search 130 = .ok (.iadd, 1) := by decide +kernel
theorem dX0_search_131 : decode cX0_search 131 = .ok (.putfield 61, 3) := by decide +kernel
theorem dX0_search_134 : decode cX0_search 134 = .ok (.iinc 2 1, 3) := by decide +kernel
theorem dX0_search_137 : decode cX0_search 137 = .ok (.goto (-120), 3) := by decide +kernel
theorem dX0_search_140 : decode cX0_search 140 = .ok (.return_, 1) := by decide +kernel
abbrev cX0_matchAt : ByteArray := prog_1_method_15_code
def yX0_matchAt : MethodName := ⟨RX0, "matchAt", "(I)I"⟩
theorem dX0_matchAt_0 : decode cX0_matchAt 0 = .ok (.aload_n 0, 1) := by decide +kernel
theorem dX0_matchAt_1 : decode cX0_matchAt 1 = .ok (.invokevirtual 64, 3) := by decide +kernel
theorem dX0_matchAt_4 : decode cX0_matchAt 4 = .ok (.iload_n 1, 1) := by decide +kernel
theorem dX0_matchAt_5 : decode cX0_matchAt 5 = .ok (.ifCond .lt 11, 3) := by decide +kernel
theorem dX0_matchAt_8 : decode cX0_matchAt 8 = .ok (.iload_n 1, 1) := by decide +kernel
theorem dX0_matchAt_9 : decode cX0_matchAt 9 = .ok (.aload_n 0, 1) := by decide +kernel
theorem dX0_matchAt_10 : decode cX0_matchAt 10 = .ok (.getfield 61, 3) := by decide +kernel
theorem dX0_matchAt_13 : decode cX0_matchAt 13 = .ok (.if_icmp .lt 8, 3) := by decide +kernel
theorem dX0_matchAt_16 : decode cX0_matchAt 16 = .ok (.bipush (-4), 2) := by decide +kernel
theorem dX0_matchAt_18 : decode cX0_matchAt 18 = .ok (.goto 9, 3) := by decide +kernel
theorem dX0_matchAt_21 : decode cX0_matchAt 21 = .ok (.aload_n 0, 1) := by decide +kernel
theorem dX0_matchAt_22 : decode cX0_matchAt 22 = .ok (.getfield 25, 3) := by decide +kernel
theorem dX0_matchAt_25 : decode cX0_matchAt 25 = .ok (.iload_n 1, 1) := by decide +kernel
theorem dX0_matchAt_26 : decode cX0_matchAt 26 = .ok (.iaload, 1) := by decide +kernel
theorem dX0_matchAt_27 : decode cX0_matchAt 27 = .ok (.ireturn, 1) := by decide +kernel
abbrev cX0_renamed : ByteArray := prog_1_method_16_code
def yX0_renamed : MethodName := ⟨RX0, "renamed", "(II)I"⟩
theorem dX0_renamed_0 : decode cX0_renamed 0 = .ok (.aload_n 0, 1) := by decide +kernel
theorem dX0_renamed_1 : decode cX0_renamed 1 = .ok (.invokevirtual 64, 3) := by decide +kernel
theorem dX0_renamed_4 : decode cX0_renamed 4 = .ok (.iload_n 1, 1) := by decide +kernel
theorem dX0_renamed_5 : decode cX0_renamed 5 = .ok (.ifCond .lt 23, 3) := by decide +kernel
theorem dX0_renamed_8 : decode cX0_renamed 8 = .ok (.iload_n 1, 1) := by decide +kernel
theorem dX0_renamed_9 : decode cX0_renamed 9 = .ok (.aload_n 0, 1) := by decide +kernel
theorem dX0_renamed_10 : decode cX0_renamed 10 = .ok (.getfield 61, 3) := by decide +kernel
theorem dX0_renamed_13 : decode cX0_renamed 13 = .ok (.if_icmp .ge 15, 3) := by decide +kernel
theorem dX0_renamed_16 : decode cX0_renamed 16 = .ok (.iload_n 2, 1) := by decide +kernel
theorem dX0_renamed_17 : decode cX0_renamed 17 = .ok (.bipush 16, 2) := by decide +kernel
theorem dX0_renamed_19 : decode cX0_renamed 19 = .ok (.if_icmp .lt 9, 3) := by decide +kernel
theorem dX0_renamed_22 : decode cX0_renamed 22 = .ok (.iload_n 2, 1) := by decide +kernel
theorem dX0_renamed_23 : decode cX0_renamed 23 = .ok (.bipush 31, 2) := by decide +kernel
theorem dX0_renamed_25 : decode cX0_renamed 25 = .ok (.if_icmp .le 6, 3) := by decide +kernel
theorem dX0_renamed_28 : decode cX0_renamed 28 = .ok (.bipush (-4), 2) := by decide +kernel
theorem dX0_renamed_30 : decode cX0_renamed 30 = .ok (.ireturn, 1) := by decide +kernel
theorem dX0_renamed_31 : decode cX0_renamed 31 = .ok (.iconst 0, 1) := by decide +kernel
theorem dX0_renamed_32 : decode cX0_renamed 32 = .ok (.istore_n 3, 1) := by decide +kernel
theorem dX0_renamed_33 : decode cX0_renamed 33 = .ok (.iload_n 3, 1) := by decide +kernel
theorem dX0_renamed_34 : decode cX0_renamed 34 = .ok (.aload_n 0, 1) := by decide +kernel
theorem dX0_renamed_35 : decode cX0_renamed 35 = .ok (.getfield 44, 3) := by decide +kernel
theorem dX0_renamed_38 : decode cX0_renamed 38 = .ok (.if_icmp .ge 33, 3) := by decide +kernel
theorem dX0_renamed_41 : decode cX0_renamed 41 = .ok (.aload_n 0, 1) := by decide +kernel
theorem dX0_renamed_42 : decode cX0_renamed 42 = .ok (.getfield 16, 3) := by decide +kernel
theorem dX0_renamed_45 : decode cX0_renamed 45 = .ok (.iload_n 3, 1) := by decide +kernel
theorem dX0_renamed_46 : decode cX0_renamed 46 = .ok (.iaload, 1) := by decide +kernel
theorem dX0_renamed_47 : decode cX0_renamed 47 = .ok (.iload_n 2, 1) := by decide +kernel
theorem dX0_renamed_48 : decode cX0_renamed 48 = .ok (.if_icmp .ne 17, 3) := by decide +kernel
theorem dX0_renamed_51 : decode cX0_renamed 51 = .ok (.aload_n 0, 1) := by decide +kernel
theorem dX0_renamed_52 : decode cX0_renamed 52 = .ok (.getfield 7, 3) := by decide +kernel
theorem dX0_renamed_55 : decode cX0_renamed 55 = .ok (.aload_n 0, 1) := by decide +kernel
theorem dX0_renamed_56 : decode cX0_renamed 56 = .ok (.getfield 25, 3) := by decide +kernel
theorem dX0_renamed_59 : decode cX0_renamed 59 = .ok (.iload_n 1, 1) := by decide +kernel
theorem dX0_renamed_60 : decode cX0_renamed 60 = .ok (.iaload, 1) := by decide +kernel
theorem dX0_renamed_61 : decode cX0_renamed 61 = .ok (.iload_n 3, 1) := by decide +kernel
theorem dX0_renamed_62 : decode cX0_renamed 62 = .ok (.iadd, 1) := by decide +kernel
theorem dX0_renamed_63 : decode cX0_renamed 63 = .ok (.iaload, 1) := by decide +kernel
theorem dX0_renamed_64 : decode cX0_renamed 64 = .ok (.ireturn, 1) := by decide +kernel
theorem dX0_renamed_65 : decode cX0_renamed 65 = .ok (.iinc 3 1, 3) := by decide +kernel
theorem dX0_renamed_68 : decode cX0_renamed 68 = .ok (.goto (-35), 3) := by decide +kernel
theorem dX0_renamed_71 : decode cX0_renamed 71 = .ok (.bipush (-4), 2) := by decide +kernel
theorem dX0_renamed_73 : decode cX0_renamed 73 = .ok (.ireturn, 1) := by decide +kernel
abbrev cX0_longestClone : ByteArray := prog_1_method_20_code
def yX0_longestClone : MethodName := ⟨RX0, "longestClone", "()I"⟩
theorem dX0_longestClone_0 : decode cX0_longestClone 0 = .ok (.aload_n 0, 1) := by decide +kernel
theorem dX0_longestClone_1 : decode cX0_longestClone 1 = .ok (.iconst 1, 1) := by decide +kernel
theorem dX0_longestClone_2 : decode cX0_longestClone 2 = .ok (.invokevirtual 84, 3) := by decide +kernel
theorem dX0_longestClone_5 : decode cX0_longestClone 5 = .ok (.aload_n 0, 1) := by decide +kernel
theorem dX0_longestClone_6 : decode cX0_longestClone 6 = .ok (.getfield 67, 3) := by decide +kernel
theorem dX0_longestClone_9 : decode cX0_longestClone 9 = .ok (.ireturn, 1) := by decide +kernel
abbrev cX0_sweep : ByteArray := prog_1_method_17_code
def yX0_sweep : MethodName := ⟨RX0, "sweep", "(I)V"⟩
theorem dX0_sweep_0 : decode cX0_sweep 0 = .ok (.aload_n 0, 1) := by decide +kernel
theorem dX0_sweep_1 : decode cX0_sweep 1 = .ok (.iconst 0, 1) := by decide +kernel
theorem dX0_sweep_2 : decode cX0_sweep 2 = .ok (.putfield 67, 3) := by decide +kernel
theorem dX0_sweep_5 : decode cX0_sweep 5 = .ok (.aload_n 0, 1) := by decide +kernel
theorem dX0_sweep_6 : decode cX0_sweep 6 = .ok (.bipush (-4), 2) := by decide +kernel
theorem dX0_sweep_8 : decode cX0_sweep 8 = .ok (.putfield 70, 3) := by decide +kernel
theorem dX0_sweep_11 : decode cX0_sweep 11 = .ok (.aload_n 0, 1) := by decide +kernel
theorem dX0_sweep_12 : decode cX0_sweep 12 = .ok (.bipush (-4), 2) := by decide +kernel
theorem dX0_sweep_14 : decode cX0_sweep 14 = .ok (.putfield 73, 3) := by decide +kernel
theorem dX0_sweep_17 : decode cX0_sweep 17 = .ok (.iconst 0, 1) := by decide +kernel
theorem dX0_sweep_18 : decode cX0_sweep 18 = .ok (.istore_n 2, 1) := by decide +kernel
theorem dX0_sweep_19 : decode cX0_sweep 19 = .ok (.iload_n 2, 1) := by decide +kernel
theorem dX0_sweep_20 : decode cX0_sweep 20 = .ok (.aload_n 0, 1) := by decide +kernel
theorem dX0_sweep_21 : decode cX0_sweep 21 = .ok (.getfield 32, 3) := by decide +kernel
theorem dX0_sweep_24 : decode cX0_sweep 24 = .ok (.if_icmp .ge 16, 3) := by decide +kernel
theorem dX0_sweep_27 : decode cX0_sweep 27 = .ok (.aload_n 0, 1) := by decide +kernel
theorem dX0_sweep_28 : decode cX0_sweep 28 = .ok (.getfield 28, 3) := by decide +kernel
theorem dX0_sweep_31 : decode cX0_sweep 31 = .ok (.iload_n 2, 1) := by decide +kernel
theorem dX0_sweep_32 : decode cX0_sweep 32 = .ok (.iconst 0, 1) := by decide +kernel
theorem dX0_sweep_33 : decode cX0_sweep 33 = .ok (.bastore, 1) := by decide +kernel
theorem dX0_sweep_34 : decode cX0_sweep 34 = .ok (.iinc 2 1, 3) := by decide +kernel
theorem dX0_sweep_37 : decode cX0_sweep 37 = .ok (.goto (-18), 3) := by decide +kernel
theorem dX0_sweep_40 : decode cX0_sweep 40 = .ok (.iconst 1, 1) := by decide +kernel
theorem dX0_sweep_41 : decode cX0_sweep 41 = .ok (.istore_n 2, 1) := by decide +kernel
theorem dX0_sweep_42 : decode cX0_sweep 42 = .ok (.iload_n 2, 1) := by decide +kernel
theorem dX0_sweep_43 : decode cX0_sweep 43 = .ok (.aload_n 0, 1) := by decide +kernel
theorem dX0_sweep_44 : decode cX0_sweep 44 = .ok (.getfield 32, 3) := by decide +kernel
theorem dX0_sweep_47 : decode cX0_sweep 47 = .ok (.if_icmp .ge 15, 3) := by decide +kernel
theorem dX0_sweep_50 : decode cX0_sweep 50 = .ok (.aload_n 0, 1) := by decide +kernel
theorem dX0_sweep_51 : decode cX0_sweep 51 = .ok (.iload_n 2, 1) := by decide +kernel
theorem dX0_sweep_52 : decode cX0_sweep 52 = .ok (.iload_n 1, 1) := by decide +kernel
theorem dX0_sweep_53 : decode cX0_sweep 53 = .ok (.invokevirtual 76, 3) := by decide +kernel
theorem dX0_sweep_56 : decode cX0_sweep 56 = .ok (.iinc 2 1, 3) := by decide +kernel
theorem dX0_sweep_59 : decode cX0_sweep 59 = .ok (.goto (-17), 3) := by decide +kernel
theorem dX0_sweep_62 : decode cX0_sweep 62 = .ok (.return_, 1) := by decide +kernel
abbrev cX0_sweepDiagonal : ByteArray := prog_1_method_18_code
def yX0_sweepDiagonal : MethodName := ⟨RX0, "sweepDiagonal", "(II)V"⟩
theorem dX0_sweepDiagonal_0 : decode cX0_sweepDiagonal 0 = .ok (.iconst 0, 1) := by decide +kernel
theorem dX0_sweepDiagonal_1 : decode cX0_sweepDiagonal 1 = .ok (.istore_n 3, 1) := by decide +kernel
theorem dX0_sweepDiagonal_2 : decode cX0_sweepDiagonal 2 = .ok (.iconst 0, 1) := by decide +kernel
theorem dX0_sweepDiagonal_3 : decode cX0_sweepDiagonal 3 = .ok (.istore 4, 2) := by decide +kernel
theorem dX0_sweepDiagonal_5 : decode cX0_sweepDiagonal 5 = .ok (.iload 4, 2) := by decide +kernel
theorem dX0_sweepDiagonal_7 : decode cX0_sweepDiagonal 7 = .ok (.iload_n 1, 1) := by decide +kernel
theorem dX0_sweepDiagonal_8 : decode cX0_sweepDiagonal 8 = .ok (.iadd, 1) := by decide +kernel
theorem dX0_sweepDiagonal_9 : decode cX0_sweepDiagonal 9 = .ok (.aload_n 0, 1) := by decide +kernel
theorem dX0_sweepDiagonal_10 : decode cX0_sweepDiagonal 10 = .ok (.getfield 32, 3) := by decide +kernel
theorem dX0_sweepDiagonal_13 : decode cX0_sweepDiagonal 13 = .ok (.if_icmp .ge 97, 3) := by decide +kernel
theorem dX0_sweepDiagonal_16 : decode cX0_sweepDiagonal 16 = .ok (.iload_n 3, 1) := by decide +kernel
theorem dX0_sweepDiagonal_17 : decode cX0_sweepDiagonal 17 = .ok (.iload 4, 2) := by decide +kernel
theorem dX0_sweepDiagonal_19 : decode cX0_sweepDiagonal 19 = .ok (.if_icmp .ge 6, 3) := by decide +kernel
theorem dX0_sweepDiagonal_22 : decode cX0_sweepDiagonal 22 = .ok (.iload 4, 2) := by decide +kernel
theorem dX0_sweepDiagonal_24 : decode cX0_sweepDiagonal 24 = .ok (.istore_n 3, 1) := by decide +kernel
theorem dX0_sweepDiagonal_25 : decode cX0_sweepDiagonal 25 = .ok (.iload_n 3, 1) := by decide +kernel
theorem dX0_sweepDiagonal_26 : decode cX0_sweepDiagonal 26 = .ok (.iload_n 1, 1) := by decide +kernel
theorem dX0_sweepDiagonal_27 : decode cX0_sweepDiagonal 27 = .ok (.iadd, 1) := by decide +kernel
theorem dX0_sweepDiagonal_28 : decode cX0_sweepDiagonal 28 = .ok (.aload_n 0, 1) := by decide +kernel
theorem dX0_sweepDiagonal_29 : decode cX0_sweepDiagonal 29 = .ok (.getfield 32, 3) := by decide +kernel
theorem dX0_sweepDiagonal_32 : decode cX0_sweepDiagonal 32 = .ok (.if_icmp .ge 40, 3) := by decide +kernel
theorem dX0_sweepDiagonal_35 : decode cX0_sweepDiagonal 35 = .ok (.aload_n 0, 1) := by decide +kernel
theorem dX0_sweepDiagonal_36 : decode cX0_sweepDiagonal 36 = .ok (.getfield 13, 3) := by decide +kernel
theorem dX0_sweepDiagonal_39 : decode cX0_sweepDiagonal 39 = .ok (.iload_n 3, 1) := by decide +kernel
theorem dX0_sweepDiagonal_40 : decode cX0_sweepDiagonal 40 = .ok (.iaload, 1) := by decide +kernel
theorem dX0_sweepDiagonal_41 : decode cX0_sweepDiagonal 41 = .ok (.iload_n 3, 1) := by decide +kernel
theorem dX0_sweepDiagonal_42 : decode cX0_sweepDiagonal 42 = .ok (.iload 4, 2) := by decide +kernel
theorem dX0_sweepDiagonal_44 : decode cX0_sweepDiagonal 44 = .ok (.isub, 1) := by decide +kernel
theorem dX0_sweepDiagonal_45 : decode cX0_sweepDiagonal 45 = .ok (.invokestatic 54, 3) := by decide +kernel
theorem dX0_sweepDiagonal_48 : decode cX0_sweepDiagonal 48 = .ok (.aload_n 0, 1) := by decide +kernel
theorem dX0_sweepDiagonal_49 : decode cX0_sweepDiagonal 49 = .ok (.getfield 13, 3) := by decide +kernel
theorem dX0_sweepDiagonal_52 : decode cX0_sweepDiagonal 52 = .ok (.iload_n 3, 1) := by decide +kernel
theorem dX0_sweepDiagonal_53 : decode cX0_sweepDiagonal 53 = .ok (.iload_n 1, 1) := by decide +kernel
theorem dX0_sweepDiagonal_54 : decode cX0_sweepDiagonal 54 = .ok (.iadd, 1) := by decide +kernel
theorem dX0_sweepDiagonal_55 : decode cX0_sweepDiagonal 55 = .ok (.iaload, 1) := by decide +kernel
theorem dX0_sweepDiagonal_56 : decode cX0_sweepDiagonal 56 = .ok (.iload_n 3, 1) := by decide +kernel
theorem dX0_sweepDiagonal_57 : decode cX0_sweepDiagonal 57 = .ok (.iload 4, 2) := by decide +kernel
theorem dX0_sweepDiagonal_59 : decode cX0_sweepDiagonal 59 = .ok (.isub, 1) := by decide +kernel
theorem dX0_sweepDiagonal_60 : decode cX0_sweepDiagonal 60 = .ok (.invokestatic 54, 3) := by decide +kernel
theorem dX0_sweepDiagonal_63 : decode cX0_sweepDiagonal 63 = .ok (.if_icmp .ne 9, 3) := by decide +kernel
theorem dX0_sweepDiagonal_66 : decode cX0_sweepDiagonal 66 = .ok (.iinc 3 1, 3) := by decide +kernel
theorem dX0_sweepDiagonal_69 : decode cX0_sweepDiagonal 69 = .ok (.goto (-44), 3) := by decide +kernel
theorem dX0_sweepDiagonal_72 : decode cX0_sweepDiagonal 72 = .ok (.aload_n 0, 1) := by decide +kernel
theorem dX0_sweepDiagonal_73 : decode cX0_sweepDiagonal 73 = .ok (.iload 4, 2) := by decide +kernel
theorem dX0_sweepDiagonal_75 : decode cX0_sweepDiagonal 75 = .ok (.iload 4, 2) := by decide +kernel
theorem dX0_sweepDiagonal_77 : decode cX0_sweepDiagonal 77 = .ok (.iload_n 1, 1) := by decide +kernel
theorem dX0_sweepDiagonal_78 : decode cX0_sweepDiagonal 78 = .ok (.iadd, 1) := by decide +kernel
theorem dX0_sweepDiagonal_79 : decode cX0_sweepDiagonal 79 = .ok (.iload_n 3, 1) := by decide +kernel
theorem dX0_sweepDiagonal_80 : decode cX0_sweepDiagonal 80 = .ok (.iload 4, 2) := by decide +kernel
theorem dX0_sweepDiagonal_82 : decode cX0_sweepDiagonal 82 = .ok (.isub, 1) := by decide +kernel
theorem dX0_sweepDiagonal_83 : decode cX0_sweepDiagonal 83 = .ok (.invokevirtual 80, 3) := by decide +kernel
theorem dX0_sweepDiagonal_86 : decode cX0_sweepDiagonal 86 = .ok (.iload_n 3, 1) := by decide +kernel
theorem dX0_sweepDiagonal_87 : decode cX0_sweepDiagonal 87 = .ok (.iload 4, 2) := by decide +kernel
theorem dX0_sweepDiagonal_89 : decode cX0_sweepDiagonal 89 = .ok (.isub, 1) := by decide +kernel
theorem dX0_sweepDiagonal_90 : decode cX0_sweepDiagonal 90 = .ok (.iload_n 2, 1) := by decide +kernel
theorem dX0_sweepDiagonal_91 : decode cX0_sweepDiagonal 91 = .ok (.if_icmp .lt 13, 3) := by decide +kernel
theorem dX0_sweepDiagonal_94 : decode cX0_sweepDiagonal 94 = .ok (.aload_n 0, 1) := by decide +kernel
theorem dX0_sweepDiagonal_95 : decode cX0_sweepDiagonal 95 = .ok (.getfield 28, 3) := by decide +kernel
theorem dX0_sweepDiagonal_98 : decode cX0_sweepDiagonal 98 = .ok (.iload 4, 2) := by decide +kernel
theorem dX0_sweepDiagonal_100 : decode cX0_sweepDiagonal 100 = .ok (.iload_n 1, 1) := by decide +kernel
theorem dX0_sweepDiagonal_101 : decode cX0_sweepDiagonal 101 = .ok (.iadd, 1) := by decide +kernel
theorem dX0_sweepDiagonal_102 : decode cX0_sweepDiagonal 102 = .ok (.iconst 1, 1) := by decide +kernel
theorem dX0_sweepDiagonal_103 : decode cX0_sweepDiagonal 103 = .ok (.bastore, 1) := by decide +kernel
theorem dX0_sweepDiagonal_104 : decode cX0_sweepDiagonal 104 = .ok (.iinc 4 1, 3) := by decide +kernel
theorem dX0_sweepDiagonal_107 : decode cX0_sweepDiagonal 107 = .ok (.goto (-102), 3) := by decide +kernel
theorem dX0_sweepDiagonal_110 : decode cX0_sweepDiagonal 110 = .ok (.return_, 1) := by decide +kernel
abbrev cX0_takeClone : ByteArray := prog_1_method_19_code
def yX0_takeClone : MethodName := ⟨RX0, "takeClone", "(III)V"⟩
theorem dX0_takeClone_0 : decode cX0_takeClone 0 = .ok (.iload_n 3, 1) := by decide +kernel
theorem dX0_takeClone_1 : decode cX0_takeClone 1 = .ok (.ifCond .eq 11, 3) := by decide +kernel
theorem dX0_takeClone_4 : decode cX0_takeClone 4 = .ok (.iload_n 3, 1) := by decide +kernel
theorem dX0_takeClone_5 : decode cX0_takeClone 5 = .ok (.aload_n 0, 1) := by decide +kernel
theorem dX0_takeClone_6 : decode cX0_takeClone 6 = .ok (.getfield 67, 3) := by decide +kernel
theorem dX0_takeClone_9 : decode cX0_takeClone 9 = .ok (.if_icmp .ge 4, 3) := by decide +kernel
theorem dX0_takeClone_12 : decode cX0_takeClone 12 = .ok (.return_, 1) := by decide +kernel
theorem dX0_takeClone_13 : decode cX0_takeClone 13 = .ok (.iload_n 3, 1) := by decide +kernel
theorem dX0_takeClone_14 : decode cX0_takeClone 14 = .ok (.aload_n 0, 1) := by decide +kernel
theorem dX0_takeClone_15 : decode cX0_takeClone 15 = .ok (.getfield 67, 3) := by decide +kernel
theorem dX0_takeClone_18 : decode cX0_takeClone 18 = .ok (.if_icmp .gt 27, 3) := by decide +kernel
theorem dX0_takeClone_21 : decode cX0_takeClone 21 = .ok (.iload_n 1, 1) := by decide +kernel
theorem dX0_takeClone_22 : decode cX0_takeClone 22 = .ok (.aload_n 0, 1) := by decide +kernel
theorem dX0_takeClone_23 : decode cX0_takeClone 23 = .ok (.getfield 70, 3) := by decide +kernel
theorem dX0_takeClone_26 : decode cX0_takeClone 26 = .ok (.if_icmp .lt 19, 3) := by decide +kernel
theorem dX0_takeClone_29 : decode cX0_takeClone 29 = .ok (.iload_n 1, 1) := by decide +kernel
theorem dX0_takeClone_30 : decode cX0_takeClone 30 = .ok (.aload_n 0, 1) := by decide +kernel
theorem dX0_takeClone_31 : decode cX0_takeClone 31 = .ok (.getfield 70, 3) := by decide +kernel
theorem dX0_takeClone_34 : decode cX0_takeClone 34 = .ok (.if_icmp .ne 26, 3) := by decide +kernel
theorem dX0_takeClone_37 : decode cX0_takeClone 37 = .ok (.iload_n 2, 1) := by decide +kernel
theorem dX0_takeClone_38 : decode cX0_takeClone 38 = .ok (.aload_n 0, 1) := by decide +kernel
theorem dX0_takeClone_39 : decode cX0_takeClone 39 = .ok (.getfield 73, 3) := by decide +kernel
theorem dX0_takeClone_42 : decode cX0_takeClone 42 = .ok (.if_icmp .ge 18, 3) := by decide +kernel
theorem dX0_takeClone_45 : decode cX0_takeClone 45 = .ok (.aload_n 0, 1) := by decide +kernel
theorem dX0_takeClone_46 : decode cX0_takeClone 46 = .ok (.iload_n 3, 1) := by decide +kernel
theorem dX0_takeClone_47 : decode cX0_takeClone 47 = .ok (.putfield 67, 3) := by decide +kernel
theorem dX0_takeClone_50 : decode cX0_takeClone 50 = .ok (.aload_n 0, 1) := by decide +kernel
theorem dX0_takeClone_51 : decode cX0_takeClone 51 = .ok (.iload_n 1, 1) := by decide +kernel
theorem dX0_takeClone_52 : decode cX0_takeClone 52 = .ok (.putfield 70, 3) := by decide +kernel
theorem dX0_takeClone_55 : decode cX0_takeClone 55 = .ok (.aload_n 0, 1) := by decide +kernel
theorem dX0_takeClone_56 : decode cX0_takeClone 56 = .ok (.iload_n 2, 1) := by decide +kernel
theorem dX0_takeClone_57 : decode cX0_takeClone 57 = .ok (.putfield 73, 3) := by decide +kernel
theorem dX0_takeClone_60 : decode cX0_takeClone 60 = .ok (.return_, 1) := by decide +kernel
abbrev cX0_cloneFirst : ByteArray := prog_1_method_21_code
def yX0_cloneFirst : MethodName := ⟨RX0, "cloneFirst", "()I"⟩
theorem dX0_cloneFirst_0 : decode cX0_cloneFirst 0 = .ok (.aload_n 0, 1) := by decide +kernel
theorem dX0_cloneFirst_1 : decode cX0_cloneFirst 1 = .ok (.iconst 1, 1) := by decide +kernel
theorem dX0_cloneFirst_2 : decode cX0_cloneFirst 2 = .ok (.invokevirtual 84, 3) := by decide +kernel
theorem dX0_cloneFirst_5 : decode cX0_cloneFirst 5 = .ok (.aload_n 0, 1) := by decide +kernel
theorem dX0_cloneFirst_6 : decode cX0_cloneFirst 6 = .ok (.getfield 70, 3) := by decide +kernel
theorem dX0_cloneFirst_9 : decode cX0_cloneFirst 9 = .ok (.ireturn, 1) := by decide +kernel
abbrev cX0_cloneSecond : ByteArray := prog_1_method_22_code
def yX0_cloneSecond : MethodName := ⟨RX0, "cloneSecond", "()I"⟩
theorem dX0_cloneSecond_0 : decode cX0_cloneSecond 0 = .ok (.aload_n 0, 1) := by decide +kernel
theorem dX0_cloneSecond_1 : decode cX0_cloneSecond 1 = .ok (.iconst 1, 1) := by decide +kernel
theorem dX0_cloneSecond_2 : decode cX0_cloneSecond 2 = .ok (.invokevirtual 84, 3) := by decide +kernel
theorem dX0_cloneSecond_5 : decode cX0_cloneSecond 5 = .ok (.aload_n 0, 1) := by decide +kernel
theorem dX0_cloneSecond_6 : decode cX0_cloneSecond 6 = .ok (.getfield 73, 3) := by decide +kernel
theorem dX0_cloneSecond_9 : decode cX0_cloneSecond 9 = .ok (.ireturn, 1) := by decide +kernel
abbrev cX0_kinds : ByteArray := prog_1_method_23_code
def yX0_kinds : MethodName := ⟨RX0, "kinds", "(I)I"⟩
theorem dX0_kinds_0 : decode cX0_kinds 0 = .ok (.iload_n 1, 1) := by decide +kernel
theorem dX0_kinds_1 : decode cX0_kinds 1 = .ok (.iconst 1, 1) := by decide +kernel
theorem dX0_kinds_2 : decode cX0_kinds 2 = .ok (.if_icmp .lt 11, 3) := by decide +kernel
theorem dX0_kinds_5 : decode cX0_kinds 5 = .ok (.iload_n 1, 1) := by decide +kernel
theorem dX0_kinds_6 : decode cX0_kinds 6 = .ok (.aload_n 0, 1) := by decide +kernel
theorem dX0_kinds_7 : decode cX0_kinds 7 = .ok (.getfield 32, 3) := by decide +kernel
theorem dX0_kinds_10 : decode cX0_kinds 10 = .ok (.if_icmp .le 5, 3) := by decide +kernel
theorem dX0_kinds_13 : decode cX0_kinds 13 = .ok (.iconst 0, 1) := by decide +kernel
theorem dX0_kinds_14 : decode cX0_kinds 14 = .ok (.ireturn, 1) := by decide +kernel
theorem dX0_kinds_15 : decode cX0_kinds 15 = .ok (.aload_n 0, 1) := by decide +kernel
theorem dX0_kinds_16 : decode cX0_kinds 16 = .ok (.iload_n 1, 1) := by decide +kernel
theorem dX0_kinds_17 : decode cX0_kinds 17 = .ok (.invokevirtual 84, 3) := by decide +kernel
theorem dX0_kinds_20 : decode cX0_kinds 20 = .ok (.iconst 0, 1) := by decide +kernel
theorem dX0_kinds_21 : decode cX0_kinds 21 = .ok (.istore_n 2, 1) := by decide +kernel
theorem dX0_kinds_22 : decode cX0_kinds 22 = .ok (.iconst 0, 1) := by decide +kernel
theorem dX0_kinds_23 : decode cX0_kinds 23 = .ok (.istore_n 3, 1) := by decide +kernel
theorem dX0_kinds_24 : decode cX0_kinds 24 = .ok (.iload_n 3, 1) := by decide +kernel
theorem dX0_kinds_25 : decode cX0_kinds 25 = .ok (.iload_n 1, 1) := by decide +kernel
theorem dX0_kinds_26 : decode cX0_kinds 26 = .ok (.iadd, 1) := by decide +kernel
theorem dX0_kinds_27 : decode cX0_kinds 27 = .ok (.aload_n 0, 1) := by decide +kernel
theorem dX0_kinds_28 : decode cX0_kinds 28 = .ok (.getfield 32, 3) := by decide +kernel
theorem dX0_kinds_31 : decode cX0_kinds 31 = .ok (.if_icmp .gt 21, 3) := by decide +kernel
theorem dX0_kinds_34 : decode cX0_kinds 34 = .ok (.aload_n 0, 1) := by decide +kernel
theorem dX0_kinds_35 : decode cX0_kinds 35 = .ok (.getfield 28, 3) := by decide +kernel
theorem dX0_kinds_38 : decode cX0_kinds 38 = .ok (.iload_n 3, 1) := by decide +kernel
theorem dX0_kinds_39 : decode cX0_kinds 39 = .ok (.baload, 1) := by decide +kernel
theorem dX0_kinds_40 : decode cX0_kinds 40 = .ok (.ifCond .ne 6, 3) := by decide +kernel
theorem dX0_kinds_43 : decode cX0_kinds 43 = .ok (.iinc 2 1, 3) := by decide +kernel
theorem dX0_kinds_46 : decode cX0_kinds 46 = .ok (.iinc 3 1, 3) := by decide +kernel
theorem dX0_kinds_49 : decode cX0_kinds 49 = .ok (.goto (-25), 3) := by decide +kernel
theorem dX0_kinds_52 : decode cX0_kinds 52 = .ok (.iload_n 2, 1) := by decide +kernel
theorem dX0_kinds_53 : decode cX0_kinds 53 = .ok (.ireturn, 1) := by decide +kernel
abbrev cX0_reach : ByteArray := prog_1_method_24_code
def yX0_reach : MethodName := ⟨RX0, "reach", "(II)I"⟩
theorem dX0_reach_0 : decode cX0_reach 0 = .ok (.iload_n 1, 1) := by decide +kernel
theorem dX0_reach_1 : decode cX0_reach 1 = .ok (.ifCond .lt 23, 3) := by decide +kernel
theorem dX0_reach_4 : decode cX0_reach 4 = .ok (.iload_n 1, 1) := by decide +kernel
theorem dX0_reach_5 : decode cX0_reach 5 = .ok (.aload_n 0, 1) := by decide +kernel
theorem dX0_reach_6 : decode cX0_reach 6 = .ok (.getfield 32, 3) := by decide +kernel
theorem dX0_reach_9 : decode cX0_reach 9 = .ok (.if_icmp .ge 15, 3) := by decide +kernel
theorem dX0_reach_12 : decode cX0_reach 12 = .ok (.iload_n 2, 1) := by decide +kernel
theorem dX0_reach_13 : decode cX0_reach 13 = .ok (.ifCond .lt 11, 3) := by decide +kernel
theorem dX0_reach_16 : decode cX0_reach 16 = .ok (.iload_n 2, 1) := by decide +kernel
theorem dX0_reach_17 : decode cX0_reach 17 = .ok (.aload_n 0, 1) := by decide +kernel
theorem dX0_reach_18 : decode cX0_reach 18 = .ok (.getfield 32, 3) := by decide +kernel
theorem dX0_reach_21 : decode cX0_reach 21 = .ok (.if_icmp .lt 6, 3) := by decide +kernel
theorem dX0_reach_24 : decode cX0_reach 24 = .ok (.bipush (-3), 2) := by decide +kernel
theorem dX0_reach_26 : decode cX0_reach 26 = .ok (.ireturn, 1) := by decide +kernel
theorem dX0_reach_27 : decode cX0_reach 27 = .ok (.iconst 0, 1) := by decide +kernel
theorem dX0_reach_28 : decode cX0_reach 28 = .ok (.istore_n 3, 1) := by decide +kernel
theorem dX0_reach_29 : decode cX0_reach 29 = .ok (.iload_n 1, 1) := by decide +kernel
theorem dX0_reach_30 : decode cX0_reach 30 = .ok (.iload_n 3, 1) := by decide +kernel
theorem dX0_reach_31 : decode cX0_reach 31 = .ok (.iadd, 1) := by decide +kernel
theorem dX0_reach_32 : decode cX0_reach 32 = .ok (.aload_n 0, 1) := by decide +kernel
theorem dX0_reach_33 : decode cX0_reach 33 = .ok (.getfield 32, 3) := by decide +kernel
theorem dX0_reach_36 : decode cX0_reach 36 = .ok (.if_icmp .ge 46, 3) := by decide +kernel
theorem dX0_reach_39 : decode cX0_reach 39 = .ok (.iload_n 2, 1) := by decide +kernel
theorem dX0_reach_40 : decode cX0_reach 40 = .ok (.iload_n 3, 1) := by decide +kernel
theorem dX0_reach_41 : decode cX0_reach 41 = .ok (.iadd, 1) := by decide +kernel
theorem dX0_reach_42 : decode cX0_reach 42 = .ok (.aload_n 0, 1) := by decide +kernel
theorem dX0_reach_43 : decode cX0_reach 43 = .ok (.getfield 32, 3) := by decide +kernel
theorem dX0_reach_46 : decode cX0_reach 46 = .ok (.if_icmp .ge 36, 3) := by decide +kernel
theorem dX0_reach_49 : decode cX0_reach 49 = .ok (.aload_n 0, 1) := by decide +kernel
theorem dX0_reach_50 : decode cX0_reach 50 = .ok (.getfield 13, 3) := by decide +kernel
theorem dX0_reach_53 : decode cX0_reach 53 = .ok (.iload_n 1, 1) := by decide +kernel
theorem dX0_reach_54 : decode cX0_reach 54 = .ok (.iload_n 3, 1) := by decide +kernel
theorem dX0_reach_55 : decode cX0_reach 55 = .ok (.iadd, 1) := by decide +kernel
theorem dX0_reach_56 : decode cX0_reach 56 = .ok (.iaload, 1) := by decide +kernel
theorem dX0_reach_57 : decode cX0_reach 57 = .ok (.iload_n 3, 1) := by decide +kernel
theorem dX0_reach_58 : decode cX0_reach 58 = .ok (.invokestatic 54, 3) := by decide +kernel
theorem dX0_reach_61 : decode cX0_reach 61 = .ok (.aload_n 0, 1) := by decide +kernel
theorem dX0_reach_62 : decode cX0_reach 62 = .ok (.getfield 13, 3) := by decide +kernel
theorem dX0_reach_65 : decode cX0_reach 65 = .ok (.iload_n 2, 1) := by decide +kernel
theorem dX0_reach_66 : decode cX0_reach 66 = .ok (.iload_n 3, 1) := by decide +kernel
theorem dX0_reach_67 : decode cX0_reach 67 = .ok (.iadd, 1) := by decide +kernel
theorem dX0_reach_68 : decode cX0_reach 68 = .ok (.iaload, 1) := by decide +kernel
theorem dX0_reach_69 : decode cX0_reach 69 = .ok (.iload_n 3, 1) := by decide +kernel
theorem dX0_reach_70 : decode cX0_reach 70 = .ok (.invokestatic 54, 3) := by decide +kernel
theorem dX0_reach_73 : decode cX0_reach 73 = .ok (.if_icmp .ne 9, 3) := by decide +kernel
theorem dX0_reach_76 : decode cX0_reach 76 = .ok (.iinc 3 1, 3) := by decide +kernel
theorem dX0_reach_79 : decode cX0_reach 79 = .ok (.goto (-50), 3) := by decide +kernel
theorem dX0_reach_82 : decode cX0_reach 82 = .ok (.iload_n 3, 1) := by decide +kernel
theorem dX0_reach_83 : decode cX0_reach 83 = .ok (.ireturn, 1) := by decide +kernel
end
section
/-! ParamCloneFinderModel -/
set_option maxRecDepth 100000
def RX1 : String := "ParamCloneFinderModel"
def TX1 : u_T := fun k => match k with
  | 0 => ("ParamCloneFinderModel", "tokens", "[I", true)
  | 1 => ("ParamCloneFinderModel", "textLength", "I", false)
  | _ => ("ParamCloneFinderModel", "patternLength", "I", false)
def tyX1 : Nat → FieldType := fun k => match k with
  | 0 => .array .int
  | 1 => .int
  | _ => .int
abbrev wsX10 : List Cond := u_ws RX1 TX1 3
theorem nmX1 : ∀ a, a < 3 → ∀ b, b < 3 → a ≠ b → (TX1 a).2.1 ≠ (TX1 b).2.1 := by decide +kernel
theorem tyX1_ok : ∀ k, k < 3 → parseFieldDescriptor (TX1 k).2.2.1 = some (tyX1 k) := by decide +kernel
abbrev cX1_init : ByteArray := prog_3_method_1_code
def yX1_init : MethodName := ⟨RX1, "<init>", "()V"⟩
theorem dX1_init_0 : decode cX1_init 0 = .ok (.aload_n 0, 1) := by decide +kernel
theorem dX1_init_1 : decode cX1_init 1 = .ok (.invokespecial 1, 3) := by decide +kernel
theorem dX1_init_4 : decode cX1_init 4 = .ok (.aload_n 0, 1) := by decide +kernel
theorem dX1_init_5 : decode cX1_init 5 = .ok (.bipush 60, 2) := by decide +kernel
theorem dX1_init_7 : decode cX1_init 7 = .ok (.newarray .int, 2) := by decide +kernel
theorem dX1_init_9 : decode cX1_init 9 = .ok (.putfield 7, 3) := by decide +kernel
theorem dX1_init_12 : decode cX1_init 12 = .ok (.return_, 1) := by decide +kernel
abbrev cX1_text : ByteArray := prog_3_method_3_code
def yX1_text : MethodName := ⟨RX1, "text", "(I)I"⟩
theorem dX1_text_0 : decode cX1_text 0 = .ok (.aload_n 0, 1) := by decide +kernel
theorem dX1_text_1 : decode cX1_text 1 = .ok (.iload_n 1, 1) := by decide +kernel
theorem dX1_text_2 : decode cX1_text 2 = .ok (.invokevirtual 13, 3) := by decide +kernel
theorem dX1_text_5 : decode cX1_text 5 = .ok (.ifCond .ne 5, 3) := by decide +kernel
theorem dX1_text_8 : decode cX1_text 8 = .ok (.iconst (-1), 1) := by decide +kernel
theorem dX1_text_9 : decode cX1_text 9 = .ok (.ireturn, 1) := by decide +kernel
theorem dX1_text_10 : decode cX1_text 10 = .ok (.aload_n 0, 1) := by decide +kernel
theorem dX1_text_11 : decode cX1_text 11 = .ok (.getfield 17, 3) := by decide +kernel
theorem dX1_text_14 : decode cX1_text 14 = .ok (.bipush 48, 2) := by decide +kernel
theorem dX1_text_16 : decode cX1_text 16 = .ok (.if_icmp .ne 6, 3) := by decide +kernel
theorem dX1_text_19 : decode cX1_text 19 = .ok (.bipush (-2), 2) := by decide +kernel
theorem dX1_text_21 : decode cX1_text 21 = .ok (.ireturn, 1) := by decide +kernel
theorem dX1_text_22 : decode cX1_text 22 = .ok (.aload_n 0, 1) := by decide +kernel
theorem dX1_text_23 : decode cX1_text 23 = .ok (.getfield 7, 3) := by decide +kernel
theorem dX1_text_26 : decode cX1_text 26 = .ok (.aload_n 0, 1) := by decide +kernel
theorem dX1_text_27 : decode cX1_text 27 = .ok (.getfield 17, 3) := by decide +kernel
theorem dX1_text_30 : decode cX1_text 30 = .ok (.iload_n 1, 1) := by decide +kernel
theorem dX1_text_31 : decode cX1_text 31 = .ok (.iastore, 1) := by decide +kernel
theorem dX1_text_32 : decode cX1_text 32 = .ok (.aload_n 0, 1) := by decide +kernel
theorem dX1_text_33 : decode cX1_text 33 = .ok (.dup, 1) := by decide +kernel
theorem dX1_text_34 : decode cX1_text 34 = .ok (.getfield 17, 3) := by decide +kernel
theorem dX1_text_37 : decode cX1_text 37 = .ok (.iconst 1, 1) := by decide +kernel
theorem dX1_text_38 : decode cX1_text 38 = .ok (.iadd, 1) := by decide +kernel
theorem dX1_text_39 : decode cX1_text 39 = .ok (.putfield 17, 3) := by decide +kernel
theorem dX1_text_42 : decode cX1_text 42 = .ok (.aload_n 0, 1) := by decide +kernel
theorem dX1_text_43 : decode cX1_text 43 = .ok (.getfield 17, 3) := by decide +kernel
theorem dX1_text_46 : decode cX1_text 46 = .ok (.ireturn, 1) := by decide +kernel
abbrev cX1_isToken : ByteArray := prog_3_method_2_code
def yX1_isToken : MethodName := ⟨RX1, "isToken", "(I)Z"⟩
theorem dX1_isToken_0 : decode cX1_isToken 0 = .ok (.iload_n 1, 1) := by decide +kernel
theorem dX1_isToken_1 : decode cX1_isToken 1 = .ok (.ifCond .lt 13, 3) := by decide +kernel
theorem dX1_isToken_4 : decode cX1_isToken 4 = .ok (.iload_n 1, 1) := by decide +kernel
theorem dX1_isToken_5 : decode cX1_isToken 5 = .ok (.bipush 31, 2) := by decide +kernel
theorem dX1_isToken_7 : decode cX1_isToken 7 = .ok (.if_icmp .gt 7, 3) := by decide +kernel
theorem dX1_isToken_10 : decode cX1_isToken 10 = .ok (.iconst 1, 1) := by decide +kernel
theorem dX1_isToken_11 : decode cX1_isToken 11 = .ok (.goto 4, 3) := by decide +kernel
theorem dX1_isToken_14 : decode cX1_isToken 14 = .ok (.iconst 0, 1) := by decide +kernel
theorem dX1_isToken_15 : decode cX1_isToken 15 = .ok (.ireturn, 1) := by decide +kernel
abbrev cX1_change : ByteArray := prog_3_method_5_code
def yX1_change : MethodName := ⟨RX1, "change", "(II)I"⟩
theorem dX1_change_0 : decode cX1_change 0 = .ok (.aload_n 0, 1) := by decide +kernel
theorem dX1_change_1 : decode cX1_change 1 = .ok (.iload_n 1, 1) := by decide +kernel
theorem dX1_change_2 : decode cX1_change 2 = .ok (.invokevirtual 21, 3) := by decide +kernel
theorem dX1_change_5 : decode cX1_change 5 = .ok (.ifCond .ne 6, 3) := by decide +kernel
theorem dX1_change_8 : decode cX1_change 8 = .ok (.bipush (-3), 2) := by decide +kernel
theorem dX1_change_10 : decode cX1_change 10 = .ok (.ireturn, 1) := by decide +kernel
theorem dX1_change_11 : decode cX1_change 11 = .ok (.aload_n 0, 1) := by decide +kernel
theorem dX1_change_12 : decode cX1_change 12 = .ok (.iload_n 2, 1) := by decide +kernel
theorem dX1_change_13 : decode cX1_change 13 = .ok (.invokevirtual 13, 3) := by decide +kernel
theorem dX1_change_16 : decode cX1_change 16 = .ok (.ifCond .ne 5, 3) := by decide +kernel
theorem dX1_change_19 : decode cX1_change 19 = .ok (.iconst (-1), 1) := by decide +kernel
theorem dX1_change_20 : decode cX1_change 20 = .ok (.ireturn, 1) := by decide +kernel
theorem dX1_change_21 : decode cX1_change 21 = .ok (.aload_n 0, 1) := by decide +kernel
theorem dX1_change_22 : decode cX1_change 22 = .ok (.getfield 7, 3) := by decide +kernel
theorem dX1_change_25 : decode cX1_change 25 = .ok (.iload_n 1, 1) := by decide +kernel
theorem dX1_change_26 : decode cX1_change 26 = .ok (.iaload, 1) := by decide +kernel
theorem dX1_change_27 : decode cX1_change 27 = .ok (.istore_n 3, 1) := by decide +kernel
theorem dX1_change_28 : decode cX1_change 28 = .ok (.aload_n 0, 1) := by decide +kernel
theorem dX1_change_29 : decode cX1_change 29 = .ok (.getfield 7, 3) := by decide +kernel
theorem dX1_change_32 : decode cX1_change 32 = .ok (.iload_n 1, 1) := by decide +kernel
theorem dX1_change_33 : decode cX1_change 33 = .ok (.iload_n 2, 1) := by decide +kernel
theorem dX1_change_34 : decode cX1_change 34 = .ok (.iastore, 1) := by decide +kernel
theorem dX1_change_35 : decode cX1_change 35 = .ok (.iload_n 3, 1) := by decide +kernel
theorem dX1_change_36 : decode cX1_change 36 = .ok (.ireturn, 1) := by decide +kernel
abbrev cX1_inText : ByteArray := prog_3_method_4_code
def yX1_inText : MethodName := ⟨RX1, "inText", "(I)Z"⟩
theorem dX1_inText_0 : decode cX1_inText 0 = .ok (.iload_n 1, 1) := by decide +kernel
theorem dX1_inText_1 : decode cX1_inText 1 = .ok (.ifCond .lt 15, 3) := by decide +kernel
theorem dX1_inText_4 : decode cX1_inText 4 = .ok (.iload_n 1, 1) := by decide +kernel
theorem dX1_inText_5 : decode cX1_inText 5 = .ok (.aload_n 0, 1) := by decide +kernel
theorem dX1_inText_6 : decode cX1_inText 6 = .ok (.getfield 17, 3) := by decide +kernel
theorem dX1_inText_9 : decode cX1_inText 9 = .ok (.if_icmp .ge 7, 3) := by decide +kernel
theorem dX1_inText_12 : decode cX1_inText 12 = .ok (.iconst 1, 1) := by decide +kernel
theorem dX1_inText_13 : decode cX1_inText 13 = .ok (.goto 4, 3) := by decide +kernel
theorem dX1_inText_16 : decode cX1_inText 16 = .ok (.iconst 0, 1) := by decide +kernel
theorem dX1_inText_17 : decode cX1_inText 17 = .ok (.ireturn, 1) := by decide +kernel
abbrev cX1_pattern : ByteArray := prog_3_method_6_code
def yX1_pattern : MethodName := ⟨RX1, "pattern", "(I)I"⟩
theorem dX1_pattern_0 : decode cX1_pattern 0 = .ok (.aload_n 0, 1) := by decide +kernel
theorem dX1_pattern_1 : decode cX1_pattern 1 = .ok (.iload_n 1, 1) := by decide +kernel
theorem dX1_pattern_2 : decode cX1_pattern 2 = .ok (.invokevirtual 13, 3) := by decide +kernel
theorem dX1_pattern_5 : decode cX1_pattern 5 = .ok (.ifCond .ne 5, 3) := by decide +kernel
theorem dX1_pattern_8 : decode cX1_pattern 8 = .ok (.iconst (-1), 1) := by decide +kernel
theorem dX1_pattern_9 : decode cX1_pattern 9 = .ok (.ireturn, 1) := by decide +kernel
theorem dX1_pattern_10 : decode cX1_pattern 10 = .ok (.aload_n 0, 1) := by decide +kernel
theorem dX1_pattern_11 : decode cX1_pattern 11 = .ok (.getfield 24, 3) := by decide +kernel
theorem dX1_pattern_14 : decode cX1_pattern 14 = .ok (.bipush 12, 2) := by decide +kernel
theorem dX1_pattern_16 : decode cX1_pattern 16 = .ok (.if_icmp .ne 6, 3) := by decide +kernel
theorem dX1_pattern_19 : decode cX1_pattern 19 = .ok (.bipush (-2), 2) := by decide +kernel
theorem dX1_pattern_21 : decode cX1_pattern 21 = .ok (.ireturn, 1) := by decide +kernel
theorem dX1_pattern_22 : decode cX1_pattern 22 = .ok (.aload_n 0, 1) := by decide +kernel
theorem dX1_pattern_23 : decode cX1_pattern 23 = .ok (.getfield 7, 3) := by decide +kernel
theorem dX1_pattern_26 : decode cX1_pattern 26 = .ok (.bipush 48, 2) := by decide +kernel
theorem dX1_pattern_28 : decode cX1_pattern 28 = .ok (.aload_n 0, 1) := by decide +kernel
theorem dX1_pattern_29 : decode cX1_pattern 29 = .ok (.getfield 24, 3) := by decide +kernel
theorem dX1_pattern_32 : decode cX1_pattern 32 = .ok (.iadd, 1) := by decide +kernel
theorem dX1_pattern_33 : decode cX1_pattern 33 = .ok (.iload_n 1, 1) := by decide +kernel
theorem dX1_pattern_34 : decode cX1_pattern 34 = .ok (.iastore, 1) := by decide +kernel
theorem dX1_pattern_35 : decode cX1_pattern 35 = .ok (.aload_n 0, 1) := by decide +kernel
theorem dX1_pattern_36 : decode cX1_pattern 36 = .ok (.dup, 1) := by decide +kernel
theorem dX1_pattern_37 : decode cX1_pattern 37 = .ok (.getfield 24, 3) := by decide +kernel
theorem dX1_pattern_40 : decode cX1_pattern 40 = .ok (.iconst 1, 1) := by decide +kernel
theorem dX1_pattern_41 : decode cX1_pattern 41 = .ok (.iadd, 1) := by decide +kernel
theorem dX1_pattern_42 : decode cX1_pattern 42 = .ok (.putfield 24, 3) := by decide +kernel
theorem dX1_pattern_45 : decode cX1_pattern 45 = .ok (.aload_n 0, 1) := by decide +kernel
theorem dX1_pattern_46 : decode cX1_pattern 46 = .ok (.getfield 24, 3) := by decide +kernel
theorem dX1_pattern_49 : decode cX1_pattern 49 = .ok (.ireturn, 1) := by decide +kernel
abbrev cX1_patternFrom : ByteArray := prog_3_method_7_code
def yX1_patternFrom : MethodName := ⟨RX1, "patternFrom", "(II)I"⟩
theorem dX1_patternFrom_0 : decode cX1_patternFrom 0 = .ok (.iload_n 2, 1) := by decide +kernel
theorem dX1_patternFrom_1 : decode cX1_patternFrom 1 = .ok (.iconst 1, 1) := by decide +kernel
theorem dX1_patternFrom_2 : decode cX1_patternFrom 2 = .ok (.if_icmp .lt 23, 3) := by decide +kernel
theorem dX1_patternFrom_5 : decode cX1_patternFrom 5 = .ok (.iload_n 2, 1) := by decide +kernel
theorem dX1_patternFrom_6 : decode cX1_patternFrom 6 = .ok (.bipush 12, 2) := by decide +kernel
theorem dX1_patternFrom_8 : decode cX1_patternFrom 8 = .ok (.if_icmp .gt 17, 3) := by decide +kernel
theorem dX1_patternFrom_11 : decode cX1_patternFrom 11 = .ok (.iload_n 1, 1) := by decide +kernel
theorem dX1_patternFrom_12 : decode cX1_patternFrom 12 = .ok (.ifCond .lt 13, 3) := by decide +kernel
theorem dX1_patternFrom_15 : decode cX1_patternFrom 15 = .ok (.iload_n 1, 1) := by decide +kernel
theorem dX1_patternFrom_16 : decode cX1_patternFrom 16 = .ok (.aload_n 0, 1) := by decide +kernel
theorem dX1_patternFrom_17 : decode cX1_patternFrom 17 = .ok (.getfield 17, 3) := by decide +kernel
theorem dX1_patternFrom_20 : decode cX1_patternFrom 20 = .ok (.iload_n 2, 1) := by decide +kernel
theorem dX1_patternFrom_21 : decode cX1_patternFrom 21 = .ok (.isub, 1) := by decide +kernel
theorem dX1_patternFrom_22 : decode cX1_patternFrom 22 = .ok (.if_icmp .le 6, 3) := by decide +kernel
theorem dX1_patternFrom_25 : decode cX1_patternFrom 25 = .ok (.bipush (-3), 2) := by decide +kernel
theorem dX1_patternFrom_27 : decode cX1_patternFrom 27 = .ok (.ireturn, 1) := by decide +kernel
theorem dX1_patternFrom_28 : decode cX1_patternFrom 28 = .ok (.aload_n 0, 1) := by decide +kernel
theorem dX1_patternFrom_29 : decode cX1_patternFrom 29 = .ok (.iload_n 2, 1) := by decide +kernel
theorem dX1_patternFrom_30 : decode cX1_patternFrom 30 = .ok (.putfield 24, 3) := by decide +kernel
theorem dX1_patternFrom_33 : decode cX1_patternFrom 33 = .ok (.iconst 0, 1) := by decide +kernel
theorem dX1_patternFrom_34 : decode cX1_patternFrom 34 = .ok (.istore_n 3, 1) := by decide +kernel
theorem dX1_patternFrom_35 : decode cX1_patternFrom 35 = .ok (.iload_n 3, 1) := by decide +kernel
theorem dX1_patternFrom_36 : decode cX1_patternFrom 36 = .ok (.iload_n 2, 1) := by decide +kernel
theorem dX1_patternFrom_37 : decode cX1_patternFrom 37 = .ok (.if_icmp .ge 26, 3) := by decide +kernel
theorem dX1_patternFrom_40 : decode cX1_patternFrom 40 = .ok (.aload_n 0, 1) := by decide +kernel
theorem dX1_patternFrom_41 : decode cX1_patternFrom 41 = .ok (.getfield 7, 3) := by decide +kernel
theorem dX1_patternFrom_44 : decode cX1_patternFrom 44 = .ok (.bipush 48, 2) := by decide +kernel
theorem dX1_patternFrom_46 : decode cX1_patternFrom 46 = .ok (.iload_n 3, 1) := by decide +kernel
theorem dX1_patternFrom_47 : decode cX1_patternFrom 47 = .ok (.iadd, 1) := by decide +kernel
theorem dX1_patternFrom_48 : decode cX1_patternFrom 48 = .ok (.aload_n 0, 1) := by decide +kernel
theorem dX1_patternFrom_49 : decode cX1_patternFrom 49 = .ok (.getfield 7, 3) := by decide +kernel
theorem dX1_patternFrom_52 : decode cX1_patternFrom 52 = .ok (.iload_n 1, 1) := by decide +kernel
theorem dX1_patternFrom_53 : decode cX1_patternFrom 53 = .ok (.iload_n 3, 1) := by decide +kernel
theorem dX1_patternFrom_54 : decode cX1_patternFrom 54 = .ok (.iadd, 1) := by decide +kernel
theorem dX1_patternFrom_55 : decode cX1_patternFrom 55 = .ok (.iaload, 1) := by decide +kernel
theorem dX1_patternFrom_56 : decode cX1_patternFrom 56 = .ok (.iastore, 1) := by decide +kernel
theorem dX1_patternFrom_57 : decode cX1_patternFrom 57 = .ok (.iinc 3 1, 3) := by decide +kernel
theorem dX1_patternFrom_60 : decode cX1_patternFrom 60 = .ok (.goto (-25), 3) := by decide +kernel
theorem dX1_patternFrom_63 : decode cX1_patternFrom 63 = .ok (.iload_n 2, 1) := by decide +kernel
theorem dX1_patternFrom_64 : decode cX1_patternFrom 64 = .ok (.ireturn, 1) := by decide +kernel
abbrev cX1_clearPattern : ByteArray := prog_3_method_8_code
def yX1_clearPattern : MethodName := ⟨RX1, "clearPattern", "()V"⟩
theorem dX1_clearPattern_0 : decode cX1_clearPattern 0 = .ok (.aload_n 0, 1) := by decide +kernel
theorem dX1_clearPattern_1 : decode cX1_clearPattern 1 = .ok (.iconst 0, 1) := by decide +kernel
theorem dX1_clearPattern_2 : decode cX1_clearPattern 2 = .ok (.putfield 24, 3) := by decide +kernel
theorem dX1_clearPattern_5 : decode cX1_clearPattern 5 = .ok (.return_, 1) := by decide +kernel
abbrev cX1_clearText : ByteArray := prog_3_method_9_code
def yX1_clearText : MethodName := ⟨RX1, "clearText", "()V"⟩
theorem dX1_clearText_0 : decode cX1_clearText 0 = .ok (.aload_n 0, 1) := by decide +kernel
theorem dX1_clearText_1 : decode cX1_clearText 1 = .ok (.iconst 0, 1) := by decide +kernel
theorem dX1_clearText_2 : decode cX1_clearText 2 = .ok (.putfield 17, 3) := by decide +kernel
theorem dX1_clearText_5 : decode cX1_clearText 5 = .ok (.return_, 1) := by decide +kernel
abbrev cX1_matches : ByteArray := prog_3_method_13_code
def yX1_matches : MethodName := ⟨RX1, "matches", "()I"⟩
theorem dX1_matches_0 : decode cX1_matches 0 = .ok (.iconst 0, 1) := by decide +kernel
theorem dX1_matches_1 : decode cX1_matches 1 = .ok (.istore_n 1, 1) := by decide +kernel
theorem dX1_matches_2 : decode cX1_matches 2 = .ok (.iconst 0, 1) := by decide +kernel
theorem dX1_matches_3 : decode cX1_matches 3 = .ok (.istore_n 2, 1) := by decide +kernel
theorem dX1_matches_4 : decode cX1_matches 4 = .ok (.iload_n 2, 1) := by decide +kernel
theorem dX1_matches_5 : decode cX1_matches 5 = .ok (.aload_n 0, 1) := by decide +kernel
theorem dX1_matches_6 : decode cX1_matches 6 = .ok (.getfield 17, 3) := by decide +kernel
theorem dX1_matches_9 : decode cX1_matches 9 = .ok (.if_icmp .ge 20, 3) := by decide +kernel
theorem dX1_matches_12 : decode cX1_matches 12 = .ok (.aload_n 0, 1) := by decide +kernel
theorem dX1_matches_13 : decode cX1_matches 13 = .ok (.iload_n 2, 1) := by decide +kernel
theorem dX1_matches_14 : decode cX1_matches 14 = .ok (.invokevirtual 34, 3) := by decide +kernel
theorem dX1_matches_17 : decode cX1_matches 17 = .ok (.ifCond .eq 6, 3) := by decide +kernel
theorem dX1_matches_20 : decode cX1_matches 20 = .ok (.iinc 1 1, 3) := by decide +kernel
theorem dX1_matches_23 : decode cX1_matches 23 = .ok (.iinc 2 1, 3) := by decide +kernel
theorem dX1_matches_26 : decode cX1_matches 26 = .ok (.goto (-22), 3) := by decide +kernel
theorem dX1_matches_29 : decode cX1_matches 29 = .ok (.iload_n 1, 1) := by decide +kernel
theorem dX1_matches_30 : decode cX1_matches 30 = .ok (.ireturn, 1) := by decide +kernel
abbrev cX1_isMatch : ByteArray := prog_3_method_12_code
def yX1_isMatch : MethodName := ⟨RX1, "isMatch", "(I)Z"⟩
theorem dX1_isMatch_0 : decode cX1_isMatch 0 = .ok (.aload_n 0, 1) := by decide +kernel
theorem dX1_isMatch_1 : decode cX1_isMatch 1 = .ok (.getfield 24, 3) := by decide +kernel
theorem dX1_isMatch_4 : decode cX1_isMatch 4 = .ok (.ifCond .le 38, 3) := by decide +kernel
theorem dX1_isMatch_7 : decode cX1_isMatch 7 = .ok (.iload_n 1, 1) := by decide +kernel
theorem dX1_isMatch_8 : decode cX1_isMatch 8 = .ok (.ifCond .lt 34, 3) := by decide +kernel
theorem dX1_isMatch_11 : decode cX1_isMatch 11 = .ok (.iload_n 1, 1) := by decide +kernel
theorem dX1_isMatch_12 : decode cX1_isMatch 12 = .ok (.aload_n 0, 1) := by decide +kernel
theorem dX1_isMatch_13 : decode cX1_isMatch 13 = .ok (.getfield 24, 3) := by decide +kernel
theorem dX1_isMatch_16 : decode cX1_isMatch 16 = .ok (.iadd, 1) := by decide +kernel
theorem dX1_isMatch_17 : decode cX1_isMatch 17 = .ok (.aload_n 0, 1) := by decide +kernel
theorem dX1_isMatch_18 : decode cX1_isMatch 18 = .ok (.getfield 17, 3) := by decide +kernel
theorem dX1_isMatch_21 : decode cX1_isMatch 21 = .ok (.if_icmp .gt 21, 3) := by decide +kernel
theorem dX1_isMatch_24 : decode cX1_isMatch 24 = .ok (.aload_n 0, 1) := by decide +kernel
theorem dX1_isMatch_25 : decode cX1_isMatch 25 = .ok (.bipush 48, 2) := by decide +kernel
theorem dX1_isMatch_27 : decode cX1_isMatch 27 = .ok (.iload_n 1, 1) := by decide +kernel
theorem dX1_isMatch_28 : decode cX1_isMatch 28 = .ok (.aload_n 0, 1) := by decide +kernel
theorem dX1_isMatch_29 : decode cX1_isMatch 29 = .ok (.getfield 24, 3) := by decide +kernel
theorem dX1_isMatch_32 : decode cX1_isMatch 32 = .ok (.invokevirtual 31, 3) := by decide +kernel
theorem dX1_isMatch_35 : decode cX1_isMatch 35 = .ok (.ifCond .eq 7, 3) := by decide +kernel
theorem dX1_isMatch_38 : decode cX1_isMatch 38 = .ok (.iconst 1, 1) := by decide +kernel
theorem dX1_isMatch_39 : decode cX1_isMatch 39 = .ok (.goto 4, 3) := by decide +kernel
theorem dX1_isMatch_42 : decode cX1_isMatch 42 = .ok (.iconst 0, 1) := by decide +kernel
theorem dX1_isMatch_43 : decode cX1_isMatch 43 = .ok (.ireturn, 1) := by decide +kernel
abbrev cX1_alike : ByteArray := prog_3_method_10_code
def yX1_alike : MethodName := ⟨RX1, "alike", "(III)Z"⟩
theorem dX1_alike_0 : decode cX1_alike 0 = .ok (.iconst 0, 1) := by decide +kernel
theorem dX1_alike_1 : decode cX1_alike 1 = .ok (.istore 4, 2) := by decide +kernel
theorem dX1_alike_3 : decode cX1_alike 3 = .ok (.iload 4, 2) := by decide +kernel
theorem dX1_alike_5 : decode cX1_alike 5 = .ok (.iload_n 3, 1) := by decide +kernel
theorem dX1_alike_6 : decode cX1_alike 6 = .ok (.if_icmp .ge 67, 3) := by decide +kernel
theorem dX1_alike_9 : decode cX1_alike 9 = .ok (.aload_n 0, 1) := by decide +kernel
theorem dX1_alike_10 : decode cX1_alike 10 = .ok (.getfield 7, 3) := by decide +kernel
theorem dX1_alike_13 : decode cX1_alike 13 = .ok (.iload_n 1, 1) := by decide +kernel
theorem dX1_alike_14 : decode cX1_alike 14 = .ok (.iload 4, 2) := by decide +kernel
theorem dX1_alike_16 : decode cX1_alike 16 = .ok (.iadd, 1) := by decide +kernel
theorem dX1_alike_17 : decode cX1_alike 17 = .ok (.iaload, 1) := by decide +kernel
theorem dX1_alike_18 : decode cX1_alike 18 = .ok (.istore 5, 2) := by decide +kernel
theorem dX1_alike_20 : decode cX1_alike 20 = .ok (.aload_n 0, 1) := by decide +kernel
theorem dX1_alike_21 : decode cX1_alike 21 = .ok (.getfield 7, 3) := by decide +kernel
theorem dX1_alike_24 : decode cX1_alike 24 = .ok (.iload_n 2, 1) := by decide +kernel
theorem dX1_alike_25 : decode cX1_alike 25 = .ok (.iload 4, 2) := by decide +kernel
theorem dX1_alike_27 : decode cX1_alike 27 = .ok (.iadd, 1) := by decide +kernel
theorem dX1_alike_28 : decode cX1_alike 28 = .ok (.iaload, 1) := by decide +kernel
theorem dX1_alike_29 : decode cX1_alike 29 = .ok (.istore 6, 2) := by decide +kernel
theorem dX1_alike_31 : decode cX1_alike 31 = .ok (.iload 5, 2) := by decide +kernel
theorem dX1_alike_33 : decode cX1_alike 33 = .ok (.bipush 16, 2) := by decide +kernel
theorem dX1_alike_35 : decode cX1_alike 35 = .ok (.if_icmp .lt 10, 3) := by decide +kernel
theorem dX1_alike_38 : decode cX1_alike 38 = .ok (.iload 6, 2) := by decide +kernel
theorem dX1_alike_40 : decode cX1_alike 40 = .ok (.bipush 16, 2) := by decide +kernel
theorem dX1_alike_42 : decode cX1_alike 42 = .ok (.if_icmp .ge 12, 3) := by decide +kernel
theorem dX1_alike_45 : decode cX1_alike 45 = .ok (.iload 5, 2) := by decide +kernel
theorem dX1_alike_47 : decode cX1_alike 47 = .ok (.iload 6, 2) := by decide +kernel
theorem dX1_alike_49 : decode cX1_alike 49 = .ok (.if_icmp .eq 18, 3) := by decide +kernel
theorem dX1_alike_52 : decode cX1_alike 52 = .ok (.iconst 0, 1) := by decide +kernel
theorem dX1_alike_53 : decode cX1_alike 53 = .ok (.ireturn, 1) := by decide +kernel
theorem dX1_alike_54 : decode cX1_alike 54 = .ok (.aload_n 0, 1) := by decide +kernel
theorem dX1_alike_55 : decode cX1_alike 55 = .ok (.iload_n 1, 1) := by decide +kernel
theorem dX1_alike_56 : decode cX1_alike 56 = .ok (.iload_n 2, 1) := by decide +kernel
theorem dX1_alike_57 : decode cX1_alike 57 = .ok (.iload 4, 2) := by decide +kernel
theorem dX1_alike_59 : decode cX1_alike 59 = .ok (.invokevirtual 27, 3) := by decide +kernel
theorem dX1_alike_62 : decode cX1_alike 62 = .ok (.ifCond .ne 5, 3) := by decide +kernel
theorem dX1_alike_65 : decode cX1_alike 65 = .ok (.iconst 0, 1) := by decide +kernel
theorem dX1_alike_66 : decode cX1_alike 66 = .ok (.ireturn, 1) := by decide +kernel
theorem dX1_alike_67 : decode cX1_alike 67 = .ok (.iinc 4 1, 3) := by decide +kernel
theorem dX1_alike_70 : decode cX1_alike 70 = .ok (.goto (-67), 3) := by decide +kernel
theorem dX1_alike_73 : decode cX1_alike 73 = .ok (.iconst 1, 1) := by decide +kernel
theorem dX1_alike_74 : decode cX1_alike 74 = .ok (.ireturn, 1) := by decide +kernel
abbrev cX1_renames : ByteArray := prog_3_method_11_code
def yX1_renames : MethodName := ⟨RX1, "renames", "(III)Z"⟩
theorem dX1_renames_0 : decode cX1_renames 0 = .ok (.iconst 0, 1) := by decide +kernel
theorem dX1_renames_1 : decode cX1_renames 1 = .ok (.istore 4, 2) := by decide +kernel
theorem dX1_renames_3 : decode cX1_renames 3 = .ok (.iload 4, 2) := by decide +kernel
theorem dX1_renames_5 : decode cX1_renames 5 = .ok (.iload_n 3, 1) := by decide +kernel
theorem dX1_renames_6 : decode cX1_renames 6 = .ok (.if_icmp .ge 64, 3) := by decide +kernel
theorem dX1_renames_9 : decode cX1_renames 9 = .ok (.aload_n 0, 1) := by decide +kernel
theorem dX1_renames_10 : decode cX1_renames 10 = .ok (.getfield 7, 3) := by decide +kernel
theorem dX1_renames_13 : decode cX1_renames 13 = .ok (.iload_n 1, 1) := by decide +kernel
theorem dX1_renames_14 : decode cX1_renames 14 = .ok (.iload 4, 2) := by decide +kernel
theorem dX1_renames_16 : decode cX1_renames 16 = .ok (.iadd, 1) := by decide +kernel
theorem dX1_renames_17 : decode cX1_renames 17 = .ok (.iaload, 1) := by decide +kernel
theorem dX1_renames_18 : decode cX1_renames 18 = .ok (.aload_n 0, 1) := by decide +kernel
theorem dX1_renames_19 : decode cX1_renames 19 = .ok (.getfield 7, 3) := by decide +kernel
theorem dX1_renames_22 : decode cX1_renames 22 = .ok (.iload_n 1, 1) := by decide +kernel
theorem dX1_renames_23 : decode cX1_renames 23 = .ok (.iload_n 3, 1) := by decide +kernel
theorem dX1_renames_24 : decode cX1_renames 24 = .ok (.iadd, 1) := by decide +kernel
theorem dX1_renames_25 : decode cX1_renames 25 = .ok (.iaload, 1) := by decide +kernel
theorem dX1_renames_26 : decode cX1_renames 26 = .ok (.if_icmp .ne 7, 3) := by decide +kernel
theorem dX1_renames_29 : decode cX1_renames 29 = .ok (.iconst 1, 1) := by decide +kernel
theorem dX1_renames_30 : decode cX1_renames 30 = .ok (.goto 4, 3) := by decide +kernel
theorem dX1_renames_33 : decode cX1_renames 33 = .ok (.iconst 0, 1) := by decide +kernel
theorem dX1_renames_34 : decode cX1_renames 34 = .ok (.aload_n 0, 1) := by decide +kernel
theorem dX1_renames_35 : decode cX1_renames 35 = .ok (.getfield 7, 3) := by decide +kernel
theorem dX1_renames_38 : decode cX1_renames 38 = .ok (.iload_n 2, 1) := by decide +kernel
theorem dX1_renames_39 : decode cX1_renames 39 = .ok (.iload 4, 2) := by decide +kernel
theorem dX1_renames_41 : decode cX1_renames 41 = .ok (.iadd, 1) := by decide +kernel
theorem dX1_renames_42 : decode cX1_renames 42 = .ok (.iaload, 1) := by decide +kernel
theorem dX1_renames_43 : decode cX1_renames 43 = .ok (.aload_n 0, 1) := by decide +kernel
theorem dX1_renames_44 : decode cX1_renames 44 = .ok (.getfield 7, 3) := by decide +kernel
theorem dX1_renames_47 : decode cX1_renames 47 = .ok (.iload_n 2, 1) := by decide +kernel
theorem dX1_renames_48 : decode cX1_renames 48 = .ok (.iload_n 3, 1) := by decide +kernel
theorem dX1_renames_49 : decode cX1_renames 49 = .ok (.iadd, 1) := by decide +kernel
theorem dX1_renames_50 : decode cX1_renames 50 = .ok (.iaload, 1) := by decide +kernel
theorem dX1_renames_51 : decode cX1_renames 51 = .ok (.if_icmp .ne 7, 3) := by decide +kernel
theorem dX1_renames_54 : decode cX1_renames 54 = .ok (.iconst 1, 1) := by decide +kernel
theorem dX1_renames_55 : decode cX1_renames 55 = .ok (.goto 4, 3) := by decide +kernel
theorem dX1_renames_58 : decode cX1_renames 58 = .ok (.iconst 0, 1) := by decide +kernel
theorem dX1_renames_59 : decode cX1_renames 59 = .ok (.if_icmp .eq 5, 3) := by decide +kernel
theorem dX1_renames_62 : decode cX1_renames 62 = .ok (.iconst 0, 1) := by decide +kernel
theorem dX1_renames_63 : decode cX1_renames 63 = .ok (.ireturn, 1) := by decide +kernel
theorem dX1_renames_64 : decode cX1_renames 64 = .ok (.iinc 4 1, 3) := by decide +kernel
theorem dX1_renames_67 : decode cX1_renames 67 = .ok (.goto (-64), 3) := by decide +kernel
theorem dX1_renames_70 : decode cX1_renames 70 = .ok (.iconst 1, 1) := by decide +kernel
theorem dX1_renames_71 : decode cX1_renames 71 = .ok (.ireturn, 1) := by decide +kernel
abbrev cX1_matchAt : ByteArray := prog_3_method_14_code
def yX1_matchAt : MethodName := ⟨RX1, "matchAt", "(I)I"⟩
theorem dX1_matchAt_0 : decode cX1_matchAt 0 = .ok (.iconst 0, 1) := by decide +kernel
theorem dX1_matchAt_1 : decode cX1_matchAt 1 = .ok (.istore_n 2, 1) := by decide +kernel
theorem dX1_matchAt_2 : decode cX1_matchAt 2 = .ok (.iconst 0, 1) := by decide +kernel
theorem dX1_matchAt_3 : decode cX1_matchAt 3 = .ok (.istore_n 3, 1) := by decide +kernel
theorem dX1_matchAt_4 : decode cX1_matchAt 4 = .ok (.iload_n 3, 1) := by decide +kernel
theorem dX1_matchAt_5 : decode cX1_matchAt 5 = .ok (.aload_n 0, 1) := by decide +kernel
theorem dX1_matchAt_6 : decode cX1_matchAt 6 = .ok (.getfield 17, 3) := by decide +kernel
theorem dX1_matchAt_9 : decode cX1_matchAt 9 = .ok (.if_icmp .ge 27, 3) := by decide +kernel
theorem dX1_matchAt_12 : decode cX1_matchAt 12 = .ok (.aload_n 0, 1) := by decide +kernel
theorem dX1_matchAt_13 : decode cX1_matchAt 13 = .ok (.iload_n 3, 1) := by decide +kernel
theorem dX1_matchAt_14 : decode cX1_matchAt 14 = .ok (.invokevirtual 34, 3) := by decide +kernel
theorem dX1_matchAt_17 : decode cX1_matchAt 17 = .ok (.ifCond .eq 13, 3) := by decide +kernel
theorem dX1_matchAt_20 : decode cX1_matchAt 20 = .ok (.iload_n 2, 1) := by decide +kernel
theorem dX1_matchAt_21 : decode cX1_matchAt 21 = .ok (.iload_n 1, 1) := by decide +kernel
theorem dX1_matchAt_22 : decode cX1_matchAt 22 = .ok (.if_icmp .ne 5, 3) := by decide +kernel
theorem dX1_matchAt_25 : decode cX1_matchAt 25 = .ok (.iload_n 3, 1) := by decide +kernel
theorem dX1_matchAt_26 : decode cX1_matchAt 26 = .ok (.ireturn, 1) := by decide +kernel
theorem dX1_matchAt_27 : decode cX1_matchAt 27 = .ok (.iinc 2 1, 3) := by decide +kernel
theorem dX1_matchAt_30 : decode cX1_matchAt 30 = .ok (.iinc 3 1, 3) := by decide +kernel
theorem dX1_matchAt_33 : decode cX1_matchAt 33 = .ok (.goto (-29), 3) := by decide +kernel
theorem dX1_matchAt_36 : decode cX1_matchAt 36 = .ok (.bipush (-4), 2) := by decide +kernel
theorem dX1_matchAt_38 : decode cX1_matchAt 38 = .ok (.ireturn, 1) := by decide +kernel
abbrev cX1_renamed : ByteArray := prog_3_method_15_code
def yX1_renamed : MethodName := ⟨RX1, "renamed", "(II)I"⟩
theorem dX1_renamed_0 : decode cX1_renamed 0 = .ok (.aload_n 0, 1) := by decide +kernel
theorem dX1_renamed_1 : decode cX1_renamed 1 = .ok (.iload_n 1, 1) := by decide +kernel
theorem dX1_renamed_2 : decode cX1_renamed 2 = .ok (.invokevirtual 37, 3) := by decide +kernel
theorem dX1_renamed_5 : decode cX1_renamed 5 = .ok (.istore_n 3, 1) := by decide +kernel
theorem dX1_renamed_6 : decode cX1_renamed 6 = .ok (.iload_n 3, 1) := by decide +kernel
theorem dX1_renamed_7 : decode cX1_renamed 7 = .ok (.ifCond .lt 15, 3) := by decide +kernel
theorem dX1_renamed_10 : decode cX1_renamed 10 = .ok (.iload_n 2, 1) := by decide +kernel
theorem dX1_renamed_11 : decode cX1_renamed 11 = .ok (.bipush 16, 2) := by decide +kernel
theorem dX1_renamed_13 : decode cX1_renamed 13 = .ok (.if_icmp .lt 9, 3) := by decide +kernel
theorem dX1_renamed_16 : decode cX1_renamed 16 = .ok (.iload_n 2, 1) := by decide +kernel
theorem dX1_renamed_17 : decode cX1_renamed 17 = .ok (.bipush 31, 2) := by decide +kernel
theorem dX1_renamed_19 : decode cX1_renamed 19 = .ok (.if_icmp .le 6, 3) := by decide +kernel
theorem dX1_renamed_22 : decode cX1_renamed 22 = .ok (.bipush (-4), 2) := by decide +kernel
theorem dX1_renamed_24 : decode cX1_renamed 24 = .ok (.ireturn, 1) := by decide +kernel
theorem dX1_renamed_25 : decode cX1_renamed 25 = .ok (.iconst 0, 1) := by decide +kernel
theorem dX1_renamed_26 : decode cX1_renamed 26 = .ok (.istore 4, 2) := by decide +kernel
theorem dX1_renamed_28 : decode cX1_renamed 28 = .ok (.iload 4, 2) := by decide +kernel
theorem dX1_renamed_30 : decode cX1_renamed 30 = .ok (.aload_n 0, 1) := by decide +kernel
theorem dX1_renamed_31 : decode cX1_renamed 31 = .ok (.getfield 24, 3) := by decide +kernel
theorem dX1_renamed_34 : decode cX1_renamed 34 = .ok (.if_icmp .ge 33, 3) := by decide +kernel
theorem dX1_renamed_37 : decode cX1_renamed 37 = .ok (.aload_n 0, 1) := by decide +kernel
theorem dX1_renamed_38 : decode cX1_renamed 38 = .ok (.getfield 7, 3) := by decide +kernel
theorem dX1_renamed_41 : decode cX1_renamed 41 = .ok (.bipush 48, 2) := by decide +kernel
theorem dX1_renamed_43 : decode cX1_renamed 43 = .ok (.iload 4, 2) := by decide +kernel
theorem dX1_renamed_45 : decode cX1_renamed 45 = .ok (.iadd, 1) := by decide +kernel
theorem dX1_renamed_46 : decode cX1_renamed 46 = .ok (.iaload, 1) := by decide +kernel
theorem dX1_renamed_47 : decode cX1_renamed 47 = .ok (.iload_n 2, 1) := by decide +kernel
theorem dX1_renamed_48 : decode cX1_renamed 48 = .ok (.if_icmp .ne 13, 3) := by decide +kernel
theorem dX1_renamed_51 : decode cX1_renamed 51 = .ok (.aload_n 0, 1) := by decide +kernel
theorem dX1_renamed_52 : decode cX1_renamed 52 = .ok (.getfield 7, 3) := by decide +kernel
theorem dX1_renamed_55 : decode cX1_renamed 55 = .ok (.iload_n 3, 1) := by decide +kernel
theorem dX1_renamed_56 : decode cX1_renamed 56 = .ok (.iload 4, 2) := by decide +kernel
theorem dX1_renamed_58 : decode cX1_renamed 58 = .ok (.iadd, 1) := by decide +kernel
theorem dX1_renamed_59 : decode cX1_renamed 59 = .ok (.iaload, 1) := by decide +kernel
theorem dX1_renamed_60 : decode cX1_renamed 60 = .ok (.ireturn, 1) := by decide +kernel
theorem dX1_renamed_61 : decode cX1_renamed 61 = .ok (.iinc 4 1, 3) := by decide +kernel
theorem dX1_renamed_64 : decode cX1_renamed 64 = .ok (.goto (-36), 3) := by decide +kernel
theorem dX1_renamed_67 : decode cX1_renamed 67 = .ok (.bipush (-4), 2) := by decide +kernel
theorem dX1_renamed_69 : decode cX1_renamed 69 = .ok (.ireturn, 1) := by decide +kernel
abbrev cX1_longestClone : ByteArray := prog_3_method_18_code
def yX1_longestClone : MethodName := ⟨RX1, "longestClone", "()I"⟩
theorem dX1_longestClone_0 : decode cX1_longestClone 0 = .ok (.aload_n 0, 1) := by decide +kernel
theorem dX1_longestClone_1 : decode cX1_longestClone 1 = .ok (.getfield 17, 3) := by decide +kernel
theorem dX1_longestClone_4 : decode cX1_longestClone 4 = .ok (.iconst 1, 1) := by decide +kernel
theorem dX1_longestClone_5 : decode cX1_longestClone 5 = .ok (.isub, 1) := by decide +kernel
theorem dX1_longestClone_6 : decode cX1_longestClone 6 = .ok (.istore_n 1, 1) := by decide +kernel
theorem dX1_longestClone_7 : decode cX1_longestClone 7 = .ok (.iload_n 1, 1) := by decide +kernel
theorem dX1_longestClone_8 : decode cX1_longestClone 8 = .ok (.iconst 1, 1) := by decide +kernel
theorem dX1_longestClone_9 : decode cX1_longestClone 9 = .ok (.if_icmp .lt 19, 3) := by decide +kernel
theorem dX1_longestClone_12 : decode cX1_longestClone 12 = .ok (.aload_n 0, 1) := by decide +kernel
theorem dX1_longestClone_13 : decode cX1_longestClone 13 = .ok (.iload_n 1, 1) := by decide +kernel
theorem dX1_longestClone_14 : decode cX1_longestClone 14 = .ok (.invokevirtual 45, 3) := by decide +kernel
theorem dX1_longestClone_17 : decode cX1_longestClone 17 = .ok (.ifCond .lt 5, 3) := by decide +kernel
theorem dX1_longestClone_20 : decode cX1_longestClone 20 = .ok (.iload_n 1, 1) := by decide +kernel
theorem dX1_longestClone_21 : decode cX1_longestClone 21 = .ok (.ireturn, 1) := by decide +kernel
theorem dX1_longestClone_22 : decode cX1_longestClone 22 = .ok (.iinc 1 (-1), 3) := by decide +kernel
theorem dX1_longestClone_25 : decode cX1_longestClone 25 = .ok (.goto (-18), 3) := by decide +kernel
theorem dX1_longestClone_28 : decode cX1_longestClone 28 = .ok (.iconst 0, 1) := by decide +kernel
theorem dX1_longestClone_29 : decode cX1_longestClone 29 = .ok (.ireturn, 1) := by decide +kernel
abbrev cX1_firstWithTwin : ByteArray := prog_3_method_17_code
def yX1_firstWithTwin : MethodName := ⟨RX1, "firstWithTwin", "(I)I"⟩
theorem dX1_firstWithTwin_0 : decode cX1_firstWithTwin 0 = .ok (.iconst 0, 1) := by decide +kernel
theorem dX1_firstWithTwin_1 : decode cX1_firstWithTwin 1 = .ok (.istore_n 2, 1) := by decide +kernel
theorem dX1_firstWithTwin_2 : decode cX1_firstWithTwin 2 = .ok (.iload_n 2, 1) := by decide +kernel
theorem dX1_firstWithTwin_3 : decode cX1_firstWithTwin 3 = .ok (.iload_n 1, 1) := by decide +kernel
theorem dX1_firstWithTwin_4 : decode cX1_firstWithTwin 4 = .ok (.iadd, 1) := by decide +kernel
theorem dX1_firstWithTwin_5 : decode cX1_firstWithTwin 5 = .ok (.aload_n 0, 1) := by decide +kernel
theorem dX1_firstWithTwin_6 : decode cX1_firstWithTwin 6 = .ok (.getfield 17, 3) := by decide +kernel
theorem dX1_firstWithTwin_9 : decode cX1_firstWithTwin 9 = .ok (.if_icmp .gt 20, 3) := by decide +kernel
theorem dX1_firstWithTwin_12 : decode cX1_firstWithTwin 12 = .ok (.aload_n 0, 1) := by decide +kernel
theorem dX1_firstWithTwin_13 : decode cX1_firstWithTwin 13 = .ok (.iload_n 2, 1) := by decide +kernel
theorem dX1_firstWithTwin_14 : decode cX1_firstWithTwin 14 = .ok (.iload_n 1, 1) := by decide +kernel
theorem dX1_firstWithTwin_15 : decode cX1_firstWithTwin 15 = .ok (.invokevirtual 41, 3) := by decide +kernel
theorem dX1_firstWithTwin_18 : decode cX1_firstWithTwin 18 = .ok (.ifCond .lt 5, 3) := by decide +kernel
theorem dX1_firstWithTwin_21 : decode cX1_firstWithTwin 21 = .ok (.iload_n 2, 1) := by decide +kernel
theorem dX1_firstWithTwin_22 : decode cX1_firstWithTwin 22 = .ok (.ireturn, 1) := by decide +kernel
theorem dX1_firstWithTwin_23 : decode cX1_firstWithTwin 23 = .ok (.iinc 2 1, 3) := by decide +kernel
theorem dX1_firstWithTwin_26 : decode cX1_firstWithTwin 26 = .ok (.goto (-24), 3) := by decide +kernel
theorem dX1_firstWithTwin_29 : decode cX1_firstWithTwin 29 = .ok (.bipush (-4), 2) := by decide +kernel
theorem dX1_firstWithTwin_31 : decode cX1_firstWithTwin 31 = .ok (.ireturn, 1) := by decide +kernel
abbrev cX1_twin : ByteArray := prog_3_method_16_code
def yX1_twin : MethodName := ⟨RX1, "twin", "(II)I"⟩
theorem dX1_twin_0 : decode cX1_twin 0 = .ok (.iload_n 1, 1) := by decide +kernel
theorem dX1_twin_1 : decode cX1_twin 1 = .ok (.iconst 1, 1) := by decide +kernel
theorem dX1_twin_2 : decode cX1_twin 2 = .ok (.iadd, 1) := by decide +kernel
theorem dX1_twin_3 : decode cX1_twin 3 = .ok (.istore_n 3, 1) := by decide +kernel
theorem dX1_twin_4 : decode cX1_twin 4 = .ok (.iload_n 3, 1) := by decide +kernel
theorem dX1_twin_5 : decode cX1_twin 5 = .ok (.iload_n 2, 1) := by decide +kernel
theorem dX1_twin_6 : decode cX1_twin 6 = .ok (.iadd, 1) := by decide +kernel
theorem dX1_twin_7 : decode cX1_twin 7 = .ok (.aload_n 0, 1) := by decide +kernel
theorem dX1_twin_8 : decode cX1_twin 8 = .ok (.getfield 17, 3) := by decide +kernel
theorem dX1_twin_11 : decode cX1_twin 11 = .ok (.if_icmp .gt 21, 3) := by decide +kernel
theorem dX1_twin_14 : decode cX1_twin 14 = .ok (.aload_n 0, 1) := by decide +kernel
theorem dX1_twin_15 : decode cX1_twin 15 = .ok (.iload_n 1, 1) := by decide +kernel
theorem dX1_twin_16 : decode cX1_twin 16 = .ok (.iload_n 3, 1) := by decide +kernel
theorem dX1_twin_17 : decode cX1_twin 17 = .ok (.iload_n 2, 1) := by decide +kernel
theorem dX1_twin_18 : decode cX1_twin 18 = .ok (.invokevirtual 31, 3) := by decide +kernel
theorem dX1_twin_21 : decode cX1_twin 21 = .ok (.ifCond .eq 5, 3) := by decide +kernel
theorem dX1_twin_24 : decode cX1_twin 24 = .ok (.iload_n 3, 1) := by decide +kernel
theorem dX1_twin_25 : decode cX1_twin 25 = .ok (.ireturn, 1) := by decide +kernel
theorem dX1_twin_26 : decode cX1_twin 26 = .ok (.iinc 3 1, 3) := by decide +kernel
theorem dX1_twin_29 : decode cX1_twin 29 = .ok (.goto (-25), 3) := by decide +kernel
theorem dX1_twin_32 : decode cX1_twin 32 = .ok (.bipush (-4), 2) := by decide +kernel
theorem dX1_twin_34 : decode cX1_twin 34 = .ok (.ireturn, 1) := by decide +kernel
abbrev cX1_cloneFirst : ByteArray := prog_3_method_19_code
def yX1_cloneFirst : MethodName := ⟨RX1, "cloneFirst", "()I"⟩
theorem dX1_cloneFirst_0 : decode cX1_cloneFirst 0 = .ok (.aload_n 0, 1) := by decide +kernel
theorem dX1_cloneFirst_1 : decode cX1_cloneFirst 1 = .ok (.invokevirtual 48, 3) := by decide +kernel
theorem dX1_cloneFirst_4 : decode cX1_cloneFirst 4 = .ok (.istore_n 1, 1) := by decide +kernel
theorem dX1_cloneFirst_5 : decode cX1_cloneFirst 5 = .ok (.iload_n 1, 1) := by decide +kernel
theorem dX1_cloneFirst_6 : decode cX1_cloneFirst 6 = .ok (.ifCond .ne 8, 3) := by decide +kernel
theorem dX1_cloneFirst_9 : decode cX1_cloneFirst 9 = .ok (.bipush (-4), 2) := by decide +kernel
theorem dX1_cloneFirst_11 : decode cX1_cloneFirst 11 = .ok (.goto 8, 3) := by decide +kernel
theorem dX1_cloneFirst_14 : decode cX1_cloneFirst 14 = .ok (.aload_n 0, 1) := by decide +kernel
theorem dX1_cloneFirst_15 : decode cX1_cloneFirst 15 = .ok (.iload_n 1, 1) := by decide +kernel
theorem dX1_cloneFirst_16 : decode cX1_cloneFirst 16 = .ok (.invokevirtual 45, 3) := by decide +kernel
theorem dX1_cloneFirst_19 : decode cX1_cloneFirst 19 = .ok (.ireturn, 1) := by decide +kernel
abbrev cX1_cloneSecond : ByteArray := prog_3_method_20_code
def yX1_cloneSecond : MethodName := ⟨RX1, "cloneSecond", "()I"⟩
theorem dX1_cloneSecond_0 : decode cX1_cloneSecond 0 = .ok (.aload_n 0, 1) := by decide +kernel
theorem dX1_cloneSecond_1 : decode cX1_cloneSecond 1 = .ok (.invokevirtual 48, 3) := by decide +kernel
theorem dX1_cloneSecond_4 : decode cX1_cloneSecond 4 = .ok (.istore_n 1, 1) := by decide +kernel
theorem dX1_cloneSecond_5 : decode cX1_cloneSecond 5 = .ok (.iload_n 1, 1) := by decide +kernel
theorem dX1_cloneSecond_6 : decode cX1_cloneSecond 6 = .ok (.ifCond .ne 6, 3) := by decide +kernel
theorem dX1_cloneSecond_9 : decode cX1_cloneSecond 9 = .ok (.bipush (-4), 2) := by decide +kernel
theorem dX1_cloneSecond_11 : decode cX1_cloneSecond 11 = .ok (.ireturn, 1) := by decide +kernel
theorem dX1_cloneSecond_12 : decode cX1_cloneSecond 12 = .ok (.aload_n 0, 1) := by decide +kernel
theorem dX1_cloneSecond_13 : decode cX1_cloneSecond 13 = .ok (.iload_n 1, 1) := by decide +kernel
theorem dX1_cloneSecond_14 : decode cX1_cloneSecond 14 = .ok (.invokevirtual 45, 3) := by decide +kernel
theorem dX1_cloneSecond_17 : decode cX1_cloneSecond 17 = .ok (.istore_n 2, 1) := by decide +kernel
theorem dX1_cloneSecond_18 : decode cX1_cloneSecond 18 = .ok (.aload_n 0, 1) := by decide +kernel
theorem dX1_cloneSecond_19 : decode cX1_cloneSecond 19 = .ok (.iload_n 2, 1) := by decide +kernel
theorem dX1_cloneSecond_20 : decode cX1_cloneSecond 20 = .ok (.iload_n 1, 1) := by decide +kernel
theorem dX1_cloneSecond_21 : decode cX1_cloneSecond 21 = .ok (.invokevirtual 41, 3) := by decide +kernel
theorem dX1_cloneSecond_24 : decode cX1_cloneSecond 24 = .ok (.ireturn, 1) := by decide +kernel
abbrev cX1_kinds : ByteArray := prog_3_method_21_code
def yX1_kinds : MethodName := ⟨RX1, "kinds", "(I)I"⟩
theorem dX1_kinds_0 : decode cX1_kinds 0 = .ok (.iload_n 1, 1) := by decide +kernel
theorem dX1_kinds_1 : decode cX1_kinds 1 = .ok (.iconst 1, 1) := by decide +kernel
theorem dX1_kinds_2 : decode cX1_kinds 2 = .ok (.if_icmp .lt 11, 3) := by decide +kernel
theorem dX1_kinds_5 : decode cX1_kinds 5 = .ok (.iload_n 1, 1) := by decide +kernel
theorem dX1_kinds_6 : decode cX1_kinds 6 = .ok (.aload_n 0, 1) := by decide +kernel
theorem dX1_kinds_7 : decode cX1_kinds 7 = .ok (.getfield 17, 3) := by decide +kernel
theorem dX1_kinds_10 : decode cX1_kinds 10 = .ok (.if_icmp .le 5, 3) := by decide +kernel
theorem dX1_kinds_13 : decode cX1_kinds 13 = .ok (.iconst 0, 1) := by decide +kernel
theorem dX1_kinds_14 : decode cX1_kinds 14 = .ok (.ireturn, 1) := by decide +kernel
theorem dX1_kinds_15 : decode cX1_kinds 15 = .ok (.iconst 0, 1) := by decide +kernel
theorem dX1_kinds_16 : decode cX1_kinds 16 = .ok (.istore_n 2, 1) := by decide +kernel
theorem dX1_kinds_17 : decode cX1_kinds 17 = .ok (.iconst 0, 1) := by decide +kernel
theorem dX1_kinds_18 : decode cX1_kinds 18 = .ok (.istore_n 3, 1) := by decide +kernel
theorem dX1_kinds_19 : decode cX1_kinds 19 = .ok (.iload_n 3, 1) := by decide +kernel
theorem dX1_kinds_20 : decode cX1_kinds 20 = .ok (.iload_n 1, 1) := by decide +kernel
theorem dX1_kinds_21 : decode cX1_kinds 21 = .ok (.iadd, 1) := by decide +kernel
theorem dX1_kinds_22 : decode cX1_kinds 22 = .ok (.aload_n 0, 1) := by decide +kernel
theorem dX1_kinds_23 : decode cX1_kinds 23 = .ok (.getfield 17, 3) := by decide +kernel
theorem dX1_kinds_26 : decode cX1_kinds 26 = .ok (.if_icmp .gt 58, 3) := by decide +kernel
theorem dX1_kinds_29 : decode cX1_kinds 29 = .ok (.iconst 0, 1) := by decide +kernel
theorem dX1_kinds_30 : decode cX1_kinds 30 = .ok (.istore 4, 2) := by decide +kernel
theorem dX1_kinds_32 : decode cX1_kinds 32 = .ok (.iconst 0, 1) := by decide +kernel
theorem dX1_kinds_33 : decode cX1_kinds 33 = .ok (.istore 5, 2) := by decide +kernel
theorem dX1_kinds_35 : decode cX1_kinds 35 = .ok (.iload 5, 2) := by decide +kernel
theorem dX1_kinds_37 : decode cX1_kinds 37 = .ok (.iload_n 3, 1) := by decide +kernel
theorem dX1_kinds_38 : decode cX1_kinds 38 = .ok (.if_icmp .ge 32, 3) := by decide +kernel
theorem dX1_kinds_41 : decode cX1_kinds 41 = .ok (.iload 4, 2) := by decide +kernel
theorem dX1_kinds_43 : decode cX1_kinds 43 = .ok (.ifCond .ne 14, 3) := by decide +kernel
theorem dX1_kinds_46 : decode cX1_kinds 46 = .ok (.aload_n 0, 1) := by decide +kernel
theorem dX1_kinds_47 : decode cX1_kinds 47 = .ok (.iload_n 3, 1) := by decide +kernel
theorem dX1_kinds_48 : decode cX1_kinds 48 = .ok (.iload 5, 2) := by decide +kernel
theorem dX1_kinds_50 : decode cX1_kinds 50 = .ok (.iload_n 1, 1) := by decide +kernel
theorem dX1_kinds_51 : decode cX1_kinds 51 = .ok (.invokevirtual 31, 3) := by decide +kernel
theorem dX1_kinds_54 : decode cX1_kinds 54 = .ok (.ifCond .eq 7, 3) := by decide +kernel
theorem dX1_kinds_57 : decode cX1_kinds 57 = .ok (.iconst 1, 1) := by decide +kernel
theorem dX1_kinds_58 : decode cX1_kinds 58 = .ok (.goto 4, 3) := by decide +kernel
theorem dX1_kinds_61 : decode cX1_kinds 61 = .ok (.iconst 0, 1) := by decide +kernel
theorem dX1_kinds_62 : decode cX1_kinds 62 = .ok (.istore 4, 2) := by decide +kernel
theorem dX1_kinds_64 : decode cX1_kinds 64 = .ok (.iinc 5 1, 3) := by decide +kernel
theorem dX1_kinds_67 : decode cX1_kinds 67 = .ok (.goto (-32), 3) := by decide +kernel
theorem dX1_kinds_70 : decode cX1_kinds 70 = .ok (.iload 4, 2) := by decide +kernel
theorem dX1_kinds_72 : decode cX1_kinds 72 = .ok (.ifCond .ne 6, 3) := by decide +kernel
theorem dX1_kinds_75 : decode cX1_kinds 75 = .ok (.iinc 2 1, 3) := by decide +kernel
theorem dX1_kinds_78 : decode cX1_kinds 78 = .ok (.iinc 3 1, 3) := by decide +kernel
theorem dX1_kinds_81 : decode cX1_kinds 81 = .ok (.goto (-62), 3) := by decide +kernel
theorem dX1_kinds_84 : decode cX1_kinds 84 = .ok (.iload_n 2, 1) := by decide +kernel
theorem dX1_kinds_85 : decode cX1_kinds 85 = .ok (.ireturn, 1) := by decide +kernel
abbrev cX1_reach : ByteArray := prog_3_method_22_code
def yX1_reach : MethodName := ⟨RX1, "reach", "(II)I"⟩
theorem dX1_reach_0 : decode cX1_reach 0 = .ok (.aload_n 0, 1) := by decide +kernel
theorem dX1_reach_1 : decode cX1_reach 1 = .ok (.iload_n 1, 1) := by decide +kernel
theorem dX1_reach_2 : decode cX1_reach 2 = .ok (.invokevirtual 21, 3) := by decide +kernel
theorem dX1_reach_5 : decode cX1_reach 5 = .ok (.ifCond .eq 11, 3) := by decide +kernel
theorem dX1_reach_8 : decode cX1_reach 8 = .ok (.aload_n 0, 1) := by decide +kernel
theorem dX1_reach_9 : decode cX1_reach 9 = .ok (.iload_n 2, 1) := by decide +kernel
theorem dX1_reach_10 : decode cX1_reach 10 = .ok (.invokevirtual 21, 3) := by decide +kernel
theorem dX1_reach_13 : decode cX1_reach 13 = .ok (.ifCond .ne 6, 3) := by decide +kernel
theorem dX1_reach_16 : decode cX1_reach 16 = .ok (.bipush (-3), 2) := by decide +kernel
theorem dX1_reach_18 : decode cX1_reach 18 = .ok (.ireturn, 1) := by decide +kernel
theorem dX1_reach_19 : decode cX1_reach 19 = .ok (.iload_n 1, 1) := by decide +kernel
theorem dX1_reach_20 : decode cX1_reach 20 = .ok (.iload_n 2, 1) := by decide +kernel
theorem dX1_reach_21 : decode cX1_reach 21 = .ok (.if_icmp .le 7, 3) := by decide +kernel
theorem dX1_reach_24 : decode cX1_reach 24 = .ok (.iload_n 1, 1) := by decide +kernel
theorem dX1_reach_25 : decode cX1_reach 25 = .ok (.goto 4, 3) := by decide +kernel
theorem dX1_reach_28 : decode cX1_reach 28 = .ok (.iload_n 2, 1) := by decide +kernel
theorem dX1_reach_29 : decode cX1_reach 29 = .ok (.istore_n 3, 1) := by decide +kernel
theorem dX1_reach_30 : decode cX1_reach 30 = .ok (.aload_n 0, 1) := by decide +kernel
theorem dX1_reach_31 : decode cX1_reach 31 = .ok (.getfield 17, 3) := by decide +kernel
theorem dX1_reach_34 : decode cX1_reach 34 = .ok (.iload_n 3, 1) := by decide +kernel
theorem dX1_reach_35 : decode cX1_reach 35 = .ok (.isub, 1) := by decide +kernel
theorem dX1_reach_36 : decode cX1_reach 36 = .ok (.istore 4, 2) := by decide +kernel
theorem dX1_reach_38 : decode cX1_reach 38 = .ok (.iload 4, 2) := by decide +kernel
theorem dX1_reach_40 : decode cX1_reach 40 = .ok (.iconst 1, 1) := by decide +kernel
theorem dX1_reach_41 : decode cX1_reach 41 = .ok (.if_icmp .lt 23, 3) := by decide +kernel
theorem dX1_reach_44 : decode cX1_reach 44 = .ok (.aload_n 0, 1) := by decide +kernel
theorem dX1_reach_45 : decode cX1_reach 45 = .ok (.iload_n 1, 1) := by decide +kernel
theorem dX1_reach_46 : decode cX1_reach 46 = .ok (.iload_n 2, 1) := by decide +kernel
theorem dX1_reach_47 : decode cX1_reach 47 = .ok (.iload 4, 2) := by decide +kernel
theorem dX1_reach_49 : decode cX1_reach 49 = .ok (.invokevirtual 31, 3) := by decide +kernel
theorem dX1_reach_52 : decode cX1_reach 52 = .ok (.ifCond .eq 6, 3) := by decide +kernel
theorem dX1_reach_55 : decode cX1_reach 55 = .ok (.iload 4, 2) := by decide +kernel
theorem dX1_reach_57 : decode cX1_reach 57 = .ok (.ireturn, 1) := by decide +kernel
theorem dX1_reach_58 : decode cX1_reach 58 = .ok (.iinc 4 (-1), 3) := by decide +kernel
theorem dX1_reach_61 : decode cX1_reach 61 = .ok (.goto (-23), 3) := by decide +kernel
theorem dX1_reach_64 : decode cX1_reach 64 = .ok (.iconst 0, 1) := by decide +kernel
theorem dX1_reach_65 : decode cX1_reach 65 = .ok (.ireturn, 1) := by decide +kernel
end
section
set_option maxRecDepth 100000
theorem q15 : (Jvm.Cond.initialized "ParamCloneFinder") ∈ lw_all := lw_g (lw_at lw_m1 1 rfl) rfl
theorem q18 : (Jvm.Cond.instantiable "ParamCloneFinder" (13 : Nat)) ∈ lw_all := lw_g (lw_at lw_m1 4 rfl) rfl
theorem q20 : (Jvm.Cond.instanceMethod ({ cls := "ParamCloneFinder", name := "<init>", desc := "()V" } : Jvm.MethodName)) ∈ lw_all := lw_g (lw_at lw_m1 6 rfl) rfl
theorem q21 : (Jvm.Cond.code ({ cls := "ParamCloneFinder", name := "<init>", desc := "()V" } : Jvm.MethodName) prog_1_method_1_code (1 : Nat) (Option.none : Option Jvm.ClassFile.FieldType)) ∈ lw_all := lw_g (lw_at lw_m1 7 rfl) rfl
theorem q22 : (Jvm.Cond.methodLink "ParamCloneFinder" (1 : Nat) ({ cls := "java/lang/Object", name := "<init>", desc := "()V" } : Jvm.MethodName)) ∈ lw_all := lw_g (lw_at lw_m1 8 rfl) rfl
theorem q25 : (Jvm.Cond.fieldLink "ParamCloneFinder" (32 : Nat) "ParamCloneFinder" "textLen" "I") ∈ lw_all := lw_g (lw_at lw_m1 11 rfl) rfl
theorem q26 : (Jvm.Cond.fieldLink "ParamCloneFinder" (7 : Nat) "ParamCloneFinder" "token" "[I") ∈ lw_all := lw_g (lw_at lw_m1 12 rfl) rfl
theorem q27 : (Jvm.Cond.fieldLink "ParamCloneFinder" (13 : Nat) "ParamCloneFinder" "back" "[I") ∈ lw_all := lw_g (lw_at lw_m1 13 rfl) rfl
theorem q28 : (Jvm.Cond.fieldLink "ParamCloneFinder" (44 : Nat) "ParamCloneFinder" "patternLen" "I") ∈ lw_all := lw_g (lw_at lw_m1 14 rfl) rfl
theorem q29 : (Jvm.Cond.fieldLink "ParamCloneFinder" (16 : Nat) "ParamCloneFinder" "wanted" "[I") ∈ lw_all := lw_g (lw_at lw_m1 15 rfl) rfl
theorem q30 : (Jvm.Cond.fieldLink "ParamCloneFinder" (19 : Nat) "ParamCloneFinder" "wantedBack" "[I") ∈ lw_all := lw_g (lw_at lw_m1 16 rfl) rfl
theorem q31 : (Jvm.Cond.fieldLink "ParamCloneFinder" (22 : Nat) "ParamCloneFinder" "fail" "[I") ∈ lw_all := lw_g (lw_at lw_m1 17 rfl) rfl
theorem q32 : (Jvm.Cond.fieldLink "ParamCloneFinder" (61 : Nat) "ParamCloneFinder" "found" "I") ∈ lw_all := lw_g (lw_at lw_m1 18 rfl) rfl
theorem q33 : (Jvm.Cond.fieldLink "ParamCloneFinder" (25 : Nat) "ParamCloneFinder" "foundAt" "[I") ∈ lw_all := lw_g (lw_at lw_m1 19 rfl) rfl
theorem q34 : (Jvm.Cond.fieldLink "ParamCloneFinder" (67 : Nat) "ParamCloneFinder" "longest" "I") ∈ lw_all := lw_g (lw_at lw_m1 20 rfl) rfl
theorem q35 : (Jvm.Cond.fieldLink "ParamCloneFinder" (70 : Nat) "ParamCloneFinder" "firstAt" "I") ∈ lw_all := lw_g (lw_at lw_m1 21 rfl) rfl
theorem q36 : (Jvm.Cond.fieldLink "ParamCloneFinder" (73 : Nat) "ParamCloneFinder" "secondAt" "I") ∈ lw_all := lw_g (lw_at lw_m1 22 rfl) rfl
theorem q37 : (Jvm.Cond.fieldLink "ParamCloneFinder" (28 : Nat) "ParamCloneFinder" "repeated" "[Z") ∈ lw_all := lw_g (lw_at lw_m1 23 rfl) rfl
theorem q38 : (Jvm.Cond.lays "ParamCloneFinder" "ParamCloneFinder" "textLen" "I") ∈ lw_all := lw_g (lw_at lw_m1 24 rfl) rfl
theorem q39 : (Jvm.Cond.soleField "ParamCloneFinder" "textLen") ∈ lw_all := lw_g (lw_at lw_m1 25 rfl) rfl
theorem q40 : (Jvm.Cond.laysFinal "ParamCloneFinder" "ParamCloneFinder" "token" "[I") ∈ lw_all := lw_g (lw_at lw_m1 26 rfl) rfl
theorem q41 : (Jvm.Cond.soleField "ParamCloneFinder" "token") ∈ lw_all := lw_g (lw_at lw_m1 27 rfl) rfl
theorem q42 : (Jvm.Cond.laysFinal "ParamCloneFinder" "ParamCloneFinder" "back" "[I") ∈ lw_all := lw_g (lw_at lw_m1 28 rfl) rfl
theorem q43 : (Jvm.Cond.soleField "ParamCloneFinder" "back") ∈ lw_all := lw_g (lw_at lw_m1 29 rfl) rfl
theorem q44 : (Jvm.Cond.lays "ParamCloneFinder" "ParamCloneFinder" "patternLen" "I") ∈ lw_all := lw_g (lw_at lw_m1 30 rfl) rfl
theorem q45 : (Jvm.Cond.soleField "ParamCloneFinder" "patternLen") ∈ lw_all := lw_g (lw_at lw_m1 31 rfl) rfl
theorem q46 : (Jvm.Cond.laysFinal "ParamCloneFinder" "ParamCloneFinder" "wanted" "[I") ∈ lw_all := lw_g (lw_at lw_m1 32 rfl) rfl
theorem q47 : (Jvm.Cond.soleField "ParamCloneFinder" "wanted") ∈ lw_all := lw_g (lw_at lw_m1 33 rfl) rfl
theorem q48 : (Jvm.Cond.laysFinal "ParamCloneFinder" "ParamCloneFinder" "wantedBack" "[I") ∈ lw_all := lw_g (lw_at lw_m1 34 rfl) rfl
theorem q49 : (Jvm.Cond.soleField "ParamCloneFinder" "wantedBack") ∈ lw_all := lw_g (lw_at lw_m1 35 rfl) rfl
theorem q50 : (Jvm.Cond.laysFinal "ParamCloneFinder" "ParamCloneFinder" "fail" "[I") ∈ lw_all := lw_g (lw_at lw_m1 36 rfl) rfl
theorem q51 : (Jvm.Cond.soleField "ParamCloneFinder" "fail") ∈ lw_all := lw_g (lw_at lw_m1 37 rfl) rfl
theorem q52 : (Jvm.Cond.lays "ParamCloneFinder" "ParamCloneFinder" "found" "I") ∈ lw_all := lw_g (lw_at lw_m1 38 rfl) rfl
theorem q53 : (Jvm.Cond.soleField "ParamCloneFinder" "found") ∈ lw_all := lw_g (lw_at lw_m1 39 rfl) rfl
theorem q54 : (Jvm.Cond.laysFinal "ParamCloneFinder" "ParamCloneFinder" "foundAt" "[I") ∈ lw_all := lw_g (lw_at lw_m1 40 rfl) rfl
theorem q55 : (Jvm.Cond.soleField "ParamCloneFinder" "foundAt") ∈ lw_all := lw_g (lw_at lw_m1 41 rfl) rfl
theorem q56 : (Jvm.Cond.lays "ParamCloneFinder" "ParamCloneFinder" "longest" "I") ∈ lw_all := lw_g (lw_at lw_m1 42 rfl) rfl
theorem q57 : (Jvm.Cond.soleField "ParamCloneFinder" "longest") ∈ lw_all := lw_g (lw_at lw_m1 43 rfl) rfl
theorem q58 : (Jvm.Cond.lays "ParamCloneFinder" "ParamCloneFinder" "firstAt" "I") ∈ lw_all := lw_g (lw_at lw_m1 44 rfl) rfl
theorem q59 : (Jvm.Cond.soleField "ParamCloneFinder" "firstAt") ∈ lw_all := lw_g (lw_at lw_m1 45 rfl) rfl
theorem q60 : (Jvm.Cond.lays "ParamCloneFinder" "ParamCloneFinder" "secondAt" "I") ∈ lw_all := lw_g (lw_at lw_m1 46 rfl) rfl
theorem q61 : (Jvm.Cond.soleField "ParamCloneFinder" "secondAt") ∈ lw_all := lw_g (lw_at lw_m1 47 rfl) rfl
theorem q62 : (Jvm.Cond.laysFinal "ParamCloneFinder" "ParamCloneFinder" "repeated" "[Z") ∈ lw_all := lw_g (lw_at lw_m1 48 rfl) rfl
theorem q63 : (Jvm.Cond.soleField "ParamCloneFinder" "repeated") ∈ lw_all := lw_g (lw_at lw_m1 49 rfl) rfl
theorem q64 : (Jvm.Cond.superclass "ParamCloneFinder" "java/lang/Object") ∈ lw_all := lw_g (lw_at lw_m1 50 rfl) rfl
theorem q68 : (Jvm.Cond.instanceMethod ({ cls := "ParamCloneFinder", name := "text", desc := "(I)I" } : Jvm.MethodName)) ∈ lw_all := lw_g (lw_at lw_m1 54 rfl) rfl
theorem q69 : (Jvm.Cond.selects "ParamCloneFinder" ({ cls := "ParamCloneFinder", name := "text", desc := "(I)I" } : Jvm.MethodName) ({ cls := "ParamCloneFinder", name := "text", desc := "(I)I" } : Jvm.MethodName)) ∈ lw_all := lw_g (lw_at lw_m1 55 rfl) rfl
theorem q70 : (Jvm.Cond.code ({ cls := "ParamCloneFinder", name := "text", desc := "(I)I" } : Jvm.MethodName) prog_1_method_5_code (2 : Nat) (Option.some Jvm.ClassFile.FieldType.int)) ∈ lw_all := lw_g (lw_at lw_m1 56 rfl) rfl
theorem q71 : (Jvm.Cond.methodLink "ParamCloneFinder" (36 : Nat) ({ cls := "ParamCloneFinder", name := "badToken", desc := "(I)Z" } : Jvm.MethodName)) ∈ lw_all := lw_g (lw_at lw_m1 57 rfl) rfl
theorem q72 : (Jvm.Cond.static ({ cls := "ParamCloneFinder", name := "badToken", desc := "(I)Z" } : Jvm.MethodName)) ∈ lw_all := lw_g (lw_at lw_m1 58 rfl) rfl
theorem q73 : (Jvm.Cond.code ({ cls := "ParamCloneFinder", name := "badToken", desc := "(I)Z" } : Jvm.MethodName) prog_1_method_2_code (1 : Nat) (Option.some Jvm.ClassFile.FieldType.boolean)) ∈ lw_all := lw_g (lw_at lw_m1 59 rfl) rfl
theorem q74 : (Jvm.Cond.methodLink "ParamCloneFinder" (40 : Nat) ({ cls := "ParamCloneFinder", name := "distance", desc := "(I)I" } : Jvm.MethodName)) ∈ lw_all := lw_g (lw_at lw_m1 60 rfl) rfl
theorem q75 : (Jvm.Cond.privateMethod ({ cls := "ParamCloneFinder", name := "distance", desc := "(I)I" } : Jvm.MethodName)) ∈ lw_tbl := lw_at lw_m1 61 rfl
theorem q76 : (Jvm.Cond.instanceMethod ({ cls := "ParamCloneFinder", name := "distance", desc := "(I)I" } : Jvm.MethodName)) ∈ lw_all := lw_g (lw_at lw_m1 62 rfl) rfl
theorem q77 : (Jvm.Cond.code ({ cls := "ParamCloneFinder", name := "distance", desc := "(I)I" } : Jvm.MethodName) prog_1_method_3_code (3 : Nat) (Option.some Jvm.ClassFile.FieldType.int)) ∈ lw_all := lw_g (lw_at lw_m1 63 rfl) rfl
theorem q79 : (Jvm.Cond.instanceMethod ({ cls := "ParamCloneFinder", name := "change", desc := "(II)I" } : Jvm.MethodName)) ∈ lw_all := lw_g (lw_at lw_m1 65 rfl) rfl
theorem q80 : (Jvm.Cond.selects "ParamCloneFinder" ({ cls := "ParamCloneFinder", name := "change", desc := "(II)I" } : Jvm.MethodName) ({ cls := "ParamCloneFinder", name := "change", desc := "(II)I" } : Jvm.MethodName)) ∈ lw_all := lw_g (lw_at lw_m1 66 rfl) rfl
theorem q81 : (Jvm.Cond.code ({ cls := "ParamCloneFinder", name := "change", desc := "(II)I" } : Jvm.MethodName) prog_1_method_6_code (5 : Nat) (Option.some Jvm.ClassFile.FieldType.int)) ∈ lw_all := lw_g (lw_at lw_m1 67 rfl) rfl
theorem q83 : (Jvm.Cond.instanceMethod ({ cls := "ParamCloneFinder", name := "pattern", desc := "(I)I" } : Jvm.MethodName)) ∈ lw_all := lw_g (lw_at lw_m1 69 rfl) rfl
theorem q84 : (Jvm.Cond.selects "ParamCloneFinder" ({ cls := "ParamCloneFinder", name := "pattern", desc := "(I)I" } : Jvm.MethodName) ({ cls := "ParamCloneFinder", name := "pattern", desc := "(I)I" } : Jvm.MethodName)) ∈ lw_all := lw_g (lw_at lw_m1 70 rfl) rfl
theorem q85 : (Jvm.Cond.code ({ cls := "ParamCloneFinder", name := "pattern", desc := "(I)I" } : Jvm.MethodName) prog_1_method_7_code (3 : Nat) (Option.some Jvm.ClassFile.FieldType.int)) ∈ lw_all := lw_g (lw_at lw_m1 71 rfl) rfl
theorem q86 : (Jvm.Cond.methodLink "ParamCloneFinder" (47 : Nat) ({ cls := "ParamCloneFinder", name := "wantedDistance", desc := "(I)I" } : Jvm.MethodName)) ∈ lw_all := lw_g (lw_at lw_m1 72 rfl) rfl
theorem q87 : (Jvm.Cond.privateMethod ({ cls := "ParamCloneFinder", name := "wantedDistance", desc := "(I)I" } : Jvm.MethodName)) ∈ lw_tbl := lw_at lw_m1 73 rfl
theorem q88 : (Jvm.Cond.instanceMethod ({ cls := "ParamCloneFinder", name := "wantedDistance", desc := "(I)I" } : Jvm.MethodName)) ∈ lw_all := lw_g (lw_at lw_m1 74 rfl) rfl
theorem q89 : (Jvm.Cond.code ({ cls := "ParamCloneFinder", name := "wantedDistance", desc := "(I)I" } : Jvm.MethodName) prog_1_method_8_code (3 : Nat) (Option.some Jvm.ClassFile.FieldType.int)) ∈ lw_all := lw_g (lw_at lw_m1 75 rfl) rfl
theorem q90 : (Jvm.Cond.methodLink "ParamCloneFinder" (50 : Nat) ({ cls := "ParamCloneFinder", name := "extendFailure", desc := "(I)V" } : Jvm.MethodName)) ∈ lw_all := lw_g (lw_at lw_m1 76 rfl) rfl
theorem q91 : (Jvm.Cond.privateMethod ({ cls := "ParamCloneFinder", name := "extendFailure", desc := "(I)V" } : Jvm.MethodName)) ∈ lw_tbl := lw_at lw_m1 77 rfl
theorem q92 : (Jvm.Cond.instanceMethod ({ cls := "ParamCloneFinder", name := "extendFailure", desc := "(I)V" } : Jvm.MethodName)) ∈ lw_all := lw_g (lw_at lw_m1 78 rfl) rfl
theorem q93 : (Jvm.Cond.code ({ cls := "ParamCloneFinder", name := "extendFailure", desc := "(I)V" } : Jvm.MethodName) prog_1_method_9_code (3 : Nat) (Option.none : Option Jvm.ClassFile.FieldType)) ∈ lw_all := lw_g (lw_at lw_m1 79 rfl) rfl
theorem q94 : (Jvm.Cond.methodLink "ParamCloneFinder" (54 : Nat) ({ cls := "ParamCloneFinder", name := "within", desc := "(II)I" } : Jvm.MethodName)) ∈ lw_all := lw_g (lw_at lw_m1 80 rfl) rfl
theorem q95 : (Jvm.Cond.static ({ cls := "ParamCloneFinder", name := "within", desc := "(II)I" } : Jvm.MethodName)) ∈ lw_all := lw_g (lw_at lw_m1 81 rfl) rfl
theorem q96 : (Jvm.Cond.code ({ cls := "ParamCloneFinder", name := "within", desc := "(II)I" } : Jvm.MethodName) prog_1_method_4_code (2 : Nat) (Option.some Jvm.ClassFile.FieldType.int)) ∈ lw_all := lw_g (lw_at lw_m1 82 rfl) rfl
theorem q98 : (Jvm.Cond.instanceMethod ({ cls := "ParamCloneFinder", name := "patternFrom", desc := "(II)I" } : Jvm.MethodName)) ∈ lw_all := lw_g (lw_at lw_m1 84 rfl) rfl
theorem q99 : (Jvm.Cond.selects "ParamCloneFinder" ({ cls := "ParamCloneFinder", name := "patternFrom", desc := "(II)I" } : Jvm.MethodName) ({ cls := "ParamCloneFinder", name := "patternFrom", desc := "(II)I" } : Jvm.MethodName)) ∈ lw_all := lw_g (lw_at lw_m1 85 rfl) rfl
theorem q100 : (Jvm.Cond.code ({ cls := "ParamCloneFinder", name := "patternFrom", desc := "(II)I" } : Jvm.MethodName) prog_1_method_10_code (4 : Nat) (Option.some Jvm.ClassFile.FieldType.int)) ∈ lw_all := lw_g (lw_at lw_m1 86 rfl) rfl
theorem q101 : (Jvm.Cond.methodLink "ParamCloneFinder" (58 : Nat) ({ cls := "ParamCloneFinder", name := "pattern", desc := "(I)I" } : Jvm.MethodName)) ∈ lw_all := lw_g (lw_at lw_m1 87 rfl) rfl
theorem q103 : (Jvm.Cond.instanceMethod ({ cls := "ParamCloneFinder", name := "clearPattern", desc := "()V" } : Jvm.MethodName)) ∈ lw_all := lw_g (lw_at lw_m1 89 rfl) rfl
theorem q104 : (Jvm.Cond.selects "ParamCloneFinder" ({ cls := "ParamCloneFinder", name := "clearPattern", desc := "()V" } : Jvm.MethodName) ({ cls := "ParamCloneFinder", name := "clearPattern", desc := "()V" } : Jvm.MethodName)) ∈ lw_all := lw_g (lw_at lw_m1 90 rfl) rfl
theorem q105 : (Jvm.Cond.code ({ cls := "ParamCloneFinder", name := "clearPattern", desc := "()V" } : Jvm.MethodName) prog_1_method_11_code (1 : Nat) (Option.none : Option Jvm.ClassFile.FieldType)) ∈ lw_all := lw_g (lw_at lw_m1 91 rfl) rfl
theorem q107 : (Jvm.Cond.instanceMethod ({ cls := "ParamCloneFinder", name := "clearText", desc := "()V" } : Jvm.MethodName)) ∈ lw_all := lw_g (lw_at lw_m1 93 rfl) rfl
theorem q108 : (Jvm.Cond.selects "ParamCloneFinder" ({ cls := "ParamCloneFinder", name := "clearText", desc := "()V" } : Jvm.MethodName) ({ cls := "ParamCloneFinder", name := "clearText", desc := "()V" } : Jvm.MethodName)) ∈ lw_all := lw_g (lw_at lw_m1 94 rfl) rfl
theorem q109 : (Jvm.Cond.code ({ cls := "ParamCloneFinder", name := "clearText", desc := "()V" } : Jvm.MethodName) prog_1_method_12_code (1 : Nat) (Option.none : Option Jvm.ClassFile.FieldType)) ∈ lw_all := lw_g (lw_at lw_m1 95 rfl) rfl
theorem q111 : (Jvm.Cond.instanceMethod ({ cls := "ParamCloneFinder", name := "matches", desc := "()I" } : Jvm.MethodName)) ∈ lw_all := lw_g (lw_at lw_m1 97 rfl) rfl
theorem q112 : (Jvm.Cond.selects "ParamCloneFinder" ({ cls := "ParamCloneFinder", name := "matches", desc := "()I" } : Jvm.MethodName) ({ cls := "ParamCloneFinder", name := "matches", desc := "()I" } : Jvm.MethodName)) ∈ lw_all := lw_g (lw_at lw_m1 98 rfl) rfl
theorem q113 : (Jvm.Cond.code ({ cls := "ParamCloneFinder", name := "matches", desc := "()I" } : Jvm.MethodName) prog_1_method_14_code (1 : Nat) (Option.some Jvm.ClassFile.FieldType.int)) ∈ lw_all := lw_g (lw_at lw_m1 99 rfl) rfl
theorem q114 : (Jvm.Cond.methodLink "ParamCloneFinder" (64 : Nat) ({ cls := "ParamCloneFinder", name := "search", desc := "()V" } : Jvm.MethodName)) ∈ lw_all := lw_g (lw_at lw_m1 100 rfl) rfl
theorem q115 : (Jvm.Cond.privateMethod ({ cls := "ParamCloneFinder", name := "search", desc := "()V" } : Jvm.MethodName)) ∈ lw_tbl := lw_at lw_m1 101 rfl
theorem q116 : (Jvm.Cond.instanceMethod ({ cls := "ParamCloneFinder", name := "search", desc := "()V" } : Jvm.MethodName)) ∈ lw_all := lw_g (lw_at lw_m1 102 rfl) rfl
theorem q117 : (Jvm.Cond.code ({ cls := "ParamCloneFinder", name := "search", desc := "()V" } : Jvm.MethodName) prog_1_method_13_code (3 : Nat) (Option.none : Option Jvm.ClassFile.FieldType)) ∈ lw_all := lw_g (lw_at lw_m1 103 rfl) rfl
theorem q119 : (Jvm.Cond.instanceMethod ({ cls := "ParamCloneFinder", name := "matchAt", desc := "(I)I" } : Jvm.MethodName)) ∈ lw_all := lw_g (lw_at lw_m1 105 rfl) rfl
theorem q120 : (Jvm.Cond.selects "ParamCloneFinder" ({ cls := "ParamCloneFinder", name := "matchAt", desc := "(I)I" } : Jvm.MethodName) ({ cls := "ParamCloneFinder", name := "matchAt", desc := "(I)I" } : Jvm.MethodName)) ∈ lw_all := lw_g (lw_at lw_m1 106 rfl) rfl
theorem q121 : (Jvm.Cond.code ({ cls := "ParamCloneFinder", name := "matchAt", desc := "(I)I" } : Jvm.MethodName) prog_1_method_15_code (2 : Nat) (Option.some Jvm.ClassFile.FieldType.int)) ∈ lw_all := lw_g (lw_at lw_m1 107 rfl) rfl
theorem q123 : (Jvm.Cond.instanceMethod ({ cls := "ParamCloneFinder", name := "renamed", desc := "(II)I" } : Jvm.MethodName)) ∈ lw_all := lw_g (lw_at lw_m1 109 rfl) rfl
theorem q124 : (Jvm.Cond.selects "ParamCloneFinder" ({ cls := "ParamCloneFinder", name := "renamed", desc := "(II)I" } : Jvm.MethodName) ({ cls := "ParamCloneFinder", name := "renamed", desc := "(II)I" } : Jvm.MethodName)) ∈ lw_all := lw_g (lw_at lw_m1 110 rfl) rfl
theorem q125 : (Jvm.Cond.code ({ cls := "ParamCloneFinder", name := "renamed", desc := "(II)I" } : Jvm.MethodName) prog_1_method_16_code (4 : Nat) (Option.some Jvm.ClassFile.FieldType.int)) ∈ lw_all := lw_g (lw_at lw_m1 111 rfl) rfl
theorem q127 : (Jvm.Cond.instanceMethod ({ cls := "ParamCloneFinder", name := "longestClone", desc := "()I" } : Jvm.MethodName)) ∈ lw_all := lw_g (lw_at lw_m1 113 rfl) rfl
theorem q128 : (Jvm.Cond.selects "ParamCloneFinder" ({ cls := "ParamCloneFinder", name := "longestClone", desc := "()I" } : Jvm.MethodName) ({ cls := "ParamCloneFinder", name := "longestClone", desc := "()I" } : Jvm.MethodName)) ∈ lw_all := lw_g (lw_at lw_m1 114 rfl) rfl
theorem q129 : (Jvm.Cond.code ({ cls := "ParamCloneFinder", name := "longestClone", desc := "()I" } : Jvm.MethodName) prog_1_method_20_code (1 : Nat) (Option.some Jvm.ClassFile.FieldType.int)) ∈ lw_all := lw_g (lw_at lw_m1 115 rfl) rfl
theorem q130 : (Jvm.Cond.methodLink "ParamCloneFinder" (84 : Nat) ({ cls := "ParamCloneFinder", name := "sweep", desc := "(I)V" } : Jvm.MethodName)) ∈ lw_all := lw_g (lw_at lw_m1 116 rfl) rfl
theorem q131 : (Jvm.Cond.privateMethod ({ cls := "ParamCloneFinder", name := "sweep", desc := "(I)V" } : Jvm.MethodName)) ∈ lw_tbl := lw_at lw_m1 117 rfl
theorem q132 : (Jvm.Cond.instanceMethod ({ cls := "ParamCloneFinder", name := "sweep", desc := "(I)V" } : Jvm.MethodName)) ∈ lw_all := lw_g (lw_at lw_m1 118 rfl) rfl
theorem q133 : (Jvm.Cond.code ({ cls := "ParamCloneFinder", name := "sweep", desc := "(I)V" } : Jvm.MethodName) prog_1_method_17_code (3 : Nat) (Option.none : Option Jvm.ClassFile.FieldType)) ∈ lw_all := lw_g (lw_at lw_m1 119 rfl) rfl
theorem q134 : (Jvm.Cond.methodLink "ParamCloneFinder" (76 : Nat) ({ cls := "ParamCloneFinder", name := "sweepDiagonal", desc := "(II)V" } : Jvm.MethodName)) ∈ lw_all := lw_g (lw_at lw_m1 120 rfl) rfl
theorem q135 : (Jvm.Cond.privateMethod ({ cls := "ParamCloneFinder", name := "sweepDiagonal", desc := "(II)V" } : Jvm.MethodName)) ∈ lw_tbl := lw_at lw_m1 121 rfl
theorem q136 : (Jvm.Cond.instanceMethod ({ cls := "ParamCloneFinder", name := "sweepDiagonal", desc := "(II)V" } : Jvm.MethodName)) ∈ lw_all := lw_g (lw_at lw_m1 122 rfl) rfl
theorem q137 : (Jvm.Cond.code ({ cls := "ParamCloneFinder", name := "sweepDiagonal", desc := "(II)V" } : Jvm.MethodName) prog_1_method_18_code (5 : Nat) (Option.none : Option Jvm.ClassFile.FieldType)) ∈ lw_all := lw_g (lw_at lw_m1 123 rfl) rfl
theorem q138 : (Jvm.Cond.methodLink "ParamCloneFinder" (80 : Nat) ({ cls := "ParamCloneFinder", name := "takeClone", desc := "(III)V" } : Jvm.MethodName)) ∈ lw_all := lw_g (lw_at lw_m1 124 rfl) rfl
theorem q139 : (Jvm.Cond.privateMethod ({ cls := "ParamCloneFinder", name := "takeClone", desc := "(III)V" } : Jvm.MethodName)) ∈ lw_tbl := lw_at lw_m1 125 rfl
theorem q140 : (Jvm.Cond.instanceMethod ({ cls := "ParamCloneFinder", name := "takeClone", desc := "(III)V" } : Jvm.MethodName)) ∈ lw_all := lw_g (lw_at lw_m1 126 rfl) rfl
theorem q141 : (Jvm.Cond.code ({ cls := "ParamCloneFinder", name := "takeClone", desc := "(III)V" } : Jvm.MethodName) prog_1_method_19_code (4 : Nat) (Option.none : Option Jvm.ClassFile.FieldType)) ∈ lw_all := lw_g (lw_at lw_m1 127 rfl) rfl
theorem q143 : (Jvm.Cond.instanceMethod ({ cls := "ParamCloneFinder", name := "cloneFirst", desc := "()I" } : Jvm.MethodName)) ∈ lw_all := lw_g (lw_at lw_m1 129 rfl) rfl
theorem q144 : (Jvm.Cond.selects "ParamCloneFinder" ({ cls := "ParamCloneFinder", name := "cloneFirst", desc := "()I" } : Jvm.MethodName) ({ cls := "ParamCloneFinder", name := "cloneFirst", desc := "()I" } : Jvm.MethodName)) ∈ lw_all := lw_g (lw_at lw_m1 130 rfl) rfl
theorem q145 : (Jvm.Cond.code ({ cls := "ParamCloneFinder", name := "cloneFirst", desc := "()I" } : Jvm.MethodName) prog_1_method_21_code (1 : Nat) (Option.some Jvm.ClassFile.FieldType.int)) ∈ lw_all := lw_g (lw_at lw_m1 131 rfl) rfl
theorem q147 : (Jvm.Cond.instanceMethod ({ cls := "ParamCloneFinder", name := "cloneSecond", desc := "()I" } : Jvm.MethodName)) ∈ lw_all := lw_g (lw_at lw_m1 133 rfl) rfl
theorem q148 : (Jvm.Cond.selects "ParamCloneFinder" ({ cls := "ParamCloneFinder", name := "cloneSecond", desc := "()I" } : Jvm.MethodName) ({ cls := "ParamCloneFinder", name := "cloneSecond", desc := "()I" } : Jvm.MethodName)) ∈ lw_all := lw_g (lw_at lw_m1 134 rfl) rfl
theorem q149 : (Jvm.Cond.code ({ cls := "ParamCloneFinder", name := "cloneSecond", desc := "()I" } : Jvm.MethodName) prog_1_method_22_code (1 : Nat) (Option.some Jvm.ClassFile.FieldType.int)) ∈ lw_all := lw_g (lw_at lw_m1 135 rfl) rfl
theorem q151 : (Jvm.Cond.instanceMethod ({ cls := "ParamCloneFinder", name := "kinds", desc := "(I)I" } : Jvm.MethodName)) ∈ lw_all := lw_g (lw_at lw_m1 137 rfl) rfl
theorem q152 : (Jvm.Cond.selects "ParamCloneFinder" ({ cls := "ParamCloneFinder", name := "kinds", desc := "(I)I" } : Jvm.MethodName) ({ cls := "ParamCloneFinder", name := "kinds", desc := "(I)I" } : Jvm.MethodName)) ∈ lw_all := lw_g (lw_at lw_m1 138 rfl) rfl
theorem q153 : (Jvm.Cond.code ({ cls := "ParamCloneFinder", name := "kinds", desc := "(I)I" } : Jvm.MethodName) prog_1_method_23_code (4 : Nat) (Option.some Jvm.ClassFile.FieldType.int)) ∈ lw_all := lw_g (lw_at lw_m1 139 rfl) rfl
theorem q155 : (Jvm.Cond.instanceMethod ({ cls := "ParamCloneFinder", name := "reach", desc := "(II)I" } : Jvm.MethodName)) ∈ lw_all := lw_g (lw_at lw_m1 141 rfl) rfl
theorem q156 : (Jvm.Cond.selects "ParamCloneFinder" ({ cls := "ParamCloneFinder", name := "reach", desc := "(II)I" } : Jvm.MethodName) ({ cls := "ParamCloneFinder", name := "reach", desc := "(II)I" } : Jvm.MethodName)) ∈ lw_all := lw_g (lw_at lw_m1 142 rfl) rfl
theorem q157 : (Jvm.Cond.code ({ cls := "ParamCloneFinder", name := "reach", desc := "(II)I" } : Jvm.MethodName) prog_1_method_24_code (4 : Nat) (Option.some Jvm.ClassFile.FieldType.int)) ∈ lw_all := lw_g (lw_at lw_m1 143 rfl) rfl
theorem in_X0 : ∀ w ∈ wsX00, w ∈ lw_all := lw_in wsX00 [38, 40, 42, 44, 46, 48, 50, 52, 54, 56, 58, 60, 62] (by decide +kernel) (by decide +kernel)
theorem q16 : (Jvm.Cond.initialized "ParamCloneFinderModel") ∈ lw_all := lw_g (lw_at lw_m1 2 rfl) rfl
theorem q159 : (Jvm.Cond.instantiable "ParamCloneFinderModel" (3 : Nat)) ∈ lw_all := lw_g (lw_at lw_m1 145 rfl) rfl
theorem q161 : (Jvm.Cond.instanceMethod ({ cls := "ParamCloneFinderModel", name := "<init>", desc := "()V" } : Jvm.MethodName)) ∈ lw_all := lw_g (lw_at lw_m1 147 rfl) rfl
theorem q162 : (Jvm.Cond.code ({ cls := "ParamCloneFinderModel", name := "<init>", desc := "()V" } : Jvm.MethodName) prog_3_method_1_code (1 : Nat) (Option.none : Option Jvm.ClassFile.FieldType)) ∈ lw_all := lw_g (lw_at lw_m1 148 rfl) rfl
theorem q163 : (Jvm.Cond.methodLink "ParamCloneFinderModel" (1 : Nat) ({ cls := "java/lang/Object", name := "<init>", desc := "()V" } : Jvm.MethodName)) ∈ lw_all := lw_g (lw_at lw_m1 149 rfl) rfl
theorem q164 : (Jvm.Cond.fieldLink "ParamCloneFinderModel" (7 : Nat) "ParamCloneFinderModel" "tokens" "[I") ∈ lw_all := lw_g (lw_at lw_m1 150 rfl) rfl
theorem q165 : (Jvm.Cond.fieldLink "ParamCloneFinderModel" (17 : Nat) "ParamCloneFinderModel" "textLength" "I") ∈ lw_all := lw_g (lw_at lw_m1 151 rfl) rfl
theorem q166 : (Jvm.Cond.fieldLink "ParamCloneFinderModel" (24 : Nat) "ParamCloneFinderModel" "patternLength" "I") ∈ lw_all := lw_g (lw_at lw_m1 152 rfl) rfl
theorem q167 : (Jvm.Cond.laysFinal "ParamCloneFinderModel" "ParamCloneFinderModel" "tokens" "[I") ∈ lw_all := lw_g (lw_at lw_m1 153 rfl) rfl
theorem q168 : (Jvm.Cond.soleField "ParamCloneFinderModel" "tokens") ∈ lw_all := lw_g (lw_at lw_m1 154 rfl) rfl
theorem q169 : (Jvm.Cond.lays "ParamCloneFinderModel" "ParamCloneFinderModel" "textLength" "I") ∈ lw_all := lw_g (lw_at lw_m1 155 rfl) rfl
theorem q170 : (Jvm.Cond.soleField "ParamCloneFinderModel" "textLength") ∈ lw_all := lw_g (lw_at lw_m1 156 rfl) rfl
theorem q171 : (Jvm.Cond.lays "ParamCloneFinderModel" "ParamCloneFinderModel" "patternLength" "I") ∈ lw_all := lw_g (lw_at lw_m1 157 rfl) rfl
theorem q172 : (Jvm.Cond.soleField "ParamCloneFinderModel" "patternLength") ∈ lw_all := lw_g (lw_at lw_m1 158 rfl) rfl
theorem q173 : (Jvm.Cond.superclass "ParamCloneFinderModel" "java/lang/Object") ∈ lw_all := lw_g (lw_at lw_m1 159 rfl) rfl
theorem q175 : (Jvm.Cond.instanceMethod ({ cls := "ParamCloneFinderModel", name := "text", desc := "(I)I" } : Jvm.MethodName)) ∈ lw_all := lw_g (lw_at lw_m1 161 rfl) rfl
theorem q176 : (Jvm.Cond.selects "ParamCloneFinderModel" ({ cls := "ParamCloneFinderModel", name := "text", desc := "(I)I" } : Jvm.MethodName) ({ cls := "ParamCloneFinderModel", name := "text", desc := "(I)I" } : Jvm.MethodName)) ∈ lw_all := lw_g (lw_at lw_m1 162 rfl) rfl
theorem q177 : (Jvm.Cond.code ({ cls := "ParamCloneFinderModel", name := "text", desc := "(I)I" } : Jvm.MethodName) prog_3_method_3_code (2 : Nat) (Option.some Jvm.ClassFile.FieldType.int)) ∈ lw_all := lw_g (lw_at lw_m1 163 rfl) rfl
theorem q178 : (Jvm.Cond.methodLink "ParamCloneFinderModel" (13 : Nat) ({ cls := "ParamCloneFinderModel", name := "isToken", desc := "(I)Z" } : Jvm.MethodName)) ∈ lw_all := lw_g (lw_at lw_m1 164 rfl) rfl
theorem q179 : (Jvm.Cond.privateMethod ({ cls := "ParamCloneFinderModel", name := "isToken", desc := "(I)Z" } : Jvm.MethodName)) ∈ lw_tbl := lw_at lw_m1 165 rfl
theorem q180 : (Jvm.Cond.instanceMethod ({ cls := "ParamCloneFinderModel", name := "isToken", desc := "(I)Z" } : Jvm.MethodName)) ∈ lw_all := lw_g (lw_at lw_m1 166 rfl) rfl
theorem q181 : (Jvm.Cond.code ({ cls := "ParamCloneFinderModel", name := "isToken", desc := "(I)Z" } : Jvm.MethodName) prog_3_method_2_code (2 : Nat) (Option.some Jvm.ClassFile.FieldType.boolean)) ∈ lw_all := lw_g (lw_at lw_m1 167 rfl) rfl
theorem q183 : (Jvm.Cond.instanceMethod ({ cls := "ParamCloneFinderModel", name := "change", desc := "(II)I" } : Jvm.MethodName)) ∈ lw_all := lw_g (lw_at lw_m1 169 rfl) rfl
theorem q184 : (Jvm.Cond.selects "ParamCloneFinderModel" ({ cls := "ParamCloneFinderModel", name := "change", desc := "(II)I" } : Jvm.MethodName) ({ cls := "ParamCloneFinderModel", name := "change", desc := "(II)I" } : Jvm.MethodName)) ∈ lw_all := lw_g (lw_at lw_m1 170 rfl) rfl
theorem q185 : (Jvm.Cond.code ({ cls := "ParamCloneFinderModel", name := "change", desc := "(II)I" } : Jvm.MethodName) prog_3_method_5_code (4 : Nat) (Option.some Jvm.ClassFile.FieldType.int)) ∈ lw_all := lw_g (lw_at lw_m1 171 rfl) rfl
theorem q186 : (Jvm.Cond.methodLink "ParamCloneFinderModel" (21 : Nat) ({ cls := "ParamCloneFinderModel", name := "inText", desc := "(I)Z" } : Jvm.MethodName)) ∈ lw_all := lw_g (lw_at lw_m1 172 rfl) rfl
theorem q187 : (Jvm.Cond.privateMethod ({ cls := "ParamCloneFinderModel", name := "inText", desc := "(I)Z" } : Jvm.MethodName)) ∈ lw_tbl := lw_at lw_m1 173 rfl
theorem q188 : (Jvm.Cond.instanceMethod ({ cls := "ParamCloneFinderModel", name := "inText", desc := "(I)Z" } : Jvm.MethodName)) ∈ lw_all := lw_g (lw_at lw_m1 174 rfl) rfl
theorem q189 : (Jvm.Cond.code ({ cls := "ParamCloneFinderModel", name := "inText", desc := "(I)Z" } : Jvm.MethodName) prog_3_method_4_code (2 : Nat) (Option.some Jvm.ClassFile.FieldType.boolean)) ∈ lw_all := lw_g (lw_at lw_m1 175 rfl) rfl
theorem q191 : (Jvm.Cond.instanceMethod ({ cls := "ParamCloneFinderModel", name := "pattern", desc := "(I)I" } : Jvm.MethodName)) ∈ lw_all := lw_g (lw_at lw_m1 177 rfl) rfl
theorem q192 : (Jvm.Cond.selects "ParamCloneFinderModel" ({ cls := "ParamCloneFinderModel", name := "pattern", desc := "(I)I" } : Jvm.MethodName) ({ cls := "ParamCloneFinderModel", name := "pattern", desc := "(I)I" } : Jvm.MethodName)) ∈ lw_all := lw_g (lw_at lw_m1 178 rfl) rfl
theorem q193 : (Jvm.Cond.code ({ cls := "ParamCloneFinderModel", name := "pattern", desc := "(I)I" } : Jvm.MethodName) prog_3_method_6_code (2 : Nat) (Option.some Jvm.ClassFile.FieldType.int)) ∈ lw_all := lw_g (lw_at lw_m1 179 rfl) rfl
theorem q195 : (Jvm.Cond.instanceMethod ({ cls := "ParamCloneFinderModel", name := "patternFrom", desc := "(II)I" } : Jvm.MethodName)) ∈ lw_all := lw_g (lw_at lw_m1 181 rfl) rfl
theorem q196 : (Jvm.Cond.selects "ParamCloneFinderModel" ({ cls := "ParamCloneFinderModel", name := "patternFrom", desc := "(II)I" } : Jvm.MethodName) ({ cls := "ParamCloneFinderModel", name := "patternFrom", desc := "(II)I" } : Jvm.MethodName)) ∈ lw_all := lw_g (lw_at lw_m1 182 rfl) rfl
theorem q197 : (Jvm.Cond.code ({ cls := "ParamCloneFinderModel", name := "patternFrom", desc := "(II)I" } : Jvm.MethodName) prog_3_method_7_code (4 : Nat) (Option.some Jvm.ClassFile.FieldType.int)) ∈ lw_all := lw_g (lw_at lw_m1 183 rfl) rfl
theorem q199 : (Jvm.Cond.instanceMethod ({ cls := "ParamCloneFinderModel", name := "clearPattern", desc := "()V" } : Jvm.MethodName)) ∈ lw_all := lw_g (lw_at lw_m1 185 rfl) rfl
theorem q200 : (Jvm.Cond.selects "ParamCloneFinderModel" ({ cls := "ParamCloneFinderModel", name := "clearPattern", desc := "()V" } : Jvm.MethodName) ({ cls := "ParamCloneFinderModel", name := "clearPattern", desc := "()V" } : Jvm.MethodName)) ∈ lw_all := lw_g (lw_at lw_m1 186 rfl) rfl
theorem q201 : (Jvm.Cond.code ({ cls := "ParamCloneFinderModel", name := "clearPattern", desc := "()V" } : Jvm.MethodName) prog_3_method_8_code (1 : Nat) (Option.none : Option Jvm.ClassFile.FieldType)) ∈ lw_all := lw_g (lw_at lw_m1 187 rfl) rfl
theorem q203 : (Jvm.Cond.instanceMethod ({ cls := "ParamCloneFinderModel", name := "clearText", desc := "()V" } : Jvm.MethodName)) ∈ lw_all := lw_g (lw_at lw_m1 189 rfl) rfl
theorem q204 : (Jvm.Cond.selects "ParamCloneFinderModel" ({ cls := "ParamCloneFinderModel", name := "clearText", desc := "()V" } : Jvm.MethodName) ({ cls := "ParamCloneFinderModel", name := "clearText", desc := "()V" } : Jvm.MethodName)) ∈ lw_all := lw_g (lw_at lw_m1 190 rfl) rfl
theorem q205 : (Jvm.Cond.code ({ cls := "ParamCloneFinderModel", name := "clearText", desc := "()V" } : Jvm.MethodName) prog_3_method_9_code (1 : Nat) (Option.none : Option Jvm.ClassFile.FieldType)) ∈ lw_all := lw_g (lw_at lw_m1 191 rfl) rfl
theorem q207 : (Jvm.Cond.instanceMethod ({ cls := "ParamCloneFinderModel", name := "matches", desc := "()I" } : Jvm.MethodName)) ∈ lw_all := lw_g (lw_at lw_m1 193 rfl) rfl
theorem q208 : (Jvm.Cond.selects "ParamCloneFinderModel" ({ cls := "ParamCloneFinderModel", name := "matches", desc := "()I" } : Jvm.MethodName) ({ cls := "ParamCloneFinderModel", name := "matches", desc := "()I" } : Jvm.MethodName)) ∈ lw_all := lw_g (lw_at lw_m1 194 rfl) rfl
theorem q209 : (Jvm.Cond.code ({ cls := "ParamCloneFinderModel", name := "matches", desc := "()I" } : Jvm.MethodName) prog_3_method_13_code (3 : Nat) (Option.some Jvm.ClassFile.FieldType.int)) ∈ lw_all := lw_g (lw_at lw_m1 195 rfl) rfl
theorem q210 : (Jvm.Cond.methodLink "ParamCloneFinderModel" (34 : Nat) ({ cls := "ParamCloneFinderModel", name := "isMatch", desc := "(I)Z" } : Jvm.MethodName)) ∈ lw_all := lw_g (lw_at lw_m1 196 rfl) rfl
theorem q211 : (Jvm.Cond.privateMethod ({ cls := "ParamCloneFinderModel", name := "isMatch", desc := "(I)Z" } : Jvm.MethodName)) ∈ lw_tbl := lw_at lw_m1 197 rfl
theorem q212 : (Jvm.Cond.instanceMethod ({ cls := "ParamCloneFinderModel", name := "isMatch", desc := "(I)Z" } : Jvm.MethodName)) ∈ lw_all := lw_g (lw_at lw_m1 198 rfl) rfl
theorem q213 : (Jvm.Cond.code ({ cls := "ParamCloneFinderModel", name := "isMatch", desc := "(I)Z" } : Jvm.MethodName) prog_3_method_12_code (2 : Nat) (Option.some Jvm.ClassFile.FieldType.boolean)) ∈ lw_all := lw_g (lw_at lw_m1 199 rfl) rfl
theorem q214 : (Jvm.Cond.methodLink "ParamCloneFinderModel" (31 : Nat) ({ cls := "ParamCloneFinderModel", name := "alike", desc := "(III)Z" } : Jvm.MethodName)) ∈ lw_all := lw_g (lw_at lw_m1 200 rfl) rfl
theorem q215 : (Jvm.Cond.privateMethod ({ cls := "ParamCloneFinderModel", name := "alike", desc := "(III)Z" } : Jvm.MethodName)) ∈ lw_tbl := lw_at lw_m1 201 rfl
theorem q216 : (Jvm.Cond.instanceMethod ({ cls := "ParamCloneFinderModel", name := "alike", desc := "(III)Z" } : Jvm.MethodName)) ∈ lw_all := lw_g (lw_at lw_m1 202 rfl) rfl
theorem q217 : (Jvm.Cond.code ({ cls := "ParamCloneFinderModel", name := "alike", desc := "(III)Z" } : Jvm.MethodName) prog_3_method_10_code (7 : Nat) (Option.some Jvm.ClassFile.FieldType.boolean)) ∈ lw_all := lw_g (lw_at lw_m1 203 rfl) rfl
theorem q218 : (Jvm.Cond.methodLink "ParamCloneFinderModel" (27 : Nat) ({ cls := "ParamCloneFinderModel", name := "renames", desc := "(III)Z" } : Jvm.MethodName)) ∈ lw_all := lw_g (lw_at lw_m1 204 rfl) rfl
theorem q219 : (Jvm.Cond.privateMethod ({ cls := "ParamCloneFinderModel", name := "renames", desc := "(III)Z" } : Jvm.MethodName)) ∈ lw_tbl := lw_at lw_m1 205 rfl
theorem q220 : (Jvm.Cond.instanceMethod ({ cls := "ParamCloneFinderModel", name := "renames", desc := "(III)Z" } : Jvm.MethodName)) ∈ lw_all := lw_g (lw_at lw_m1 206 rfl) rfl
theorem q221 : (Jvm.Cond.code ({ cls := "ParamCloneFinderModel", name := "renames", desc := "(III)Z" } : Jvm.MethodName) prog_3_method_11_code (5 : Nat) (Option.some Jvm.ClassFile.FieldType.boolean)) ∈ lw_all := lw_g (lw_at lw_m1 207 rfl) rfl
theorem q223 : (Jvm.Cond.instanceMethod ({ cls := "ParamCloneFinderModel", name := "matchAt", desc := "(I)I" } : Jvm.MethodName)) ∈ lw_all := lw_g (lw_at lw_m1 209 rfl) rfl
theorem q224 : (Jvm.Cond.selects "ParamCloneFinderModel" ({ cls := "ParamCloneFinderModel", name := "matchAt", desc := "(I)I" } : Jvm.MethodName) ({ cls := "ParamCloneFinderModel", name := "matchAt", desc := "(I)I" } : Jvm.MethodName)) ∈ lw_all := lw_g (lw_at lw_m1 210 rfl) rfl
theorem q225 : (Jvm.Cond.code ({ cls := "ParamCloneFinderModel", name := "matchAt", desc := "(I)I" } : Jvm.MethodName) prog_3_method_14_code (4 : Nat) (Option.some Jvm.ClassFile.FieldType.int)) ∈ lw_all := lw_g (lw_at lw_m1 211 rfl) rfl
theorem q227 : (Jvm.Cond.instanceMethod ({ cls := "ParamCloneFinderModel", name := "renamed", desc := "(II)I" } : Jvm.MethodName)) ∈ lw_all := lw_g (lw_at lw_m1 213 rfl) rfl
theorem q228 : (Jvm.Cond.selects "ParamCloneFinderModel" ({ cls := "ParamCloneFinderModel", name := "renamed", desc := "(II)I" } : Jvm.MethodName) ({ cls := "ParamCloneFinderModel", name := "renamed", desc := "(II)I" } : Jvm.MethodName)) ∈ lw_all := lw_g (lw_at lw_m1 214 rfl) rfl
theorem q229 : (Jvm.Cond.code ({ cls := "ParamCloneFinderModel", name := "renamed", desc := "(II)I" } : Jvm.MethodName) prog_3_method_15_code (5 : Nat) (Option.some Jvm.ClassFile.FieldType.int)) ∈ lw_all := lw_g (lw_at lw_m1 215 rfl) rfl
theorem q230 : (Jvm.Cond.methodLink "ParamCloneFinderModel" (37 : Nat) ({ cls := "ParamCloneFinderModel", name := "matchAt", desc := "(I)I" } : Jvm.MethodName)) ∈ lw_all := lw_g (lw_at lw_m1 216 rfl) rfl
theorem q232 : (Jvm.Cond.instanceMethod ({ cls := "ParamCloneFinderModel", name := "longestClone", desc := "()I" } : Jvm.MethodName)) ∈ lw_all := lw_g (lw_at lw_m1 218 rfl) rfl
theorem q233 : (Jvm.Cond.selects "ParamCloneFinderModel" ({ cls := "ParamCloneFinderModel", name := "longestClone", desc := "()I" } : Jvm.MethodName) ({ cls := "ParamCloneFinderModel", name := "longestClone", desc := "()I" } : Jvm.MethodName)) ∈ lw_all := lw_g (lw_at lw_m1 219 rfl) rfl
theorem q234 : (Jvm.Cond.code ({ cls := "ParamCloneFinderModel", name := "longestClone", desc := "()I" } : Jvm.MethodName) prog_3_method_18_code (2 : Nat) (Option.some Jvm.ClassFile.FieldType.int)) ∈ lw_all := lw_g (lw_at lw_m1 220 rfl) rfl
theorem q235 : (Jvm.Cond.methodLink "ParamCloneFinderModel" (45 : Nat) ({ cls := "ParamCloneFinderModel", name := "firstWithTwin", desc := "(I)I" } : Jvm.MethodName)) ∈ lw_all := lw_g (lw_at lw_m1 221 rfl) rfl
theorem q236 : (Jvm.Cond.privateMethod ({ cls := "ParamCloneFinderModel", name := "firstWithTwin", desc := "(I)I" } : Jvm.MethodName)) ∈ lw_tbl := lw_at lw_m1 222 rfl
theorem q237 : (Jvm.Cond.instanceMethod ({ cls := "ParamCloneFinderModel", name := "firstWithTwin", desc := "(I)I" } : Jvm.MethodName)) ∈ lw_all := lw_g (lw_at lw_m1 223 rfl) rfl
theorem q238 : (Jvm.Cond.code ({ cls := "ParamCloneFinderModel", name := "firstWithTwin", desc := "(I)I" } : Jvm.MethodName) prog_3_method_17_code (3 : Nat) (Option.some Jvm.ClassFile.FieldType.int)) ∈ lw_all := lw_g (lw_at lw_m1 224 rfl) rfl
theorem q239 : (Jvm.Cond.methodLink "ParamCloneFinderModel" (41 : Nat) ({ cls := "ParamCloneFinderModel", name := "twin", desc := "(II)I" } : Jvm.MethodName)) ∈ lw_all := lw_g (lw_at lw_m1 225 rfl) rfl
theorem q240 : (Jvm.Cond.privateMethod ({ cls := "ParamCloneFinderModel", name := "twin", desc := "(II)I" } : Jvm.MethodName)) ∈ lw_tbl := lw_at lw_m1 226 rfl
theorem q241 : (Jvm.Cond.instanceMethod ({ cls := "ParamCloneFinderModel", name := "twin", desc := "(II)I" } : Jvm.MethodName)) ∈ lw_all := lw_g (lw_at lw_m1 227 rfl) rfl
theorem q242 : (Jvm.Cond.code ({ cls := "ParamCloneFinderModel", name := "twin", desc := "(II)I" } : Jvm.MethodName) prog_3_method_16_code (4 : Nat) (Option.some Jvm.ClassFile.FieldType.int)) ∈ lw_all := lw_g (lw_at lw_m1 228 rfl) rfl
theorem q244 : (Jvm.Cond.instanceMethod ({ cls := "ParamCloneFinderModel", name := "cloneFirst", desc := "()I" } : Jvm.MethodName)) ∈ lw_all := lw_g (lw_at lw_m1 230 rfl) rfl
theorem q245 : (Jvm.Cond.selects "ParamCloneFinderModel" ({ cls := "ParamCloneFinderModel", name := "cloneFirst", desc := "()I" } : Jvm.MethodName) ({ cls := "ParamCloneFinderModel", name := "cloneFirst", desc := "()I" } : Jvm.MethodName)) ∈ lw_all := lw_g (lw_at lw_m1 231 rfl) rfl
theorem q246 : (Jvm.Cond.code ({ cls := "ParamCloneFinderModel", name := "cloneFirst", desc := "()I" } : Jvm.MethodName) prog_3_method_19_code (2 : Nat) (Option.some Jvm.ClassFile.FieldType.int)) ∈ lw_all := lw_g (lw_at lw_m1 232 rfl) rfl
theorem q247 : (Jvm.Cond.methodLink "ParamCloneFinderModel" (48 : Nat) ({ cls := "ParamCloneFinderModel", name := "longestClone", desc := "()I" } : Jvm.MethodName)) ∈ lw_all := lw_g (lw_at lw_m1 233 rfl) rfl
theorem q249 : (Jvm.Cond.instanceMethod ({ cls := "ParamCloneFinderModel", name := "cloneSecond", desc := "()I" } : Jvm.MethodName)) ∈ lw_all := lw_g (lw_at lw_m1 235 rfl) rfl
theorem q250 : (Jvm.Cond.selects "ParamCloneFinderModel" ({ cls := "ParamCloneFinderModel", name := "cloneSecond", desc := "()I" } : Jvm.MethodName) ({ cls := "ParamCloneFinderModel", name := "cloneSecond", desc := "()I" } : Jvm.MethodName)) ∈ lw_all := lw_g (lw_at lw_m1 236 rfl) rfl
theorem q251 : (Jvm.Cond.code ({ cls := "ParamCloneFinderModel", name := "cloneSecond", desc := "()I" } : Jvm.MethodName) prog_3_method_20_code (3 : Nat) (Option.some Jvm.ClassFile.FieldType.int)) ∈ lw_all := lw_g (lw_at lw_m1 237 rfl) rfl
theorem q253 : (Jvm.Cond.instanceMethod ({ cls := "ParamCloneFinderModel", name := "kinds", desc := "(I)I" } : Jvm.MethodName)) ∈ lw_all := lw_g (lw_at lw_m1 239 rfl) rfl
theorem q254 : (Jvm.Cond.selects "ParamCloneFinderModel" ({ cls := "ParamCloneFinderModel", name := "kinds", desc := "(I)I" } : Jvm.MethodName) ({ cls := "ParamCloneFinderModel", name := "kinds", desc := "(I)I" } : Jvm.MethodName)) ∈ lw_all := lw_g (lw_at lw_m2 0 rfl) rfl
theorem q255 : (Jvm.Cond.code ({ cls := "ParamCloneFinderModel", name := "kinds", desc := "(I)I" } : Jvm.MethodName) prog_3_method_21_code (6 : Nat) (Option.some Jvm.ClassFile.FieldType.int)) ∈ lw_all := lw_g (lw_at lw_m2 1 rfl) rfl
theorem q257 : (Jvm.Cond.instanceMethod ({ cls := "ParamCloneFinderModel", name := "reach", desc := "(II)I" } : Jvm.MethodName)) ∈ lw_all := lw_g (lw_at lw_m2 3 rfl) rfl
theorem q258 : (Jvm.Cond.selects "ParamCloneFinderModel" ({ cls := "ParamCloneFinderModel", name := "reach", desc := "(II)I" } : Jvm.MethodName) ({ cls := "ParamCloneFinderModel", name := "reach", desc := "(II)I" } : Jvm.MethodName)) ∈ lw_all := lw_g (lw_at lw_m2 4 rfl) rfl
theorem q259 : (Jvm.Cond.code ({ cls := "ParamCloneFinderModel", name := "reach", desc := "(II)I" } : Jvm.MethodName) prog_3_method_22_code (5 : Nat) (Option.some Jvm.ClassFile.FieldType.int)) ∈ lw_all := lw_g (lw_at lw_m2 5 rfl) rfl
theorem in_X1 : ∀ w ∈ wsX10, w ∈ lw_all := lw_in wsX10 [167, 169, 171] (by decide +kernel) (by decide +kernel)
/-! java/lang/Object -/
def RJ0 : String := "java/lang/Object"
abbrev cJ0_init : ByteArray := object_method_1_code
def yJ0_init : MethodName := ⟨RJ0, "<init>", "()V"⟩
theorem dJ0_init_0 : decode cJ0_init 0 = .ok (.return_, 1) := by decide +kernel
theorem q23 : (Jvm.Cond.instanceMethod ({ cls := "java/lang/Object", name := "<init>", desc := "()V" } : Jvm.MethodName)) ∈ lw_all := lw_g (lw_at lw_m1 9 rfl) rfl
theorem q24 : (Jvm.Cond.code ({ cls := "java/lang/Object", name := "<init>", desc := "()V" } : Jvm.MethodName) object_method_1_code (1 : Nat) (Option.none : Option Jvm.ClassFile.FieldType)) ∈ lw_all := lw_g (lw_at lw_m1 10 rfl) rfl
theorem q65 : (Jvm.Cond.arrayClass Jvm.ClassFile.FieldType.int) ∈ lw_all := lw_g (lw_at lw_m1 51 rfl) rfl
theorem q66 : (Jvm.Cond.arrayClass Jvm.ClassFile.FieldType.boolean) ∈ lw_all := lw_g (lw_at lw_m1 52 rfl) rfl
theorem q14 : (Jvm.Cond.initialized "ParamCloneFinderLaw") ∈ lw_all := lw_g (lw_at lw_m1 0 rfl) rfl
theorem q17 : (Jvm.Cond.classLink "ParamCloneFinderLaw" (7 : Nat) "ParamCloneFinder") ∈ lw_all := lw_g (lw_at lw_m1 3 rfl) rfl
theorem q19 : (Jvm.Cond.methodLink "ParamCloneFinderLaw" (9 : Nat) ({ cls := "ParamCloneFinder", name := "<init>", desc := "()V" } : Jvm.MethodName)) ∈ lw_all := lw_g (lw_at lw_m1 5 rfl) rfl
theorem q67 : (Jvm.Cond.methodLink "ParamCloneFinderLaw" (13 : Nat) ({ cls := "ParamCloneFinder", name := "text", desc := "(I)I" } : Jvm.MethodName)) ∈ lw_all := lw_g (lw_at lw_m1 53 rfl) rfl
theorem q78 : (Jvm.Cond.methodLink "ParamCloneFinderLaw" (18 : Nat) ({ cls := "ParamCloneFinder", name := "change", desc := "(II)I" } : Jvm.MethodName)) ∈ lw_all := lw_g (lw_at lw_m1 64 rfl) rfl
theorem q82 : (Jvm.Cond.methodLink "ParamCloneFinderLaw" (23 : Nat) ({ cls := "ParamCloneFinder", name := "pattern", desc := "(I)I" } : Jvm.MethodName)) ∈ lw_all := lw_g (lw_at lw_m1 68 rfl) rfl
theorem q97 : (Jvm.Cond.methodLink "ParamCloneFinderLaw" (27 : Nat) ({ cls := "ParamCloneFinder", name := "patternFrom", desc := "(II)I" } : Jvm.MethodName)) ∈ lw_all := lw_g (lw_at lw_m1 83 rfl) rfl
theorem q102 : (Jvm.Cond.methodLink "ParamCloneFinderLaw" (31 : Nat) ({ cls := "ParamCloneFinder", name := "clearPattern", desc := "()V" } : Jvm.MethodName)) ∈ lw_all := lw_g (lw_at lw_m1 88 rfl) rfl
theorem q106 : (Jvm.Cond.methodLink "ParamCloneFinderLaw" (35 : Nat) ({ cls := "ParamCloneFinder", name := "clearText", desc := "()V" } : Jvm.MethodName)) ∈ lw_all := lw_g (lw_at lw_m1 92 rfl) rfl
theorem q110 : (Jvm.Cond.methodLink "ParamCloneFinderLaw" (39 : Nat) ({ cls := "ParamCloneFinder", name := "matches", desc := "()I" } : Jvm.MethodName)) ∈ lw_all := lw_g (lw_at lw_m1 96 rfl) rfl
theorem q118 : (Jvm.Cond.methodLink "ParamCloneFinderLaw" (44 : Nat) ({ cls := "ParamCloneFinder", name := "matchAt", desc := "(I)I" } : Jvm.MethodName)) ∈ lw_all := lw_g (lw_at lw_m1 104 rfl) rfl
theorem q122 : (Jvm.Cond.methodLink "ParamCloneFinderLaw" (48 : Nat) ({ cls := "ParamCloneFinder", name := "renamed", desc := "(II)I" } : Jvm.MethodName)) ∈ lw_all := lw_g (lw_at lw_m1 108 rfl) rfl
theorem q126 : (Jvm.Cond.methodLink "ParamCloneFinderLaw" (52 : Nat) ({ cls := "ParamCloneFinder", name := "longestClone", desc := "()I" } : Jvm.MethodName)) ∈ lw_all := lw_g (lw_at lw_m1 112 rfl) rfl
theorem q142 : (Jvm.Cond.methodLink "ParamCloneFinderLaw" (56 : Nat) ({ cls := "ParamCloneFinder", name := "cloneFirst", desc := "()I" } : Jvm.MethodName)) ∈ lw_all := lw_g (lw_at lw_m1 128 rfl) rfl
theorem q146 : (Jvm.Cond.methodLink "ParamCloneFinderLaw" (60 : Nat) ({ cls := "ParamCloneFinder", name := "cloneSecond", desc := "()I" } : Jvm.MethodName)) ∈ lw_all := lw_g (lw_at lw_m1 132 rfl) rfl
theorem q150 : (Jvm.Cond.methodLink "ParamCloneFinderLaw" (64 : Nat) ({ cls := "ParamCloneFinder", name := "kinds", desc := "(I)I" } : Jvm.MethodName)) ∈ lw_all := lw_g (lw_at lw_m1 136 rfl) rfl
theorem q154 : (Jvm.Cond.methodLink "ParamCloneFinderLaw" (68 : Nat) ({ cls := "ParamCloneFinder", name := "reach", desc := "(II)I" } : Jvm.MethodName)) ∈ lw_all := lw_g (lw_at lw_m1 140 rfl) rfl
theorem q158 : (Jvm.Cond.classLink "ParamCloneFinderLaw" (10 : Nat) "ParamCloneFinderModel") ∈ lw_all := lw_g (lw_at lw_m1 144 rfl) rfl
theorem q160 : (Jvm.Cond.methodLink "ParamCloneFinderLaw" (12 : Nat) ({ cls := "ParamCloneFinderModel", name := "<init>", desc := "()V" } : Jvm.MethodName)) ∈ lw_all := lw_g (lw_at lw_m1 146 rfl) rfl
theorem q174 : (Jvm.Cond.methodLink "ParamCloneFinderLaw" (17 : Nat) ({ cls := "ParamCloneFinderModel", name := "text", desc := "(I)I" } : Jvm.MethodName)) ∈ lw_all := lw_g (lw_at lw_m1 160 rfl) rfl
theorem q182 : (Jvm.Cond.methodLink "ParamCloneFinderLaw" (22 : Nat) ({ cls := "ParamCloneFinderModel", name := "change", desc := "(II)I" } : Jvm.MethodName)) ∈ lw_all := lw_g (lw_at lw_m1 168 rfl) rfl
theorem q190 : (Jvm.Cond.methodLink "ParamCloneFinderLaw" (26 : Nat) ({ cls := "ParamCloneFinderModel", name := "pattern", desc := "(I)I" } : Jvm.MethodName)) ∈ lw_all := lw_g (lw_at lw_m1 176 rfl) rfl
theorem q194 : (Jvm.Cond.methodLink "ParamCloneFinderLaw" (30 : Nat) ({ cls := "ParamCloneFinderModel", name := "patternFrom", desc := "(II)I" } : Jvm.MethodName)) ∈ lw_all := lw_g (lw_at lw_m1 180 rfl) rfl
theorem q198 : (Jvm.Cond.methodLink "ParamCloneFinderLaw" (34 : Nat) ({ cls := "ParamCloneFinderModel", name := "clearPattern", desc := "()V" } : Jvm.MethodName)) ∈ lw_all := lw_g (lw_at lw_m1 184 rfl) rfl
theorem q202 : (Jvm.Cond.methodLink "ParamCloneFinderLaw" (38 : Nat) ({ cls := "ParamCloneFinderModel", name := "clearText", desc := "()V" } : Jvm.MethodName)) ∈ lw_all := lw_g (lw_at lw_m1 188 rfl) rfl
theorem q206 : (Jvm.Cond.methodLink "ParamCloneFinderLaw" (43 : Nat) ({ cls := "ParamCloneFinderModel", name := "matches", desc := "()I" } : Jvm.MethodName)) ∈ lw_all := lw_g (lw_at lw_m1 192 rfl) rfl
theorem q222 : (Jvm.Cond.methodLink "ParamCloneFinderLaw" (47 : Nat) ({ cls := "ParamCloneFinderModel", name := "matchAt", desc := "(I)I" } : Jvm.MethodName)) ∈ lw_all := lw_g (lw_at lw_m1 208 rfl) rfl
theorem q226 : (Jvm.Cond.methodLink "ParamCloneFinderLaw" (51 : Nat) ({ cls := "ParamCloneFinderModel", name := "renamed", desc := "(II)I" } : Jvm.MethodName)) ∈ lw_all := lw_g (lw_at lw_m1 212 rfl) rfl
theorem q231 : (Jvm.Cond.methodLink "ParamCloneFinderLaw" (55 : Nat) ({ cls := "ParamCloneFinderModel", name := "longestClone", desc := "()I" } : Jvm.MethodName)) ∈ lw_all := lw_g (lw_at lw_m1 217 rfl) rfl
theorem q243 : (Jvm.Cond.methodLink "ParamCloneFinderLaw" (59 : Nat) ({ cls := "ParamCloneFinderModel", name := "cloneFirst", desc := "()I" } : Jvm.MethodName)) ∈ lw_all := lw_g (lw_at lw_m1 229 rfl) rfl
theorem q248 : (Jvm.Cond.methodLink "ParamCloneFinderLaw" (63 : Nat) ({ cls := "ParamCloneFinderModel", name := "cloneSecond", desc := "()I" } : Jvm.MethodName)) ∈ lw_all := lw_g (lw_at lw_m1 234 rfl) rfl
theorem q252 : (Jvm.Cond.methodLink "ParamCloneFinderLaw" (67 : Nat) ({ cls := "ParamCloneFinderModel", name := "kinds", desc := "(I)I" } : Jvm.MethodName)) ∈ lw_all := lw_g (lw_at lw_m1 238 rfl) rfl
theorem q256 : (Jvm.Cond.methodLink "ParamCloneFinderLaw" (71 : Nat) ({ cls := "ParamCloneFinderModel", name := "reach", desc := "(II)I" } : Jvm.MethodName)) ∈ lw_all := lw_g (lw_at lw_m2 2 rfl) rfl
end
section
/-! the law's own entry -/
set_option maxRecDepth 100000
abbrev cL_law : ByteArray := code
theorem dL_law_0 : decode cL_law 0 = .ok (.new 7, 3) := by decide +kernel
theorem dL_law_3 : decode cL_law 3 = .ok (.dup, 1) := by decide +kernel
theorem dL_law_4 : decode cL_law 4 = .ok (.invokespecial 9, 3) := by decide +kernel
theorem dL_law_7 : decode cL_law 7 = .ok (.astore_n 1, 1) := by decide +kernel
theorem dL_law_8 : decode cL_law 8 = .ok (.new 10, 3) := by decide +kernel
theorem dL_law_11 : decode cL_law 11 = .ok (.dup, 1) := by decide +kernel
theorem dL_law_12 : decode cL_law 12 = .ok (.invokespecial 12, 3) := by decide +kernel
theorem dL_law_15 : decode cL_law 15 = .ok (.astore_n 2, 1) := by decide +kernel
theorem dL_law_16 : decode cL_law 16 = .ok (.iconst 0, 1) := by decide +kernel
theorem dL_law_17 : decode cL_law 17 = .ok (.istore_n 3, 1) := by decide +kernel
theorem dL_law_18 : decode cL_law 18 = .ok (.iload_n 3, 1) := by decide +kernel
theorem dL_law_19 : decode cL_law 19 = .ok (.aload_n 0, 1) := by decide +kernel
theorem dL_law_20 : decode cL_law 20 = .ok (.arraylength, 1) := by decide +kernel
theorem dL_law_21 : decode cL_law 21 = .ok (.iconst 3, 1) := by decide +kernel
theorem dL_law_22 : decode cL_law 22 = .ok (.isub, 1) := by decide +kernel
theorem dL_law_23 : decode cL_law 23 = .ok (.if_icmp .gt 385, 3) := by decide +kernel
theorem dL_law_26 : decode cL_law 26 = .ok (.aload_n 0, 1) := by decide +kernel
theorem dL_law_27 : decode cL_law 27 = .ok (.iload_n 3, 1) := by decide +kernel
theorem dL_law_28 : decode cL_law 28 = .ok (.iaload, 1) := by decide +kernel
theorem dL_law_29 : decode cL_law 29 = .ok (.bipush 15, 2) := by decide +kernel
theorem dL_law_31 : decode cL_law 31 = .ok (.iand, 1) := by decide +kernel
theorem dL_law_32 : decode cL_law 32 = .ok (.tableswitch 370 0 13 #[72, 95, 128, 151, 184, 195, 206, 219, 242, 275, 288, 301, 314, 337], 72) := by decide +kernel
theorem dL_law_104 : decode cL_law 104 = .ok (.aload_n 1, 1) := by decide +kernel
theorem dL_law_105 : decode cL_law 105 = .ok (.aload_n 0, 1) := by decide +kernel
theorem dL_law_106 : decode cL_law 106 = .ok (.iload_n 3, 1) := by decide +kernel
theorem dL_law_107 : decode cL_law 107 = .ok (.iconst 1, 1) := by decide +kernel
theorem dL_law_108 : decode cL_law 108 = .ok (.iadd, 1) := by decide +kernel
theorem dL_law_109 : decode cL_law 109 = .ok (.iaload, 1) := by decide +kernel
theorem dL_law_110 : decode cL_law 110 = .ok (.invokevirtual 13, 3) := by decide +kernel
theorem dL_law_113 : decode cL_law 113 = .ok (.aload_n 2, 1) := by decide +kernel
theorem dL_law_114 : decode cL_law 114 = .ok (.aload_n 0, 1) := by decide +kernel
theorem dL_law_115 : decode cL_law 115 = .ok (.iload_n 3, 1) := by decide +kernel
theorem dL_law_116 : decode cL_law 116 = .ok (.iconst 1, 1) := by decide +kernel
theorem dL_law_117 : decode cL_law 117 = .ok (.iadd, 1) := by decide +kernel
theorem dL_law_118 : decode cL_law 118 = .ok (.iaload, 1) := by decide +kernel
theorem dL_law_119 : decode cL_law 119 = .ok (.invokevirtual 17, 3) := by decide +kernel
theorem dL_law_122 : decode cL_law 122 = .ok (.if_icmp .eq 280, 3) := by decide +kernel
theorem dL_law_125 : decode cL_law 125 = .ok (.iconst 0, 1) := by decide +kernel
theorem dL_law_126 : decode cL_law 126 = .ok (.ireturn, 1) := by decide +kernel
theorem dL_law_127 : decode cL_law 127 = .ok (.aload_n 1, 1) := by decide +kernel
theorem dL_law_128 : decode cL_law 128 = .ok (.aload_n 0, 1) := by decide +kernel
theorem dL_law_129 : decode cL_law 129 = .ok (.iload_n 3, 1) := by decide +kernel
theorem dL_law_130 : decode cL_law 130 = .ok (.iconst 1, 1) := by decide +kernel
theorem dL_law_131 : decode cL_law 131 = .ok (.iadd, 1) := by decide +kernel
theorem dL_law_132 : decode cL_law 132 = .ok (.iaload, 1) := by decide +kernel
theorem dL_law_133 : decode cL_law 133 = .ok (.aload_n 0, 1) := by decide +kernel
theorem dL_law_134 : decode cL_law 134 = .ok (.iload_n 3, 1) := by decide +kernel
theorem dL_law_135 : decode cL_law 135 = .ok (.iconst 2, 1) := by decide +kernel
theorem dL_law_136 : decode cL_law 136 = .ok (.iadd, 1) := by decide +kernel
theorem dL_law_137 : decode cL_law 137 = .ok (.iaload, 1) := by decide +kernel
theorem dL_law_138 : decode cL_law 138 = .ok (.invokevirtual 18, 3) := by decide +kernel
theorem dL_law_141 : decode cL_law 141 = .ok (.aload_n 2, 1) := by decide +kernel
theorem dL_law_142 : decode cL_law 142 = .ok (.aload_n 0, 1) := by decide +kernel
theorem dL_law_143 : decode cL_law 143 = .ok (.iload_n 3, 1) := by decide +kernel
theorem dL_law_144 : decode cL_law 144 = .ok (.iconst 1, 1) := by decide +kernel
theorem dL_law_145 : decode cL_law 145 = .ok (.iadd, 1) := by decide +kernel
theorem dL_law_146 : decode cL_law 146 = .ok (.iaload, 1) := by decide +kernel
theorem dL_law_147 : decode cL_law 147 = .ok (.aload_n 0, 1) := by decide +kernel
theorem dL_law_148 : decode cL_law 148 = .ok (.iload_n 3, 1) := by decide +kernel
theorem dL_law_149 : decode cL_law 149 = .ok (.iconst 2, 1) := by decide +kernel
theorem dL_law_150 : decode cL_law 150 = .ok (.iadd, 1) := by decide +kernel
theorem dL_law_151 : decode cL_law 151 = .ok (.iaload, 1) := by decide +kernel
theorem dL_law_152 : decode cL_law 152 = .ok (.invokevirtual 22, 3) := by decide +kernel
theorem dL_law_155 : decode cL_law 155 = .ok (.if_icmp .eq 247, 3) := by decide +kernel
theorem dL_law_158 : decode cL_law 158 = .ok (.iconst 0, 1) := by decide +kernel
theorem dL_law_159 : decode cL_law 159 = .ok (.ireturn, 1) := by decide +kernel
theorem dL_law_160 : decode cL_law 160 = .ok (.aload_n 1, 1) := by decide +kernel
theorem dL_law_161 : decode cL_law 161 = .ok (.aload_n 0, 1) := by decide +kernel
theorem dL_law_162 : decode cL_law 162 = .ok (.iload_n 3, 1) := by decide +kernel
theorem dL_law_163 : decode cL_law 163 = .ok (.iconst 1, 1) := by decide +kernel
theorem dL_law_164 : decode cL_law 164 = .ok (.iadd, 1) := by decide +kernel
theorem dL_law_165 : decode cL_law 165 = .ok (.iaload, 1) := by decide +kernel
theorem dL_law_166 : decode cL_law 166 = .ok (.invokevirtual 23, 3) := by decide +kernel
theorem dL_law_169 : decode cL_law 169 = .ok (.aload_n 2, 1) := by decide +kernel
theorem dL_law_170 : decode cL_law 170 = .ok (.aload_n 0, 1) := by decide +kernel
theorem dL_law_171 : decode cL_law 171 = .ok (.iload_n 3, 1) := by decide +kernel
theorem dL_law_172 : decode cL_law 172 = .ok (.iconst 1, 1) := by decide +kernel
theorem dL_law_173 : decode cL_law 173 = .ok (.iadd, 1) := by decide +kernel
theorem dL_law_174 : decode cL_law 174 = .ok (.iaload, 1) := by decide +kernel
theorem dL_law_175 : decode cL_law 175 = .ok (.invokevirtual 26, 3) := by decide +kernel
theorem dL_law_178 : decode cL_law 178 = .ok (.if_icmp .eq 224, 3) := by decide +kernel
theorem dL_law_181 : decode cL_law 181 = .ok (.iconst 0, 1) := by decide +kernel
theorem dL_law_182 : decode cL_law 182 = .ok (.ireturn, 1) := by decide +kernel
theorem dL_law_183 : decode cL_law 183 = .ok (.aload_n 1, 1) := by decide +kernel
theorem dL_law_184 : decode cL_law 184 = .ok (.aload_n 0, 1) := by decide +kernel
theorem dL_law_185 : decode cL_law 185 = .ok (.iload_n 3, 1) := by decide +kernel
theorem dL_law_186 : decode cL_law 186 = .ok (.iconst 1, 1) := by decide +kernel
theorem dL_law_187 : decode cL_law 187 = .ok (.iadd, 1) := by decide +kernel
theorem dL_law_188 : decode cL_law 188 = .ok (.iaload, 1) := by decide +kernel
theorem dL_law_189 : decode cL_law 189 = .ok (.aload_n 0, 1) := by decide +kernel
theorem dL_law_190 : decode cL_law 190 = .ok (.iload_n 3, 1) := by decide +kernel
theorem dL_law_191 : decode cL_law 191 = .ok (.iconst 2, 1) := by decide +kernel
theorem dL_law_192 : decode cL_law 192 = .ok (.iadd, 1) := by decide +kernel
theorem dL_law_193 : decode cL_law 193 = .ok (.iaload, 1) := by decide +kernel
theorem dL_law_194 : decode cL_law 194 = .ok (.invokevirtual 27, 3) := by decide +kernel
theorem dL_law_197 : decode cL_law 197 = .ok (.aload_n 2, 1) := by decide +kernel
theorem dL_law_198 : decode cL_law 198 = .ok (.aload_n 0, 1) := by decide +kernel
theorem dL_law_199 : decode cL_law 199 = .ok (.iload_n 3, 1) := by decide +kernel
theorem dL_law_200 : decode cL_law 200 = .ok (.iconst 1, 1) := by decide +kernel
theorem dL_law_201 : decode cL_law 201 = .ok (.iadd, 1) := by decide +kernel
theorem dL_law_202 : decode cL_law 202 = .ok (.iaload, 1) := by decide +kernel
theorem dL_law_203 : decode cL_law 203 = .ok (.aload_n 0, 1) := by decide +kernel
theorem dL_law_204 : decode cL_law 204 = .ok (.iload_n 3, 1) := by decide +kernel
theorem dL_law_205 : decode cL_law 205 = .ok (.iconst 2, 1) := by decide +kernel
theorem dL_law_206 : decode cL_law 206 = .ok (.iadd, 1) := by decide +kernel
theorem dL_law_207 : decode cL_law 207 = .ok (.iaload, 1) := by decide +kernel
theorem dL_law_208 : decode cL_law 208 = .ok (.invokevirtual 30, 3) := by decide +kernel
theorem dL_law_211 : decode cL_law 211 = .ok (.if_icmp .eq 191, 3) := by decide +kernel
theorem dL_law_214 : decode cL_law 214 = .ok (.iconst 0, 1) := by decide +kernel
theorem dL_law_215 : decode cL_law 215 = .ok (.ireturn, 1) := by decide +kernel
theorem dL_law_216 : decode cL_law 216 = .ok (.aload_n 1, 1) := by decide +kernel
theorem dL_law_217 : decode cL_law 217 = .ok (.invokevirtual 31, 3) := by decide +kernel
theorem dL_law_220 : decode cL_law 220 = .ok (.aload_n 2, 1) := by decide +kernel
theorem dL_law_221 : decode cL_law 221 = .ok (.invokevirtual 34, 3) := by decide +kernel
theorem dL_law_224 : decode cL_law 224 = .ok (.goto 178, 3) := by decide +kernel
theorem dL_law_227 : decode cL_law 227 = .ok (.aload_n 1, 1) := by decide +kernel
theorem dL_law_228 : decode cL_law 228 = .ok (.invokevirtual 35, 3) := by decide +kernel
theorem dL_law_231 : decode cL_law 231 = .ok (.aload_n 2, 1) := by decide +kernel
theorem dL_law_232 : decode cL_law 232 = .ok (.invokevirtual 38, 3) := by decide +kernel
theorem dL_law_235 : decode cL_law 235 = .ok (.goto 167, 3) := by decide +kernel
theorem dL_law_238 : decode cL_law 238 = .ok (.aload_n 1, 1) := by decide +kernel
theorem dL_law_239 : decode cL_law 239 = .ok (.invokevirtual 39, 3) := by decide +kernel
theorem dL_law_242 : decode cL_law 242 = .ok (.aload_n 2, 1) := by decide +kernel
theorem dL_law_243 : decode cL_law 243 = .ok (.invokevirtual 43, 3) := by decide +kernel
theorem dL_law_246 : decode cL_law 246 = .ok (.if_icmp .eq 156, 3) := by decide +kernel
theorem dL_law_249 : decode cL_law 249 = .ok (.iconst 0, 1) := by decide +kernel
theorem dL_law_250 : decode cL_law 250 = .ok (.ireturn, 1) := by decide +kernel
theorem dL_law_251 : decode cL_law 251 = .ok (.aload_n 1, 1) := by decide +kernel
theorem dL_law_252 : decode cL_law 252 = .ok (.aload_n 0, 1) := by decide +kernel
theorem dL_law_253 : decode cL_law 253 = .ok (.iload_n 3, 1) := by decide +kernel
theorem dL_law_254 : decode cL_law 254 = .ok (.iconst 1, 1) := by decide +kernel
theorem dL_law_255 : decode cL_law 255 = .ok (.iadd, 1) := by decide +kernel
theorem dL_law_256 : decode cL_law 256 = .ok (.iaload, 1) := by decide +kernel
theorem dL_law_257 : decode cL_law 257 = .ok (.invokevirtual 44, 3) := by decide +kernel
theorem dL_law_260 : decode cL_law 260 = .ok (.aload_n 2, 1) := by decide +kernel
theorem dL_law_261 : decode cL_law 261 = .ok (.aload_n 0, 1) := by decide +kernel
theorem dL_law_262 : decode cL_law 262 = .ok (.iload_n 3, 1) := by decide +kernel
theorem dL_law_263 : decode cL_law 263 = .ok (.iconst 1, 1) := by decide +kernel
theorem dL_law_264 : decode cL_law 264 = .ok (.iadd, 1) := by decide +kernel
theorem dL_law_265 : decode cL_law 265 = .ok (.iaload, 1) := by decide +kernel
theorem dL_law_266 : decode cL_law 266 = .ok (.invokevirtual 47, 3) := by decide +kernel
theorem dL_law_269 : decode cL_law 269 = .ok (.if_icmp .eq 133, 3) := by decide +kernel
theorem dL_law_272 : decode cL_law 272 = .ok (.iconst 0, 1) := by decide +kernel
theorem dL_law_273 : decode cL_law 273 = .ok (.ireturn, 1) := by decide +kernel
theorem dL_law_274 : decode cL_law 274 = .ok (.aload_n 1, 1) := by decide +kernel
theorem dL_law_275 : decode cL_law 275 = .ok (.aload_n 0, 1) := by decide +kernel
theorem dL_law_276 : decode cL_law 276 = .ok (.iload_n 3, 1) := by decide +kernel
theorem dL_law_277 : decode cL_law 277 = .ok (.iconst 1, 1) := by decide +kernel
theorem dL_law_278 : decode cL_law 278 = .ok (.iadd, 1) := by decide +kernel
theorem dL_law_279 : decode cL_law 279 = .ok (.iaload, 1) := by decide +kernel
theorem dL_law_280 : decode cL_law 280 = .ok (.aload_n 0, 1) := by decide +kernel
theorem dL_law_281 : decode cL_law 281 = .ok (.iload_n 3, 1) := by decide +kernel
theorem dL_law_282 : decode cL_law 282 = .ok (.iconst 2, 1) := by decide +kernel
theorem dL_law_283 : decode cL_law 283 = .ok (.iadd, 1) := by decide +kernel
theorem dL_law_284 : decode cL_law 284 = .ok (.iaload, 1) := by decide +kernel
theorem dL_law_285 : decode cL_law 285 = .ok (.invokevirtual 48, 3) := by decide +kernel
theorem dL_law_288 : decode cL_law 288 = .ok (.aload_n 2, 1) := by decide +kernel
theorem dL_law_289 : decode cL_law 289 = .ok (.aload_n 0, 1) := by decide +kernel
theorem dL_law_290 : decode cL_law 290 = .ok (.iload_n 3, 1) := by decide +kernel
theorem dL_law_291 : decode cL_law 291 = .ok (.iconst 1, 1) := by decide +kernel
theorem dL_law_292 : decode cL_law 292 = .ok (.iadd, 1) := by decide +kernel
theorem dL_law_293 : decode cL_law 293 = .ok (.iaload, 1) := by decide +kernel
theorem dL_law_294 : decode cL_law 294 = .ok (.aload_n 0, 1) := by decide +kernel
theorem dL_law_295 : decode cL_law 295 = .ok (.iload_n 3, 1) := by decide +kernel
theorem dL_law_296 : decode cL_law 296 = .ok (.iconst 2, 1) := by decide +kernel
theorem dL_law_297 : decode cL_law 297 = .ok (.iadd, 1) := by decide +kernel
theorem dL_law_298 : decode cL_law 298 = .ok (.iaload, 1) := by decide +kernel
theorem dL_law_299 : decode cL_law 299 = .ok (.invokevirtual 51, 3) := by decide +kernel
theorem dL_law_302 : decode cL_law 302 = .ok (.if_icmp .eq 100, 3) := by decide +kernel
theorem dL_law_305 : decode cL_law 305 = .ok (.iconst 0, 1) := by decide +kernel
theorem dL_law_306 : decode cL_law 306 = .ok (.ireturn, 1) := by decide +kernel
theorem dL_law_307 : decode cL_law 307 = .ok (.aload_n 1, 1) := by decide +kernel
theorem dL_law_308 : decode cL_law 308 = .ok (.invokevirtual 52, 3) := by decide +kernel
theorem dL_law_311 : decode cL_law 311 = .ok (.aload_n 2, 1) := by decide +kernel
theorem dL_law_312 : decode cL_law 312 = .ok (.invokevirtual 55, 3) := by decide +kernel
theorem dL_law_315 : decode cL_law 315 = .ok (.if_icmp .eq 87, 3) := by decide +kernel
theorem dL_law_318 : decode cL_law 318 = .ok (.iconst 0, 1) := by decide +kernel
theorem dL_law_319 : decode cL_law 319 = .ok (.ireturn, 1) := by decide +kernel
theorem dL_law_320 : decode cL_law 320 = .ok (.aload_n 1, 1) := by decide +kernel
theorem dL_law_321 : decode cL_law 321 = .ok (.invokevirtual 56, 3) := by decide +kernel
theorem dL_law_324 : decode cL_law 324 = .ok (.aload_n 2, 1) := by decide +kernel
theorem dL_law_325 : decode cL_law 325 = .ok (.invokevirtual 59, 3) := by decide +kernel
theorem dL_law_328 : decode cL_law 328 = .ok (.if_icmp .eq 74, 3) := by decide +kernel
theorem dL_law_331 : decode cL_law 331 = .ok (.iconst 0, 1) := by decide +kernel
theorem dL_law_332 : decode cL_law 332 = .ok (.ireturn, 1) := by decide +kernel
theorem dL_law_333 : decode cL_law 333 = .ok (.aload_n 1, 1) := by decide +kernel
theorem dL_law_334 : decode cL_law 334 = .ok (.invokevirtual 60, 3) := by decide +kernel
theorem dL_law_337 : decode cL_law 337 = .ok (.aload_n 2, 1) := by decide +kernel
theorem dL_law_338 : decode cL_law 338 = .ok (.invokevirtual 63, 3) := by decide +kernel
theorem dL_law_341 : decode cL_law 341 = .ok (.if_icmp .eq 61, 3) := by decide +kernel
theorem dL_law_344 : decode cL_law 344 = .ok (.iconst 0, 1) := by decide +kernel
theorem dL_law_345 : decode cL_law 345 = .ok (.ireturn, 1) := by decide +kernel
theorem dL_law_346 : decode cL_law 346 = .ok (.aload_n 1, 1) := by decide +kernel
theorem dL_law_347 : decode cL_law 347 = .ok (.aload_n 0, 1) := by decide +kernel
theorem dL_law_348 : decode cL_law 348 = .ok (.iload_n 3, 1) := by decide +kernel
theorem dL_law_349 : decode cL_law 349 = .ok (.iconst 1, 1) := by decide +kernel
theorem dL_law_350 : decode cL_law 350 = .ok (.iadd, 1) := by decide +kernel
theorem dL_law_351 : decode cL_law 351 = .ok (.iaload, 1) := by decide +kernel
theorem dL_law_352 : decode cL_law 352 = .ok (.invokevirtual 64, 3) := by decide +kernel
theorem dL_law_355 : decode cL_law 355 = .ok (.aload_n 2, 1) := by decide +kernel
theorem dL_law_356 : decode cL_law 356 = .ok (.aload_n 0, 1) := by decide +kernel
theorem dL_law_357 : decode cL_law 357 = .ok (.iload_n 3, 1) := by decide +kernel
theorem dL_law_358 : decode cL_law 358 = .ok (.iconst 1, 1) := by decide +kernel
theorem dL_law_359 : decode cL_law 359 = .ok (.iadd, 1) := by decide +kernel
theorem dL_law_360 : decode cL_law 360 = .ok (.iaload, 1) := by decide +kernel
theorem dL_law_361 : decode cL_law 361 = .ok (.invokevirtual 67, 3) := by decide +kernel
theorem dL_law_364 : decode cL_law 364 = .ok (.if_icmp .eq 38, 3) := by decide +kernel
theorem dL_law_367 : decode cL_law 367 = .ok (.iconst 0, 1) := by decide +kernel
theorem dL_law_368 : decode cL_law 368 = .ok (.ireturn, 1) := by decide +kernel
theorem dL_law_369 : decode cL_law 369 = .ok (.aload_n 1, 1) := by decide +kernel
theorem dL_law_370 : decode cL_law 370 = .ok (.aload_n 0, 1) := by decide +kernel
theorem dL_law_371 : decode cL_law 371 = .ok (.iload_n 3, 1) := by decide +kernel
theorem dL_law_372 : decode cL_law 372 = .ok (.iconst 1, 1) := by decide +kernel
theorem dL_law_373 : decode cL_law 373 = .ok (.iadd, 1) := by decide +kernel
theorem dL_law_374 : decode cL_law 374 = .ok (.iaload, 1) := by decide +kernel
theorem dL_law_375 : decode cL_law 375 = .ok (.aload_n 0, 1) := by decide +kernel
theorem dL_law_376 : decode cL_law 376 = .ok (.iload_n 3, 1) := by decide +kernel
theorem dL_law_377 : decode cL_law 377 = .ok (.iconst 2, 1) := by decide +kernel
theorem dL_law_378 : decode cL_law 378 = .ok (.iadd, 1) := by decide +kernel
theorem dL_law_379 : decode cL_law 379 = .ok (.iaload, 1) := by decide +kernel
theorem dL_law_380 : decode cL_law 380 = .ok (.invokevirtual 68, 3) := by decide +kernel
theorem dL_law_383 : decode cL_law 383 = .ok (.aload_n 2, 1) := by decide +kernel
theorem dL_law_384 : decode cL_law 384 = .ok (.aload_n 0, 1) := by decide +kernel
theorem dL_law_385 : decode cL_law 385 = .ok (.iload_n 3, 1) := by decide +kernel
theorem dL_law_386 : decode cL_law 386 = .ok (.iconst 1, 1) := by decide +kernel
theorem dL_law_387 : decode cL_law 387 = .ok (.iadd, 1) := by decide +kernel
theorem dL_law_388 : decode cL_law 388 = .ok (.iaload, 1) := by decide +kernel
theorem dL_law_389 : decode cL_law 389 = .ok (.aload_n 0, 1) := by decide +kernel
theorem dL_law_390 : decode cL_law 390 = .ok (.iload_n 3, 1) := by decide +kernel
theorem dL_law_391 : decode cL_law 391 = .ok (.iconst 2, 1) := by decide +kernel
theorem dL_law_392 : decode cL_law 392 = .ok (.iadd, 1) := by decide +kernel
theorem dL_law_393 : decode cL_law 393 = .ok (.iaload, 1) := by decide +kernel
theorem dL_law_394 : decode cL_law 394 = .ok (.invokevirtual 71, 3) := by decide +kernel
theorem dL_law_397 : decode cL_law 397 = .ok (.if_icmp .eq 5, 3) := by decide +kernel
theorem dL_law_400 : decode cL_law 400 = .ok (.iconst 0, 1) := by decide +kernel
theorem dL_law_401 : decode cL_law 401 = .ok (.ireturn, 1) := by decide +kernel
theorem dL_law_402 : decode cL_law 402 = .ok (.iinc 3 3, 3) := by decide +kernel
theorem dL_law_405 : decode cL_law 405 = .ok (.goto (-387), 3) := by decide +kernel
theorem dL_law_408 : decode cL_law 408 = .ok (.iconst 1, 1) := by decide +kernel
theorem dL_law_409 : decode cL_law 409 = .ok (.ireturn, 1) := by decide +kernel
end
section
/-! BASE: the two classes, contracts of one form, rows over numbers nI n, calls with a frame -/
set_option maxRecDepth 100000
abbrev vwCl : List vw_C := [(RX0, TX0, 13), (RX1, TX1, 3)]
abbrev st_P (As : List Value) (D : va_G) (tys : List (ClassId × FieldType)) (w : va_W) (sz : Nat) : Array Value → State → Prop :=
  va_Pc As (fun U => U.heap.size = sz ∧ va_P D vwCl w U.heap ∧ va_K D vwCl tys U ∧ va_D (fun _ => True) w)
abbrev st_I {S : Type} (D : va_G) (tys : List (ClassId × FieldType)) (post : Int32 → S → Prop) (wf : S → va_W) (A : Nat → Prop) : Array Value → State → Outcome → State → Prop :=
  va_Qi post (fun u t => va_P D vwCl (wf u) t.heap ∧ va_K D vwCl tys t ∧ va_D A (wf u)) A
abbrev st_V {S : Type} (D : va_G) (tys : List (ClassId × FieldType)) (post : S → Prop) (wf : S → va_W) (A : Nat → Prop) : Array Value → State → Outcome → State → Prop :=
  va_Qv post (fun u t => va_P D vwCl (wf u) t.heap ∧ va_K D vwCl tys t ∧ va_D A (wf u)) A
/-- a contract: from the world w the method y answers r and leaves the world wf u, with post r u -/
def ct_I {S : Type} (l : Launch) (y : MethodName) (cc : ByteArray) (maxL : Nat) (ret : Option FieldType) (rm : Room) (As : List Value) (D : va_G) (tys : List (ClassId × FieldType)) (w : va_W) (post : Int32 → S → Prop) (wf : S → va_W) : Prop :=
  ∀ sz, Met l y (ws_ y cc maxL ret) rm (st_P As D tys w sz) (st_I D tys post wf (va_A w sz)) 0 0 (va_A w sz)
def ct_V {S : Type} (l : Launch) (y : MethodName) (cc : ByteArray) (maxL : Nat) (ret : Option FieldType) (rm : Room) (As : List Value) (D : va_G) (tys : List (ClassId × FieldType)) (w : va_W) (post : S → Prop) (wf : S → va_W) : Prop :=
  ∀ sz, Met l y (ws_ y cc maxL ret) rm (st_P As D tys w sz) (st_V D tys post wf (va_A w sz)) 0 0 (va_A w sz)
set_option maxHeartbeats 4000000 in
/-- a method's start -/
theorem st_of {l : Launch} {y : MethodName} {cc : ByteArray} {maxL mc ms : Nat} {ret : Option FieldType} {rm : Room} {As : List Value} {D : va_G} {tys : List (ClassId × FieldType)} {w : va_W} {QA : (Nat → Prop) → Array Value → State → Outcome → State → Prop} {sz : Nat} (hy : plainName y.cls = true) (hlen : (lg_sl As).length ≤ maxL)
    (body : ∀ (p : Program) (e : Env) (s : State) (m : MethodId) (below : List Frame) (meth : Method) (c : Code) (A : Nat → Prop) (ls : Array Slot), p.tables.exec = Jvm.exec → c.code = cc → meth.sig.returnType = ret → c.maxLocals = maxL → meth.locks = false → s.vm.findClass y.cls = some m.cls → (∀ w ∈ lw_all, w.before As.toArray s = true) → meth.name = y.name → va_K D vwCl tys s → va_P D vwCl w s.heap → va_D A w → va_S A s.heap s.heap [] → (∀ q : Nat, s.heap.size ≤ q → A q) → lv_has ls maxL (lv_args 0 As) →
      W p l e rm s m As.toArray below meth c s.heap [] 0 0 (MQ below (QA A) As.toArray s mc ms A) (F0 m 0 ls [])) :
    Met l y (ws_ y cc maxL ret) rm (st_P As D tys w sz) (QA (va_A w sz)) mc ms (va_A w sz) := by
  refine Met.ofW (cc := cc) (maxL := maxL) (ret := ret) hy rfl ?_
  intro p e s m args below meth c s₁ B hml hv
  obtain ⟨rfl, hsz, hP, hK, hD0⟩ := hv
  have hts := atoms_spec (ws := ws_ y cc maxL ret) B.pre
  have hts : ∀ w ∈ lw_all, w.before _ s = true := fun w h => hts w (List.mem_cons_of_mem _ h)
  subst hsz
  have hl := lv_entry As (n := maxL) hlen
  rw [lg_entry_eq]
  exact body p e s m below meth c _ _ B.exec B.bytes B.returns hml B.notSynchronized (findClass_of_methodNamed B.named) hts (name_of_methodNamed B.named B.method).1 hK hP hD0.self va_S.rf (fun q h => Or.inr h) hl
section ST
variable {p : Program} {l : Launch} {e : Env} {R : Room} {s : State} {m : MethodId} {args : Array Value} {below : List Frame} {meth : Method} {c : Code} {H H0 : Heap} {locs : List Loc} {cells slots : Nat} {Q : State → Prop} {cc : ByteArray} {pc : Nat} {ls : Array Slot} {rest : List Value} {D : va_G} {tys : List (ClassId × FieldType)} {A : Nat → Prop}
/-! ends -/
theorem st_iret {S : Type} {post : Int32 → S → Prop} {wf : S → va_W} {v : Int32} (u : S) (hx : p.tables.exec = Jvm.exec) (hb : c.code = cc) (hr : meth.sig.returnType = some .int) (hlocks : meth.locks = false) (hK : va_K D vwCl tys s) (hP : va_P D vwCl (wf u) H) (hD : va_D A (wf u)) (hS : va_S A s.heap H locs) (hdg : decode cc pc = .ok (.ireturn, 1)) (hpost : post v u) : W p l e R s m args below meth c H locs cells slots (MQ below (st_I D tys post wf A) args s cells slots A) (F0 m pc ls [.int v]) :=
  W.iret (v := v) hx hb hr (fun t ht hW => ⟨⟨v, u, rfl, hpost, by rw [ht]; exact hP, va_K.moved hW.alike hK, hD⟩, hS.F ht⟩) hS.2.2 hdg hlocks
theorem st_zret {S : Type} {post : Int32 → S → Prop} {wf : S → va_W} {v : Int32} (u : S) (hv : narrow .boolean (.int v) = .int v) (hx : p.tables.exec = Jvm.exec) (hb : c.code = cc) (hr : meth.sig.returnType = some .boolean) (hlocks : meth.locks = false) (hK : va_K D vwCl tys s) (hP : va_P D vwCl (wf u) H) (hD : va_D A (wf u)) (hS : va_S A s.heap H locs) (hdg : decode cc pc = .ok (.ireturn, 1)) (hpost : post v u) : W p l e R s m args below meth c H locs cells slots (MQ below (st_I D tys post wf A) args s cells slots A) (F0 m pc ls [.int v]) :=
  W.zret (v := v) hx hb hr hv (fun t ht hW => ⟨⟨v, u, rfl, hpost, by rw [ht]; exact hP, va_K.moved hW.alike hK, hD⟩, hS.F ht⟩) hS.2.2 hdg hlocks
theorem st_vret {S : Type} {post : S → Prop} {wf : S → va_W} (u : S) (hx : p.tables.exec = Jvm.exec) (hb : c.code = cc) (hr : meth.sig.returnType = none) (hlocks : meth.locks = false) (hK : va_K D vwCl tys s) (hP : va_P D vwCl (wf u) H) (hD : va_D A (wf u)) (hS : va_S A s.heap H locs) (hdg : decode cc pc = .ok (.return_, 1)) (hpost : post u) : W p l e R s m args below meth c H locs cells slots (MQ below (st_V D tys post wf A) args s cells slots A) (F0 m pc ls []) :=
  W.vret hx hb hr (fun t ht hW => ⟨⟨u, rfl, hpost, by rw [ht]; exact hP, va_K.moved hW.alike hK, hD⟩, hS.F ht⟩) hS.2.2 hdg hlocks
/-! numbers -/
theorem st_topi {x y : Int32} (h : x = y) (k : W p l e R s m args below meth c H locs cells slots Q (F0 m pc ls (.int y :: rest))) : W p l e R s m args below meth c H locs cells slots Q (F0 m pc ls (.int x :: rest)) := by
  subst h; exact k
theorem ni_add {a b : Nat} (hx : p.tables.exec = Jvm.exec) (hb : c.code = cc) (hdg : decode cc pc = .ok (.iadd, 1)) (k : W p l e R s m args below meth c H locs cells slots Q (F0 m (pc + 1) ls (.int (nI (a + b)) :: rest))) : W p l e R s m args below meth c H locs cells slots Q (F0 m pc ls (.int (nI b) :: .int (nI a) :: rest)) :=
  lv_iadd hx hb hdg (st_topi (nI_add a b) k)
theorem ni_sub {a b : Nat} (h : b ≤ a) (hx : p.tables.exec = Jvm.exec) (hb : c.code = cc) (hdg : decode cc pc = .ok (.isub, 1)) (k : W p l e R s m args below meth c H locs cells slots Q (F0 m (pc + 1) ls (.int (nI (a - b)) :: rest))) : W p l e R s m args below meth c H locs cells slots Q (F0 m pc ls (.int (nI b) :: .int (nI a) :: rest)) :=
  lv_isub hx hb hdg (st_topi (pk_sub h) k)
theorem ni_inc (i : Nat) : nI i + Int32.ofInt 1 = nI (i + 1) := nI_1 i
theorem ni_dec {i : Nat} (h : 1 ≤ i) : nI i + Int32.ofInt (-1) = nI (i - 1) := sb_m1 h
theorem ni_inc3 (i : Nat) : nI i + Int32.ofInt 3 = nI (i + 3) := nI_add i 3
theorem ni_icmp_eq {a b : Nat} {off : Int} {tgt : Nat} (hx : p.tables.exec = Jvm.exec) (hb : c.code = cc) (hdg : decode cc pc = .ok (.if_icmp .eq off, 3)) (ht : (pc : Int) + off = (tgt : Int)) (h1 : a < 2 ^ 31) (h2 : b < 2 ^ 31) (kt : a = b → W p l e R s m args below meth c H locs cells slots Q (F0 m tgt ls rest)) (kf : ¬ a = b → W p l e R s m args below meth c H locs cells slots Q (F0 m (pc + 3) ls rest)) : W p l e R s m args below meth c H locs cells slots Q (F0 m pc ls (.int (nI b) :: .int (nI a) :: rest)) :=
  lv_icmp_eq hx hb hdg ht (fun h => kt ((nI_eq h1 h2).mp h)) (fun h => kf (fun q => h ((nI_eq h1 h2).mpr q)))
theorem ni_icmp_ne {a b : Nat} {off : Int} {tgt : Nat} (hx : p.tables.exec = Jvm.exec) (hb : c.code = cc) (hdg : decode cc pc = .ok (.if_icmp .ne off, 3)) (ht : (pc : Int) + off = (tgt : Int)) (h1 : a < 2 ^ 31) (h2 : b < 2 ^ 31) (kt : ¬ a = b → W p l e R s m args below meth c H locs cells slots Q (F0 m tgt ls rest)) (kf : a = b → W p l e R s m args below meth c H locs cells slots Q (F0 m (pc + 3) ls rest)) : W p l e R s m args below meth c H locs cells slots Q (F0 m pc ls (.int (nI b) :: .int (nI a) :: rest)) :=
  lv_icmp_ne hx hb hdg ht (fun h => kt (fun q => h ((nI_eq h1 h2).mpr q))) (fun h => kf ((nI_eq h1 h2).mp h))
theorem ni_icmp_lt {a b : Nat} {off : Int} {tgt : Nat} (hx : p.tables.exec = Jvm.exec) (hb : c.code = cc) (hdg : decode cc pc = .ok (.if_icmp .lt off, 3)) (ht : (pc : Int) + off = (tgt : Int)) (h1 : a < 2 ^ 31) (h2 : b < 2 ^ 31) (kt : a < b → W p l e R s m args below meth c H locs cells slots Q (F0 m tgt ls rest)) (kf : b ≤ a → W p l e R s m args below meth c H locs cells slots Q (F0 m (pc + 3) ls rest)) : W p l e R s m args below meth c H locs cells slots Q (F0 m pc ls (.int (nI b) :: .int (nI a) :: rest)) :=
  lv_icmp_lt hx hb hdg ht (fun h => kt ((nI_ltI h1 h2).mp h)) (fun h => kf (Nat.le_of_not_lt (fun q => h ((nI_ltI h1 h2).mpr q))))
theorem ni_icmp_ge {a b : Nat} {off : Int} {tgt : Nat} (hx : p.tables.exec = Jvm.exec) (hb : c.code = cc) (hdg : decode cc pc = .ok (.if_icmp .ge off, 3)) (ht : (pc : Int) + off = (tgt : Int)) (h1 : a < 2 ^ 31) (h2 : b < 2 ^ 31) (kt : b ≤ a → W p l e R s m args below meth c H locs cells slots Q (F0 m tgt ls rest)) (kf : a < b → W p l e R s m args below meth c H locs cells slots Q (F0 m (pc + 3) ls rest)) : W p l e R s m args below meth c H locs cells slots Q (F0 m pc ls (.int (nI b) :: .int (nI a) :: rest)) :=
  lv_icmp_ge hx hb hdg ht (fun h => kt ((nI_leI h2 h1).mp h)) (fun h => kf (Nat.lt_of_not_le (fun q => h ((nI_leI h2 h1).mpr q))))
theorem ni_icmp_gt {a b : Nat} {off : Int} {tgt : Nat} (hx : p.tables.exec = Jvm.exec) (hb : c.code = cc) (hdg : decode cc pc = .ok (.if_icmp .gt off, 3)) (ht : (pc : Int) + off = (tgt : Int)) (h1 : a < 2 ^ 31) (h2 : b < 2 ^ 31) (kt : b < a → W p l e R s m args below meth c H locs cells slots Q (F0 m tgt ls rest)) (kf : a ≤ b → W p l e R s m args below meth c H locs cells slots Q (F0 m (pc + 3) ls rest)) : W p l e R s m args below meth c H locs cells slots Q (F0 m pc ls (.int (nI b) :: .int (nI a) :: rest)) :=
  lv_icmp_gt hx hb hdg ht (fun h => kt ((nI_ltI h2 h1).mp h)) (fun h => kf (Nat.le_of_not_lt (fun q => h ((nI_ltI h2 h1).mpr q))))
theorem ni_icmp_le {a b : Nat} {off : Int} {tgt : Nat} (hx : p.tables.exec = Jvm.exec) (hb : c.code = cc) (hdg : decode cc pc = .ok (.if_icmp .le off, 3)) (ht : (pc : Int) + off = (tgt : Int)) (h1 : a < 2 ^ 31) (h2 : b < 2 ^ 31) (kt : a ≤ b → W p l e R s m args below meth c H locs cells slots Q (F0 m tgt ls rest)) (kf : b < a → W p l e R s m args below meth c H locs cells slots Q (F0 m (pc + 3) ls rest)) : W p l e R s m args below meth c H locs cells slots Q (F0 m pc ls (.int (nI b) :: .int (nI a) :: rest)) :=
  lv_icmp_le hx hb hdg ht (fun h => kt ((nI_leI h1 h2).mp h)) (fun h => kf (Nat.lt_of_not_le (fun q => h ((nI_leI h1 h2).mpr q))))
theorem ni_if_le {a : Nat} {off : Int} {tgt : Nat} (hx : p.tables.exec = Jvm.exec) (hb : c.code = cc) (hdg : decode cc pc = .ok (.ifCond .le off, 3)) (ht : (pc : Int) + off = (tgt : Int)) (h1 : a < 2 ^ 31) (kt : a = 0 → W p l e R s m args below meth c H locs cells slots Q (F0 m tgt ls rest)) (kf : 0 < a → W p l e R s m args below meth c H locs cells slots Q (F0 m (pc + 3) ls rest)) : W p l e R s m args below meth c H locs cells slots Q (F0 m pc ls (.int (nI a) :: rest)) :=
  lv_if_le hx hb hdg ht (fun h => kt (Decidable.of_not_not (fun q => nI_nle (Nat.pos_of_ne_zero q) h1 h))) (fun h => kf (Nat.pos_of_ne_zero (fun q => h (by rw [q, nI_0]; decide))))
theorem ni_if_eq {a : Nat} {off : Int} {tgt : Nat} (hx : p.tables.exec = Jvm.exec) (hb : c.code = cc) (hdg : decode cc pc = .ok (.ifCond .eq off, 3)) (ht : (pc : Int) + off = (tgt : Int)) (h1 : a < 2 ^ 31) (kt : a = 0 → W p l e R s m args below meth c H locs cells slots Q (F0 m tgt ls rest)) (kf : 0 < a → W p l e R s m args below meth c H locs cells slots Q (F0 m (pc + 3) ls rest)) : W p l e R s m args below meth c H locs cells slots Q (F0 m pc ls (.int (nI a) :: rest)) :=
  lv_if_eq hx hb hdg ht (fun h => kt (Decidable.of_not_not (fun q => nI_ne0 (Nat.pos_of_ne_zero q) h1 h))) (fun h => kf (Nat.pos_of_ne_zero (fun q => h (by rw [q, nI_0]))))
theorem ni_if_ne {a : Nat} {off : Int} {tgt : Nat} (hx : p.tables.exec = Jvm.exec) (hb : c.code = cc) (hdg : decode cc pc = .ok (.ifCond .ne off, 3)) (ht : (pc : Int) + off = (tgt : Int)) (h1 : a < 2 ^ 31) (kt : 0 < a → W p l e R s m args below meth c H locs cells slots Q (F0 m tgt ls rest)) (kf : a = 0 → W p l e R s m args below meth c H locs cells slots Q (F0 m (pc + 3) ls rest)) : W p l e R s m args below meth c H locs cells slots Q (F0 m pc ls (.int (nI a) :: rest)) :=
  lv_if_ne hx hb hdg ht (fun h => kt (Nat.pos_of_ne_zero (fun q => h (by rw [q, nI_0])))) (fun h => kf (Decidable.of_not_not (fun q => nI_ne0 (Nat.pos_of_ne_zero q) h1 h)))
theorem ni_if_lt {a : Nat} {off : Int} {tgt : Nat} (hx : p.tables.exec = Jvm.exec) (hb : c.code = cc) (hdg : decode cc pc = .ok (.ifCond .lt off, 3)) (ht : (pc : Int) + off = (tgt : Int)) (h1 : a < 2 ^ 31) (kf : W p l e R s m args below meth c H locs cells slots Q (F0 m (pc + 3) ls rest)) : W p l e R s m args below meth c H locs cells slots Q (F0 m pc ls (.int (nI a) :: rest)) :=
  lv_if_lt hx hb hdg ht (fun h => absurd h (nI_pos h1)) (fun _ => kf)
/-! arrays -/
theorem ni_ald {a : Nat} {ws : va_W} (hx : p.tables.exec = Jvm.exec) (hb : c.code = cc) (hK : va_K D vwCl tys s) (hP : va_P D vwCl ws H) (q0 t0 : Nat) {cA : ClassId} {n : Nat} {f : Nat → Int32} (ha : ws[q0]? = some (a, .inl (cA, n, .inl f))) (ht : tys[t0]? = some (cA, .int)) {i : Nat} (hn : n < 2 ^ 31) (hdg : decode cc pc = .ok (.iaload, 1)) (hi : i < n)
    (k : W p l e R s m args below meth c H locs cells slots Q (F0 m (pc + 1) ls (.int (f i) :: rest))) : W p l e R s m args below meth c H locs cells slots Q (F0 m pc ls (.int (nI i) :: .ref a :: rest)) :=
  va_iald hx hb hK hP q0 t0 ha ht (vp_in_nI hi hn) hdg (st_topi (by rw [nI_clamp (Nat.lt_trans hi hn)]) k)
theorem ni_zald {a : Nat} {ws : va_W} (hx : p.tables.exec = Jvm.exec) (hb : c.code = cc) (hK : va_K D vwCl tys s) (hP : va_P D vwCl ws H) (q0 t0 : Nat) {cA : ClassId} {n : Nat} {f : Nat → Int32} (ha : ws[q0]? = some (a, .inl (cA, n, .inl f))) (ht : tys[t0]? = some (cA, .boolean)) {i : Nat} (hn : n < 2 ^ 31) (hdg : decode cc pc = .ok (.baload, 1)) (hi : i < n)
    (k : W p l e R s m args below meth c H locs cells slots Q (F0 m (pc + 1) ls (.int (f i) :: rest))) : W p l e R s m args below meth c H locs cells slots Q (F0 m pc ls (.int (nI i) :: .ref a :: rest)) :=
  va_zald hx hb hK hP q0 t0 ha ht (vp_in_nI hi hn) hdg (st_topi (by rw [nI_clamp (Nat.lt_trans hi hn)]) k)
theorem ni_ast {a : Nat} {ws ws2 : va_W} (hx : p.tables.exec = Jvm.exec) (hb : c.code = cc) (hK : va_K D vwCl tys s) (hP : va_P D vwCl ws H) (hD : va_D A ws) (hS : va_S A H0 H locs) (q0 t0 : Nat) {cA : ClassId} {n : Nat} {f : Nat → Int32} (ha : ws[q0]? = some (a, .inl (cA, n, .inl f))) (ht : tys[t0]? = some (cA, .int)) {i : Nat} {x : Int32} (hw : ws.set q0 (a, .inl (cA, n, .inl (upd f i x))) = ws2) (hn : n < 2 ^ 31) (hdg : decode cc pc = .ok (.iastore, 1)) (hi : i < n)
    (kk : ∀ (H1 : Heap) (locs1 : List Loc), va_P D vwCl ws2 H1 → va_D A ws2 → va_S A H0 H1 locs1 → W p l e R s m args below meth c H1 locs1 cells slots Q (F0 m (pc + 1) ls rest)) : W p l e R s m args below meth c H locs cells slots Q (F0 m pc ls (.int x :: .int (nI i) :: .ref a :: rest)) := by
  refine va_iast hx hb hK hP hD hS q0 t0 ha ht (vp_in_nI hi hn) hdg ?_
  rw [nI_clamp (Nat.lt_trans hi hn), hw]
  exact kk
theorem ni_zast {a : Nat} {ws ws2 : va_W} (hx : p.tables.exec = Jvm.exec) (hb : c.code = cc) (hK : va_K D vwCl tys s) (hP : va_P D vwCl ws H) (hD : va_D A ws) (hS : va_S A H0 H locs) (q0 t0 : Nat) {cA : ClassId} {n : Nat} {f : Nat → Int32} (ha : ws[q0]? = some (a, .inl (cA, n, .inl f))) (ht : tys[t0]? = some (cA, .boolean)) {i : Nat} {x : Int32} (hxn : vp_nar .boolean x = x) (hw : ws.set q0 (a, .inl (cA, n, .inl (upd f i x))) = ws2) (hn : n < 2 ^ 31) (hdg : decode cc pc = .ok (.bastore, 1)) (hi : i < n)
    (kk : ∀ (H1 : Heap) (locs1 : List Loc), va_P D vwCl ws2 H1 → va_D A ws2 → va_S A H0 H1 locs1 → W p l e R s m args below meth c H1 locs1 cells slots Q (F0 m (pc + 1) ls rest)) : W p l e R s m args below meth c H locs cells slots Q (F0 m pc ls (.int x :: .int (nI i) :: .ref a :: rest)) := by
  refine va_zast hx hb hK hP hD hS q0 t0 ha ht (vp_in_nI hi hn) hdg ?_
  rw [nI_clamp (Nat.lt_trans hi hn), hxn, hw]
  exact kk
/-! the frame -/
theorem st_left {wc wr : va_W} (hP : va_P D vwCl (wc ++ wr) H) : va_P D vwCl wc H := fun k q h => hP k q (by rw [List.getElem?_append_left (List.getElem?_eq_some_iff.mp h).1]; exact h)
theorem st_leftD {wc wr : va_W} (hD : va_D A (wc ++ wr)) : va_D A wc := by
  have hc : ∀ (k : Nat) (q : Nat × va_E), wc[k]? = some q → (wc ++ wr)[k]? = some q := fun k q h => by rw [List.getElem?_append_left (List.getElem?_eq_some_iff.mp h).1]; exact h
  exact ⟨fun i j p q hi hj e => hD.1 i j p q (hc _ _ hi) (hc _ _ hj) e, fun k q h => hD.2 k q (hc _ _ h)⟩
theorem st_join {wc wr w1 : va_W} {H1 : Heap} (hP : va_P D vwCl (wc ++ wr) H) (hD : va_D A (wc ++ wr)) (hk : ∀ q : Nat, q < H.size → ¬ va_A wc H.size q → H1[q]? = H[q]?) (hF : ∀ q, va_A wc H.size q → A q) (hP1 : va_P D vwCl w1 H1) (hD1 : va_D (va_A wc H.size) w1) : va_P D vwCl (w1 ++ wr) H1 ∧ va_D A (w1 ++ wr) := by
  have hr : ∀ (k : Nat) (q : Nat × va_E), wr[k]? = some q → (wc ++ wr)[wc.length + k]? = some q := by
    intro k q h
    rw [List.getElem?_append_right (Nat.le_add_right _ _), Nat.add_sub_cancel_left]
    exact h
  have hc : ∀ (k : Nat) (q : Nat × va_E), wc[k]? = some q → (wc ++ wr)[k]? = some q := fun k q h => by rw [List.getElem?_append_left (List.getElem?_eq_some_iff.mp h).1]; exact h
  have apart : ∀ (k : Nat) (q : Nat × va_E), wr[k]? = some q → q.1 < H.size ∧ ¬ va_A wc H.size q.1 := by
    intro k q hq
    have hl := (hP _ q (hr k q hq)).lt
    refine ⟨hl, fun h => ?_⟩
    rcases h with ⟨k2, e, h⟩ | h
    · have h2 := hD.1 _ _ q (q.1, e) (hr k q hq) (hc k2 _ h) rfl
      have h3 := (List.getElem?_eq_some_iff.mp h).1
      omega
    · omega
  refine ⟨va_P.app hP1 (fun k q hq => ?_), va_D.app (hD1.weaken (fun k q _ h => hF q.1 h)) ⟨fun i j p q hi hj e => ?_, fun k q hq => hD.2 _ q (hr k q hq)⟩ (fun i j x y hx hy hxy => ?_)⟩
  · obtain ⟨g1, g2⟩ := apart k q hq
    exact (hP _ q (hr k q hq)).kept (hk q.1 g1 g2)
  · have h2 := hD.1 _ _ p q (hr i p hi) (hr j q hj) e
    omega
  · exact (apart j y hy).2 (by rw [← hxy]; exact hD1.2 i x hx)
theorem st_swapP {a b : va_W} (h : va_P D vwCl (a ++ b) H) : va_P D vwCl (b ++ a) H := by
  refine va_P.app (fun k q hq => h (a.length + k) q ?_) (st_left h)
  rw [List.getElem?_append_right (Nat.le_add_right _ _), Nat.add_sub_cancel_left]
  exact hq
theorem st_swapD {a b : va_W} (h : va_D A (a ++ b)) : va_D A (b ++ a) := by
  have hr : ∀ (k : Nat) (q : Nat × va_E), b[k]? = some q → (a ++ b)[a.length + k]? = some q := by
    intro k q h
    rw [List.getElem?_append_right (Nat.le_add_right _ _), Nat.add_sub_cancel_left]
    exact h
  have hc : ∀ (k : Nat) (q : Nat × va_E), a[k]? = some q → (a ++ b)[k]? = some q := fun k q h => by rw [List.getElem?_append_left (List.getElem?_eq_some_iff.mp h).1]; exact h
  refine va_D.app ⟨fun i j p q hi hj e => ?_, fun k q hq => h.2 _ q (hr k q hq)⟩ (st_leftD h) (fun i j x y hx hy hxy => ?_)
  · have h2 := h.1 _ _ p q (hr i p hi) (hr j q hj) e
    omega
  · have h2 := h.1 _ _ x y (hr i x hx) (hc j y hy) hxy
    have h3 := (List.getElem?_eq_some_iff.mp hy).1
    omega
theorem st_free {wc wr : va_W} (hD : va_D A (wc ++ wr)) (hS : va_S A H0 H locs) (hA : ∀ q, H0.size ≤ q → A q) : ∀ q, va_A wc H.size q → A q := by
  intro q h
  rcases h with ⟨k, e, h⟩ | h
  · exact (st_leftD hD).2 k (q, e) h
  · exact hA q (Nat.le_trans hS.1 h)
/-! calls -/
set_option maxHeartbeats 4000000 in
theorem st_cVi {S : Type} {post : Int32 → S → Prop} {wf : S → va_W} {y : MethodName} {bytes : ByteArray} {maxL nL index ci : Nat} {ret : Option FieldType} {rm : Room} {own : String} {qc : vw_C} {b : Addr} {As fs : List Value} {wc wr : va_W} (n : Nat)
    (S0 : CallFix p m c cc nL s args lw_all own) (hM : ct_I l y bytes maxL ret rm (.ref b :: As) D tys wc post wf)
    (hc : GoodIn lw_all (wsV own index qc.1 y (ws_ y bytes maxL ret)))
    (hd : y.cls = qc.1 ∧ y.cls ≠ "java/lang/invoke/MethodHandle" ∧ y.cls ≠ "java/lang/invoke/VarHandle" ∧ (parseMethodDescriptor y.desc).map (fun d => d.parameters.length) = some n)
    (hR : rm.frames + 1 ≤ R.frames ∧ 8 + (maxL + 11) + rm.locals ≤ R.locals) (hrc : rm.cells = 0) (hrs : rm.slots = 0) (hcs : cells ≤ R.cells ∧ slots ≤ R.slots)
    (hK : va_K D vwCl tys s) (hP : va_P D vwCl (wc ++ wr) H) (hD : va_D A (wc ++ wr)) (hS : va_S A H0 H locs) (hA : ∀ q, H0.size ≤ q → A q)
    (hq : vwCl[ci]? = some qc) (he : wc[0]? = some (b, .inr (ci, fs))) (hn : As.length = n) (hsz : ls.size = nL) {stk : List Value} (hstk : stk = As.reverse ++ .ref b :: rest) (hst : (rest.map fun v => v.category).sum ≤ 8) (hdg : decode cc pc = .ok (.invokevirtual index, 3))
    (kk : ∀ (r : Int32) (u : S) (H1 : Heap) (locs1 : List Loc), post r u → va_P D vwCl (wf u ++ wr) H1 → va_D A (wf u ++ wr) → va_S A H0 H1 locs1 → W p l e R s m args below meth c H1 locs1 cells slots Q (F0 m (pc + 3) ls (.int r :: rest))) :
    W p l e R s m args below meth c H locs cells slots Q (F0 m pc ls stk) := by
  have hPc := st_left hP
  have hDc : va_D (fun _ => True) wc := (st_leftD hD).weaken (fun _ _ _ _ => trivial)
  have hF := st_free hD hS hA
  refine va_calli (va_runV (As := As) (rest := rest) S0 (hM H.size) (cwV n S0.2.2.2.2 hc rfl hrc hrs hd hR) ⟨fun a U g mk q => ?_, va_recv hK hPc hq he, fun U hU hW => ⟨rfl, by rw [hU], by rw [hU]; exact hPc, va_K.moved hW.alike hK, hDc⟩⟩ rfl hn hsz hstk (lv_room hst) hdg ⟨hcs.1, hcs.2⟩) hS (fun q _ h => hF q h) hF (fun r u t H1 locs1 ht hvm hp hB hz hk hS1 => ?_)
  · obtain ⟨q0, q1, qP, qK, qD⟩ := q
    exact ⟨q0, q1, qP, va_K.moved (u := U) (U := U.calling g mk a) (Vm.Alike.refl U.vm) qK, qD⟩
  · obtain ⟨hP1, hK1, hD1⟩ := hB
    rw [ht] at hP1
    obtain ⟨hP2, hD2⟩ := st_join hP hD hk hF hP1 hD1
    exact kk r u H1 locs1 hp hP2 hD2 hS1
set_option maxHeartbeats 4000000 in
theorem st_cVv {S : Type} {post : S → Prop} {wf : S → va_W} {y : MethodName} {bytes : ByteArray} {maxL nL index ci : Nat} {ret : Option FieldType} {rm : Room} {own : String} {qc : vw_C} {b : Addr} {As fs : List Value} {wc wr : va_W} (n : Nat)
    (S0 : CallFix p m c cc nL s args lw_all own) (hM : ct_V l y bytes maxL ret rm (.ref b :: As) D tys wc post wf)
    (hc : GoodIn lw_all (wsV own index qc.1 y (ws_ y bytes maxL ret)))
    (hd : y.cls = qc.1 ∧ y.cls ≠ "java/lang/invoke/MethodHandle" ∧ y.cls ≠ "java/lang/invoke/VarHandle" ∧ (parseMethodDescriptor y.desc).map (fun d => d.parameters.length) = some n)
    (hR : rm.frames + 1 ≤ R.frames ∧ 8 + (maxL + 11) + rm.locals ≤ R.locals) (hrc : rm.cells = 0) (hrs : rm.slots = 0) (hcs : cells ≤ R.cells ∧ slots ≤ R.slots)
    (hK : va_K D vwCl tys s) (hP : va_P D vwCl (wc ++ wr) H) (hD : va_D A (wc ++ wr)) (hS : va_S A H0 H locs) (hA : ∀ q, H0.size ≤ q → A q)
    (hq : vwCl[ci]? = some qc) (he : wc[0]? = some (b, .inr (ci, fs))) (hn : As.length = n) (hsz : ls.size = nL) {stk : List Value} (hstk : stk = As.reverse ++ .ref b :: rest) (hst : (rest.map fun v => v.category).sum ≤ 8) (hdg : decode cc pc = .ok (.invokevirtual index, 3))
    (kk : ∀ (u : S) (H1 : Heap) (locs1 : List Loc), post u → va_P D vwCl (wf u ++ wr) H1 → va_D A (wf u ++ wr) → va_S A H0 H1 locs1 → W p l e R s m args below meth c H1 locs1 cells slots Q (F0 m (pc + 3) ls rest)) :
    W p l e R s m args below meth c H locs cells slots Q (F0 m pc ls stk) := by
  have hPc := st_left hP
  have hDc : va_D (fun _ => True) wc := (st_leftD hD).weaken (fun _ _ _ _ => trivial)
  have hF := st_free hD hS hA
  refine va_callv (va_runV (As := As) (rest := rest) S0 (hM H.size) (cwV n S0.2.2.2.2 hc rfl hrc hrs hd hR) ⟨fun a U g mk q => ?_, va_recv hK hPc hq he, fun U hU hW => ⟨rfl, by rw [hU], by rw [hU]; exact hPc, va_K.moved hW.alike hK, hDc⟩⟩ rfl hn hsz hstk (lv_room hst) hdg ⟨hcs.1, hcs.2⟩) hS (fun q _ h => hF q h) hF (fun u t H1 locs1 ht hvm hp hB hz hk hS1 => ?_)
  · obtain ⟨q0, q1, qP, qK, qD⟩ := q
    exact ⟨q0, q1, qP, va_K.moved (u := U) (U := U.calling g mk a) (Vm.Alike.refl U.vm) qK, qD⟩
  · obtain ⟨hP1, hK1, hD1⟩ := hB
    rw [ht] at hP1
    obtain ⟨hP2, hD2⟩ := st_join hP hD hk hF hP1 hD1
    exact kk u H1 locs1 hp hP2 hD2 hS1
set_option maxHeartbeats 4000000 in
/-- a static method that reads and writes nothing -/
theorem st_cSi {post : Int32 → Unit → Prop} {y : MethodName} {bytes : ByteArray} {maxL nL index : Nat} {ret : Option FieldType} {rm : Room} {own : String} {As : List Value} {w : va_W} (n : Nat)
    (S0 : CallFix p m c cc nL s args lw_all own) (hM : ct_I l y bytes maxL ret rm As D tys [] post (fun _ => []))
    (hc : GoodIn lw_all (va_wsS own index y (ws_ y bytes maxL ret)))
    (hd : y.cls ≠ "java/lang/invoke/MethodHandle" ∧ y.cls ≠ "java/lang/invoke/VarHandle" ∧ (parseMethodDescriptor y.desc).map (fun d => d.parameters.length) = some n)
    (hR : rm.frames + 1 ≤ R.frames ∧ 8 + (maxL + 11) + rm.locals ≤ R.locals) (hrc : rm.cells = 0) (hrs : rm.slots = 0) (hcs : cells ≤ R.cells ∧ slots ≤ R.slots)
    (hK : va_K D vwCl tys s) (hP : va_P D vwCl w H) (hD : va_D A w) (hS : va_S A H0 H locs) (hA : ∀ q, H0.size ≤ q → A q)
    (hn : As.length = n) (hsz : ls.size = nL) {stk : List Value} (hstk : stk = As.reverse ++ rest) (hst : (rest.map fun v => v.category).sum ≤ 8) (hdg : decode cc pc = .ok (.invokestatic index, 3))
    (kk : ∀ (r : Int32) (H1 : Heap) (locs1 : List Loc), post r () → va_P D vwCl w H1 → va_D A w → va_S A H0 H1 locs1 → W p l e R s m args below meth c H1 locs1 cells slots Q (F0 m (pc + 3) ls (.int r :: rest))) :
    W p l e R s m args below meth c H locs cells slots Q (F0 m pc ls stk) := by
  have hP' : va_P D vwCl ([] ++ w) H := hP
  have hD' : va_D A ([] ++ w) := hD
  have hPc := st_left hP'
  have hDc : va_D (fun _ => True) [] := (st_leftD hD').weaken (fun _ _ _ _ => trivial)
  have hF := st_free hD' hS hA
  refine va_calli (va_runS (As := As) (rest := rest) S0 (hM H.size) (va_cwS n S0.2.2.2.2 hc rfl hrc hrs hd hR) ⟨fun a U g mk q => ?_, fun U hU hW => ⟨rfl, by rw [hU], by rw [hU]; exact hPc, va_K.moved hW.alike hK, hDc⟩⟩ rfl hn hsz hstk (lv_room hst) hdg ⟨hcs.1, hcs.2⟩) hS (fun q _ h => hF q h) hF (fun r u t H1 locs1 ht hvm hp hB hz hk hS1 => ?_)
  · obtain ⟨q0, q1, qP, qK, qD⟩ := q
    exact ⟨q0, q1, qP, va_K.moved (u := U) (U := U.calling g mk a) (Vm.Alike.refl U.vm) qK, qD⟩
  · obtain ⟨hP1, hK1, hD1⟩ := hB
    rw [ht] at hP1
    obtain ⟨hP2, hD2⟩ := st_join hP' hD' hk hF hP1 hD1
    exact kk r H1 locs1 hp hP2 hD2 hS1
/-- a call within a class: the callee's world is the caller's -/
theorem st_nilP {w : va_W} (h : va_P D vwCl w H) : va_P D vwCl (w ++ []) H := by rw [List.append_nil]; exact h
theorem st_nilP' {w : va_W} (h : va_P D vwCl (w ++ []) H) : va_P D vwCl w H := by rw [List.append_nil] at h; exact h
theorem st_nilD {w : va_W} (h : va_D A w) : va_D A (w ++ []) := by rw [List.append_nil]; exact h
theorem st_nilD' {w : va_W} (h : va_D A (w ++ [])) : va_D A w := by rw [List.append_nil] at h; exact h
theorem st_cVi0 {S : Type} {post : Int32 → S → Prop} {wf : S → va_W} {y : MethodName} {bytes : ByteArray} {maxL nL index ci : Nat} {ret : Option FieldType} {rm : Room} {own : String} {qc : vw_C} {b : Addr} {As fs : List Value} {wc : va_W} (n : Nat)
    (S0 : CallFix p m c cc nL s args lw_all own) (hM : ct_I l y bytes maxL ret rm (.ref b :: As) D tys wc post wf)
    (hc : GoodIn lw_all (wsV own index qc.1 y (ws_ y bytes maxL ret)))
    (hd : y.cls = qc.1 ∧ y.cls ≠ "java/lang/invoke/MethodHandle" ∧ y.cls ≠ "java/lang/invoke/VarHandle" ∧ (parseMethodDescriptor y.desc).map (fun d => d.parameters.length) = some n)
    (hR : rm.frames + 1 ≤ R.frames ∧ 8 + (maxL + 11) + rm.locals ≤ R.locals) (hrc : rm.cells = 0) (hrs : rm.slots = 0) (hcs : cells ≤ R.cells ∧ slots ≤ R.slots)
    (hK : va_K D vwCl tys s) (hP : va_P D vwCl wc H) (hD : va_D A wc) (hS : va_S A H0 H locs) (hA : ∀ q, H0.size ≤ q → A q)
    (hq : vwCl[ci]? = some qc) (he : wc[0]? = some (b, .inr (ci, fs))) (hn : As.length = n) (hsz : ls.size = nL) {stk : List Value} (hstk : stk = As.reverse ++ .ref b :: rest) (hst : (rest.map fun v => v.category).sum ≤ 8) (hdg : decode cc pc = .ok (.invokevirtual index, 3))
    (kk : ∀ (r : Int32) (u : S) (H1 : Heap) (locs1 : List Loc), post r u → va_P D vwCl (wf u) H1 → va_D A (wf u) → va_S A H0 H1 locs1 → W p l e R s m args below meth c H1 locs1 cells slots Q (F0 m (pc + 3) ls (.int r :: rest))) :
    W p l e R s m args below meth c H locs cells slots Q (F0 m pc ls stk) :=
  st_cVi n S0 hM hc hd hR hrc hrs hcs hK (st_nilP hP) (st_nilD hD) hS hA hq he hn hsz hstk hst hdg (fun r u H1 locs1 h1 h2 h3 h4 => kk r u H1 locs1 h1 (st_nilP' h2) (st_nilD' h3) h4)
theorem st_cVv0 {S : Type} {post : S → Prop} {wf : S → va_W} {y : MethodName} {bytes : ByteArray} {maxL nL index ci : Nat} {ret : Option FieldType} {rm : Room} {own : String} {qc : vw_C} {b : Addr} {As fs : List Value} {wc : va_W} (n : Nat)
    (S0 : CallFix p m c cc nL s args lw_all own) (hM : ct_V l y bytes maxL ret rm (.ref b :: As) D tys wc post wf)
    (hc : GoodIn lw_all (wsV own index qc.1 y (ws_ y bytes maxL ret)))
    (hd : y.cls = qc.1 ∧ y.cls ≠ "java/lang/invoke/MethodHandle" ∧ y.cls ≠ "java/lang/invoke/VarHandle" ∧ (parseMethodDescriptor y.desc).map (fun d => d.parameters.length) = some n)
    (hR : rm.frames + 1 ≤ R.frames ∧ 8 + (maxL + 11) + rm.locals ≤ R.locals) (hrc : rm.cells = 0) (hrs : rm.slots = 0) (hcs : cells ≤ R.cells ∧ slots ≤ R.slots)
    (hK : va_K D vwCl tys s) (hP : va_P D vwCl wc H) (hD : va_D A wc) (hS : va_S A H0 H locs) (hA : ∀ q, H0.size ≤ q → A q)
    (hq : vwCl[ci]? = some qc) (he : wc[0]? = some (b, .inr (ci, fs))) (hn : As.length = n) (hsz : ls.size = nL) {stk : List Value} (hstk : stk = As.reverse ++ .ref b :: rest) (hst : (rest.map fun v => v.category).sum ≤ 8) (hdg : decode cc pc = .ok (.invokevirtual index, 3))
    (kk : ∀ (u : S) (H1 : Heap) (locs1 : List Loc), post u → va_P D vwCl (wf u) H1 → va_D A (wf u) → va_S A H0 H1 locs1 → W p l e R s m args below meth c H1 locs1 cells slots Q (F0 m (pc + 3) ls rest)) :
    W p l e R s m args below meth c H locs cells slots Q (F0 m pc ls stk) :=
  st_cVv n S0 hM hc hd hR hrc hrs hcs hK (st_nilP hP) (st_nilD hD) hS hA hq he hn hsz hstk hst hdg (fun u H1 locs1 h1 h2 h3 h4 => kk u H1 locs1 h1 (st_nilP' h2) (st_nilD' h3) h4)
end ST
/-! the worlds of the two classes -/
abbrev tyA (d0 d1 : ClassId) : List (ClassId × FieldType) := [(d0, .int), (d1, .boolean)]
abbrev wX (h : Nat → Nat) (d0 d1 : ClassId) (tl pl fo lo fi se : Int32) (tk bk wn wb fl fa rp : Nat → Int32) : va_W :=
  [(h 0, .inr (0, [.int tl, .ref (h 1), .ref (h 2), .int pl, .ref (h 3), .ref (h 4), .ref (h 5), .int fo, .ref (h 6), .int lo, .int fi, .int se, .ref (h 7)])),
   (h 1, .inl (d0, 48, .inl tk)), (h 2, .inl (d0, 48, .inl bk)), (h 3, .inl (d0, 12, .inl wn)), (h 4, .inl (d0, 12, .inl wb)), (h 5, .inl (d0, 12, .inl fl)), (h 6, .inl (d0, 48, .inl fa)), (h 7, .inl (d1, 48, .inl rp))]
abbrev wM (h : Nat → Nat) (d0 : ClassId) (tl pl : Int32) (g : Nat → Int32) : va_W :=
  [(h 0, .inr (1, [.ref (h 1), .int tl, .int pl])), (h 1, .inl (d0, 60, .inl g))]
end
section
/-! the words of the statements: windows alike, counting, least and greatest -/
set_option maxRecDepth 100000
def bl (r : Int32) (P : Prop) : Prop := (r = nI 1 ∧ P) ∨ (r = nI 0 ∧ ¬ P)
theorem bl_t {P : Prop} (h : P) : bl (nI 1) P := Or.inl ⟨rfl, h⟩
theorem bl_f {P : Prop} (h : ¬ P) : bl (nI 0) P := Or.inr ⟨rfl, h⟩
/-- the earlier places with the same token as place k are the same in both windows -/
def rnG (F : Nat → Int32) (a : Nat) (G : Nat → Int32) (b k : Nat) : Prop := ∀ q, q < k → (F (a + q) = F (a + k) ↔ G (b + q) = G (b + k))
def akC (F : Nat → Int32) (a : Nat) (G : Nat → Int32) (b k : Nat) : Prop := ((F (a + k) < nI 16 ∨ G (b + k) < nI 16) → F (a + k) = G (b + k)) ∧ (¬ F (a + k) < nI 16 → ¬ G (b + k) < nI 16 → rnG F a G b k)
/-- the windows of length n from a in F and from b in G are alike -/
def akG (F : Nat → Int32) (a : Nat) (G : Nat → Int32) (b n : Nat) : Prop := ∀ k, k < n → akC F a G b k
noncomputable def cnt (P : Nat → Prop) : Nat → Nat
  | 0 => 0
  | n + 1 => cnt P n + @ite Nat (P n) (Classical.propDecidable (P n)) 1 0
theorem cnt_t {P : Nat → Prop} {n : Nat} (h : P n) : cnt P (n + 1) = cnt P n + 1 := by
  show cnt P n + @ite Nat (P n) (Classical.propDecidable (P n)) 1 0 = _
  rw [if_pos h]
theorem cnt_f {P : Nat → Prop} {n : Nat} (h : ¬ P n) : cnt P (n + 1) = cnt P n := by
  show cnt P n + @ite Nat (P n) (Classical.propDecidable (P n)) 1 0 = _
  rw [if_neg h, Nat.add_zero]
theorem cnt_step (P : Nat → Prop) (n : Nat) : cnt P n ≤ cnt P (n + 1) := by
  by_cases h : P n
  · rw [cnt_t h]; omega
  · rw [cnt_f h]; omega
theorem cnt_le (P : Nat → Prop) (n : Nat) : cnt P n ≤ n := by
  induction n with
  | zero => exact Nat.le_refl _
  | succ n ih =>
    by_cases h : P n
    · rw [cnt_t h]; omega
    · rw [cnt_f h]; omega
theorem cnt_mono (P : Nat → Prop) {a b : Nat} (h : a ≤ b) : cnt P a ≤ cnt P b := by
  induction b with
  | zero => rw [show a = 0 by omega]; exact Nat.le_refl _
  | succ n ih =>
    by_cases h2 : a = n + 1
    · rw [h2]; exact Nat.le_refl _
    · exact Nat.le_trans (ih (by omega)) (cnt_step P n)
theorem cnt_lt {P : Nat → Prop} {p n : Nat} (h : p < n) (hp : P p) : cnt P p < cnt P n := by
  have h1 := cnt_mono P (a := p + 1) (b := n) h
  rw [cnt_t hp] at h1
  omega
theorem cnt_inj {P : Nat → Prop} {p q : Nat} (hp : P p) (hq : P q) (h : cnt P p = cnt P q) : p = q := by
  rcases Nat.lt_trichotomy p q with h1 | h1 | h1
  · have := cnt_lt h1 hp; omega
  · exact h1
  · have := cnt_lt h1 hq; omega
theorem cnt_ex {P : Nat → Prop} {n j : Nat} (h : j < cnt P n) : ∃ p, p < n ∧ P p ∧ cnt P p = j := by
  induction n with
  | zero => exact absurd h (Nat.not_lt_zero _)
  | succ n ih =>
    by_cases h1 : P n
    · rw [cnt_t h1] at h
      by_cases h2 : j < cnt P n
      · obtain ⟨p, a, b⟩ := ih h2
        exact ⟨p, by omega, b⟩
      · exact ⟨n, by omega, h1, by omega⟩
    · rw [cnt_f h1] at h
      obtain ⟨p, a, b⟩ := ih h
      exact ⟨p, by omega, b⟩
theorem cnt_congr {P Q : Nat → Prop} {n : Nat} (h : ∀ p, p < n → (P p ↔ Q p)) : cnt P n = cnt Q n := by
  induction n with
  | zero => rfl
  | succ n ih =>
    have h1 := ih (fun p hp => h p (by omega))
    by_cases h2 : P n
    · rw [cnt_t h2, cnt_t ((h n (by omega)).mp h2), h1]
    · rw [cnt_f h2, cnt_f (fun q => h2 ((h n (by omega)).mpr q)), h1]
theorem cnt_stop {P : Nat → Prop} {a n : Nat} (h : a ≤ n) (h0 : ∀ p, a ≤ p → p < n → ¬ P p) : cnt P n = cnt P a := by
  induction n with
  | zero => rw [show a = 0 by omega]
  | succ n ih =>
    by_cases h2 : a = n + 1
    · rw [h2]
    · rw [cnt_f (h0 n (by omega) (by omega)), ih (by omega) (fun p h3 h4 => h0 p h3 (by omega))]
/-- r is the least number with K, or -4 -/
def mn (K : Nat → Prop) (r : Int32) : Prop := (∃ j, r = nI j ∧ j < 2 ^ 31 ∧ K j ∧ ∀ j', K j' → j ≤ j') ∨ (r = -4 ∧ ∀ j, ¬ K j)
/-- l is the greatest number with K, or 0 -/
def mx (K : Nat → Prop) (l : Nat) : Prop := (K l ∨ l = 0) ∧ ∀ n, K n → n ≤ l
/-- the match of number n, or -4 -/
def mAt (M : Nat → Prop) (tl : Nat) (n r : Int32) : Prop := (∃ p, p < tl ∧ M p ∧ n = nI (cnt M p) ∧ r = nI p) ∨ (r = -4 ∧ ∀ p, p < tl → M p → ¬ n = nI (cnt M p))
/-- what 'renamed' answers -/
def rnQ (M : Nat → Prop) (tl pl : Nat) (w : Nat → Int32) (n name : Int32) (p k : Nat) : Prop := p < tl ∧ M p ∧ n = nI (cnt M p) ∧ ¬ name < nI 16 ∧ name ≤ nI 31 ∧ k < pl ∧ w k = name
def rnm (M : Nat → Prop) (tl pl : Nat) (w f : Nat → Int32) (n name r : Int32) : Prop := (∃ p k, rnQ M tl pl w n name p k ∧ (∀ q, q < k → ¬ w q = name) ∧ r = f (p + k)) ∨ (r = -4 ∧ ∀ p k, ¬ rnQ M tl pl w n name p k)
/-- the pattern matches the text at p -/
def mtM (g : Nat → Int32) (tl pl p : Nat) : Prop := 0 < pl ∧ p + pl ≤ tl ∧ akG g 48 g p pl
/-- the windows of length n at i and j, i before j, are alike -/
def aM (g : Nat → Int32) (tl i j n : Nat) : Prop := i < j ∧ j + n ≤ tl ∧ akG g i g j n
def lg (A : Nat → Nat → Nat → Prop) (n : Nat) : Prop := 0 < n ∧ ∃ i j, A i j n
def cfQ (A : Nat → Nat → Nat → Prop) (r : Int32) : Prop := ∃ l, mx (lg A) l ∧ ((l = 0 ∧ r = -4) ∨ (0 < l ∧ mn (fun i => ∃ j, A i j l) r))
def csQ (A : Nat → Nat → Nat → Prop) (r : Int32) : Prop := ∃ l, mx (lg A) l ∧ ((l = 0 ∧ r = -4) ∨ (0 < l ∧ ∃ i, i < 2 ^ 31 ∧ mn (fun i => ∃ j, A i j l) (nI i) ∧ mn (fun j => A i j l) r))
/-- what 'kinds' answers: N k i: the window of length k at i is new -/
def kdQ (N : Nat → Nat → Prop) (tl : Nat) (x r : Int32) : Prop := (∃ k, 1 ≤ k ∧ k ≤ tl ∧ x = nI k ∧ r = nI (cnt (N k) (tl + 1 - k))) ∨ ((x < nI 1 ∨ nI tl < x) ∧ r = nI 0)
def nwM (g : Nat → Int32) (k i : Nat) : Prop := ¬ ∃ j, j < i ∧ akG g i g j k
def inQ (tl : Nat) (x : Int32) : Prop := ¬ x < 0 ∧ x < nI tl
def okQ (x : Int32) : Prop := ¬ x < 0 ∧ x ≤ nI 31
/-- what 'reach' answers -/
def rcQ (B : Nat → Nat → Nat → Prop) (tl : Nat) (x y r : Int32) : Prop := (∃ i j k, i < tl ∧ j < tl ∧ x = nI i ∧ y = nI j ∧ r = nI k ∧ mx (fun n => i + n ≤ tl ∧ j + n ≤ tl ∧ B i j n) k) ∨ ((¬ (inQ tl x ∧ inQ tl y)) ∧ r = -3)
/-- patternFrom's arguments are good -/
def pfQ (tl : Nat) (x n : Int32) (i k : Nat) : Prop := x = nI i ∧ n = nI k ∧ 1 ≤ k ∧ k ≤ 12 ∧ i + k ≤ tl
theorem in_of {x : Int32} {n : Nat} (hn : n < 2 ^ 31) (h : inQ n x) : ∃ i, i < n ∧ x = nI i := by
  obtain ⟨j, hj, rfl⟩ := nI_of h.1
  exact ⟨j, (nI_ltI hj hn).mp h.2, rfl⟩
theorem in_nI {i n : Nat} (hn : n < 2 ^ 31) (h : i < n) : inQ n (nI i) := ⟨nI_pos (Nat.lt_trans h hn), nI_lt h hn⟩
theorem one_of {x : Int32} {n : Nat} (hn : n < 2 ^ 31) (h1 : ¬ x < nI 1) (h2 : x ≤ nI n) : ∃ k, 1 ≤ k ∧ k ≤ n ∧ x = nI k := by
  have h3 : ¬ x < 0 := fun h => h1 (Int32.lt_trans h (by decide))
  obtain ⟨j, hj, rfl⟩ := nI_of h3
  refine ⟨j, ?_, (nI_leI hj hn).mp h2, rfl⟩
  rcases Nat.eq_zero_or_pos j with h | h
  · subst h
    exact absurd (by decide) h1
  · exact h
theorem sub_le {i tl k : Nat} (hi : i < 2 ^ 31) (htl : tl ≤ 48) (hk : k ≤ 12) : nI i ≤ nI tl - nI k ↔ i + k ≤ tl := by
  rw [Int32.le_iff_toInt_le, nI_toInt hi, pk_sub_toInt (by omega) (by omega)]
  omega
end
section
/-! the model: leaves -/
set_option maxHeartbeats 4000000 in
set_option maxRecDepth 100000 in
/-- isToken(x) -/
theorem mM_isToken (l : Launch) (D : va_G) (z : Nat → Nat) (d0 d1 : ClassId) (tl pl : Nat) (g : Nat → Int32) (htl : tl ≤ 48) (hpl : pl ≤ 12) (x : Int32) : ct_I l yX1_isToken cX1_isToken 2 (some .boolean) ({ frames := 0, cells := 0, slots := 0, locals := 0 } : Room) ([.ref (z 0), .int (x)] : List Value) D (tyA d0 d1) (wM z d0 (nI (tl)) (nI (pl)) (g)) (fun r (_ : Unit) => bl r (¬ x < 0 ∧ x ≤ nI 31)) (fun (_ : Unit) => (wM z d0 (nI (tl)) (nI (pl)) (g))) := by
  intro sz
  refine st_of (QA := (st_I D (tyA d0 d1) (fun r (_ : Unit) => bl r (¬ x < 0 ∧ x ≤ nI 31)) (fun (_ : Unit) => (wM z d0 (nI (tl)) (nI (pl)) (g))))) (by decide) (Nat.le_of_ble_eq_true rfl) ?_
  intro p e s m below meth c A ls hx hb hr hml hlocks hown hts hname hK hP hD hS hA hl
  have hl : lv_has ls 2 [(0, .ref (z 0)), (1, .int (x))] := hl
  have hown : s.vm.findClass RX1 = some m.cls := hown
  refine lv_iload_n hx hb dX1_isToken_0 rfl (lv_at hl 1 rfl) ?_
  refine lv_if_lt (tgt := 14) hx hb dX1_isToken_1 (by decide) (fun c_1 => ?_) (fun c_1 => ?_)
  · skip
    refine lv_iconst (v := nI (0)) hx hb dX1_isToken_14 (by decide) ?_
    exact st_zret (v := nI (0)) () rfl hx hb hr hlocks hK hP hD hS dX1_isToken_15 (bl_f (fun h => h.1 c_1))
  · skip
    refine lv_iload_n hx hb dX1_isToken_4 rfl (lv_at hl 1 rfl) ?_
    refine lv_bipush (v := nI (31)) hx hb dX1_isToken_5 (by decide) ?_
    refine lv_icmp_gt (tgt := 14) hx hb dX1_isToken_7 (by decide) (fun c_7 => ?_) (fun c_7 => ?_)
    · skip
      refine lv_iconst (v := nI (0)) hx hb dX1_isToken_14 (by decide) ?_
      exact st_zret (v := nI (0)) () rfl hx hb hr hlocks hK hP hD hS dX1_isToken_15 (bl_f (fun h => absurd c_7 (Int32.not_lt.mpr h.2)))
    · skip
      refine lv_iconst (v := nI (1)) hx hb dX1_isToken_10 (by decide) ?_
      refine lv_goto (tgt := 15) hx hb dX1_isToken_11 (by decide) ?_
      exact st_zret (v := nI (1)) () rfl hx hb hr hlocks hK hP hD hS dX1_isToken_15 (bl_t ⟨c_1, Int32.not_lt.mp c_7⟩)

set_option maxHeartbeats 4000000 in
set_option maxRecDepth 100000 in
/-- inText(x) -/
theorem mM_inText (l : Launch) (D : va_G) (z : Nat → Nat) (d0 d1 : ClassId) (tl pl : Nat) (g : Nat → Int32) (htl : tl ≤ 48) (hpl : pl ≤ 12) (x : Int32) : ct_I l yX1_inText cX1_inText 2 (some .boolean) ({ frames := 0, cells := 0, slots := 0, locals := 0 } : Room) ([.ref (z 0), .int (x)] : List Value) D (tyA d0 d1) (wM z d0 (nI (tl)) (nI (pl)) (g)) (fun r (_ : Unit) => bl r (¬ x < 0 ∧ x < nI tl)) (fun (_ : Unit) => (wM z d0 (nI (tl)) (nI (pl)) (g))) := by
  intro sz
  refine st_of (QA := (st_I D (tyA d0 d1) (fun r (_ : Unit) => bl r (¬ x < 0 ∧ x < nI tl)) (fun (_ : Unit) => (wM z d0 (nI (tl)) (nI (pl)) (g))))) (by decide) (Nat.le_of_ble_eq_true rfl) ?_
  intro p e s m below meth c A ls hx hb hr hml hlocks hown hts hname hK hP hD hS hA hl
  have hl : lv_has ls 2 [(0, .ref (z 0)), (1, .int (x))] := hl
  have hown : s.vm.findClass RX1 = some m.cls := hown
  refine lv_iload_n hx hb dX1_inText_0 rfl (lv_at hl 1 rfl) ?_
  refine lv_if_lt (tgt := 16) hx hb dX1_inText_1 (by decide) (fun c_1 => ?_) (fun c_1 => ?_)
  · skip
    refine lv_iconst (v := nI (0)) hx hb dX1_inText_16 (by decide) ?_
    exact st_zret (v := nI (0)) () rfl hx hb hr hlocks hK hP hD hS dX1_inText_17 (bl_f (fun h => h.1 c_1))
  · skip
    refine lv_iload_n hx hb dX1_inText_4 rfl (lv_at hl 1 rfl) ?_
    refine lv_aload_n hx hb dX1_inText_5 rfl (lv_at hl 0 rfl) ?_
    refine va_get (D := D) (ci := 1) (v := .int (nI (tl))) (C := RX1) (T := TX1) (N := 3) hx hb hts in_X1 hown hK hP 0 rfl rfl 1 (by decide) (hts _ q165) (fun _ h9 => h9) rfl dX1_inText_6 ?_
    refine lv_icmp_ge (tgt := 16) hx hb dX1_inText_9 (by decide) (fun c_9 => ?_) (fun c_9 => ?_)
    · skip
      refine lv_iconst (v := nI (0)) hx hb dX1_inText_16 (by decide) ?_
      exact st_zret (v := nI (0)) () rfl hx hb hr hlocks hK hP hD hS dX1_inText_17 (bl_f (fun h => absurd c_9 (Int32.not_le.mpr h.2)))
    · skip
      refine lv_iconst (v := nI (1)) hx hb dX1_inText_12 (by decide) ?_
      refine lv_goto (tgt := 17) hx hb dX1_inText_13 (by decide) ?_
      exact st_zret (v := nI (1)) () rfl hx hb hr hlocks hK hP hD hS dX1_inText_17 (bl_t ⟨c_1, Int32.not_le.mp c_9⟩)

set_option maxHeartbeats 4000000 in
set_option maxRecDepth 100000 in
/-- renames(a, b, k) -/
theorem mM_renames (l : Launch) (D : va_G) (z : Nat → Nat) (d0 d1 : ClassId) (tl pl : Nat) (g : Nat → Int32) (htl : tl ≤ 48) (hpl : pl ≤ 12) (a b k : Nat) (hka : a + k < 60) (hkb : b + k < 60) : ct_I l yX1_renames cX1_renames 5 (some .boolean) ({ frames := 0, cells := 0, slots := 0, locals := 0 } : Room) ([.ref (z 0), .int (nI (a)), .int (nI (b)), .int (nI (k))] : List Value) D (tyA d0 d1) (wM z d0 (nI (tl)) (nI (pl)) (g)) (fun r (_ : Unit) => bl r (rnG g a g b k)) (fun (_ : Unit) => (wM z d0 (nI (tl)) (nI (pl)) (g))) := by
  intro sz
  refine st_of (QA := (st_I D (tyA d0 d1) (fun r (_ : Unit) => bl r (rnG g a g b k)) (fun (_ : Unit) => (wM z d0 (nI (tl)) (nI (pl)) (g))))) (by decide) (Nat.le_of_ble_eq_true rfl) ?_
  intro p e s m below meth c A ls hx hb hr hml hlocks hown hts hname hK hP hD hS hA hl
  have hl : lv_has ls 5 [(0, .ref (z 0)), (1, .int (nI (a))), (2, .int (nI (b))), (3, .int (nI (k)))] := hl
  have hown : s.vm.findClass RX1 = some m.cls := hown
  refine lv_iconst (v := nI (0)) hx hb dX1_renames_0 (by decide) ?_
  refine lv_istore (lv' := [(4, .int (nI (0))), (0, .ref (z 0)), (1, .int (nI (a))), (2, .int (nI (b))), (3, .int (nI (k)))]) hx hb dX1_renames_1 hl (by decide) rfl (fun ls hl => ?_)
  have loop : ∀ (fu : Nat) (i : Nat), k < i + fu → i ≤ k → (∀ q, q < i → (g (a + q) = g (a + k) ↔ g (b + q) = g (b + k))) → ∀ (H : Heap) (locs : List Loc) (ls : Array Slot), va_P D vwCl (wM z d0 (nI (tl)) (nI (pl)) (g)) H → va_D A (wM z d0 (nI (tl)) (nI (pl)) (g)) → va_S A s.heap H locs → lv_has ls 5 [(4, .int (nI (i))), (0, .ref (z 0)), (1, .int (nI (a))), (2, .int (nI (b))), (3, .int (nI (k)))] → W p l e ({ frames := 0, cells := 0, slots := 0, locals := 0 } : Room) s m ([.ref (z 0), .int (nI (a)), .int (nI (b)), .int (nI (k))] : List Value).toArray below meth c H locs 0 0 (MQ below ((st_I D (tyA d0 d1) (fun r (_ : Unit) => bl r (rnG g a g b k)) (fun (_ : Unit) => (wM z d0 (nI (tl)) (nI (pl)) (g)))) A) ([.ref (z 0), .int (nI (a)), .int (nI (b)), .int (nI (k))] : List Value).toArray s 0 0 A) (F0 m 3 ls []) := by
    intro fu
    induction fu with
    | zero => intro i hf hik hi; exfalso; omega
    | succ fu ihloop =>
      intro i hf hik hi H locs ls hP hD hS hl
      refine lv_iload hx hb dX1_renames_3 (lv_at hl 0 rfl) ?_
      refine lv_iload_n hx hb dX1_renames_5 rfl (lv_at hl 4 rfl) ?_
      refine ni_icmp_ge (tgt := 70) hx hb dX1_renames_6 (by decide) (by omega) (by omega) (fun c_6 => ?_) (fun c_6 => ?_)
      · skip
        refine lv_iconst (v := nI (1)) hx hb dX1_renames_70 (by decide) ?_
        exact st_zret (v := nI (1)) () rfl hx hb hr hlocks hK hP hD hS dX1_renames_71 (bl_t (fun q hq => hi q (Nat.lt_of_lt_of_le hq c_6)))
      · skip
        refine lv_aload_n hx hb dX1_renames_9 rfl (lv_at hl 1 rfl) ?_
        refine va_get (D := D) (ci := 1) (v := .ref (z 1)) (C := RX1) (T := TX1) (N := 3) hx hb hts in_X1 hown hK hP 0 rfl rfl 0 (by decide) (hts _ q164) (fun _ h9 => h9) rfl dX1_renames_10 ?_
        refine lv_iload_n hx hb dX1_renames_13 rfl (lv_at hl 2 rfl) ?_
        refine lv_iload hx hb dX1_renames_14 (lv_at hl 0 rfl) ?_
        refine ni_add hx hb dX1_renames_16 ?_
        refine ni_ald hx hb hK hP 1 0 rfl rfl (by decide) dX1_renames_17 (by omega) ?_
        refine lv_aload_n hx hb dX1_renames_18 rfl (lv_at hl 1 rfl) ?_
        refine va_get (D := D) (ci := 1) (v := .ref (z 1)) (C := RX1) (T := TX1) (N := 3) hx hb hts in_X1 hown hK hP 0 rfl rfl 0 (by decide) (hts _ q164) (fun _ h9 => h9) rfl dX1_renames_19 ?_
        refine lv_iload_n hx hb dX1_renames_22 rfl (lv_at hl 2 rfl) ?_
        refine lv_iload_n hx hb dX1_renames_23 rfl (lv_at hl 4 rfl) ?_
        refine ni_add hx hb dX1_renames_24 ?_
        refine ni_ald hx hb hK hP 1 0 rfl rfl (by decide) dX1_renames_25 (by omega) ?_
        refine lv_icmp_ne (tgt := 33) hx hb dX1_renames_26 (by decide) (fun c_26 => ?_) (fun c_26 => ?_)
        · skip
          refine lv_iconst (v := nI (0)) hx hb dX1_renames_33 (by decide) ?_
          refine lv_aload_n hx hb dX1_renames_34 rfl (lv_at hl 1 rfl) ?_
          refine va_get (D := D) (ci := 1) (v := .ref (z 1)) (C := RX1) (T := TX1) (N := 3) hx hb hts in_X1 hown hK hP 0 rfl rfl 0 (by decide) (hts _ q164) (fun _ h9 => h9) rfl dX1_renames_35 ?_
          refine lv_iload_n hx hb dX1_renames_38 rfl (lv_at hl 3 rfl) ?_
          refine lv_iload hx hb dX1_renames_39 (lv_at hl 0 rfl) ?_
          refine ni_add hx hb dX1_renames_41 ?_
          refine ni_ald hx hb hK hP 1 0 rfl rfl (by decide) dX1_renames_42 (by omega) ?_
          refine lv_aload_n hx hb dX1_renames_43 rfl (lv_at hl 1 rfl) ?_
          refine va_get (D := D) (ci := 1) (v := .ref (z 1)) (C := RX1) (T := TX1) (N := 3) hx hb hts in_X1 hown hK hP 0 rfl rfl 0 (by decide) (hts _ q164) (fun _ h9 => h9) rfl dX1_renames_44 ?_
          refine lv_iload_n hx hb dX1_renames_47 rfl (lv_at hl 3 rfl) ?_
          refine lv_iload_n hx hb dX1_renames_48 rfl (lv_at hl 4 rfl) ?_
          refine ni_add hx hb dX1_renames_49 ?_
          refine ni_ald hx hb hK hP 1 0 rfl rfl (by decide) dX1_renames_50 (by omega) ?_
          refine lv_icmp_ne (tgt := 58) hx hb dX1_renames_51 (by decide) (fun c_51 => ?_) (fun c_51 => ?_)
          · skip
            refine lv_iconst (v := nI (0)) hx hb dX1_renames_58 (by decide) ?_
            refine ni_icmp_eq (tgt := 64) hx hb dX1_renames_59 (by decide) (by omega) (by omega) (fun c_59 => ?_) (fun c_59 => absurd c_59 (by decide))
            refine lv_iinc (v := nI (i + 1)) (lv' := [(4, .int (nI (i + 1))), (0, .ref (z 0)), (1, .int (nI (a))), (2, .int (nI (b))), (3, .int (nI (k)))]) hx hb dX1_renames_64 hl (k := 0) rfl (ni_inc _) (by decide) rfl (fun ls hl => ?_)
            refine lv_goto (tgt := 3) hx hb dX1_renames_67 (by decide) ?_
            exact ihloop (i + 1) (by omega) (by omega) (lt_s hi ⟨fun q => absurd q c_26, fun q => absurd q c_51⟩) _ _ _ hP hD hS (lv_sub hl [0, 1, 2, 3, 4] rfl)
          · skip
            refine lv_iconst (v := nI (1)) hx hb dX1_renames_54 (by decide) ?_
            refine lv_goto (tgt := 59) hx hb dX1_renames_55 (by decide) ?_
            refine ni_icmp_eq (tgt := 64) hx hb dX1_renames_59 (by decide) (by omega) (by omega) (fun c_59 => absurd c_59 (by decide)) (fun c_59 => ?_)
            refine lv_iconst (v := nI (0)) hx hb dX1_renames_62 (by decide) ?_
            exact st_zret (v := nI (0)) () rfl hx hb hr hlocks hK hP hD hS dX1_renames_63 (bl_f (fun h => c_26 ((h i c_6).mpr c_51)))
        · skip
          refine lv_iconst (v := nI (1)) hx hb dX1_renames_29 (by decide) ?_
          refine lv_goto (tgt := 34) hx hb dX1_renames_30 (by decide) ?_
          refine lv_aload_n hx hb dX1_renames_34 rfl (lv_at hl 1 rfl) ?_
          refine va_get (D := D) (ci := 1) (v := .ref (z 1)) (C := RX1) (T := TX1) (N := 3) hx hb hts in_X1 hown hK hP 0 rfl rfl 0 (by decide) (hts _ q164) (fun _ h9 => h9) rfl dX1_renames_35 ?_
          refine lv_iload_n hx hb dX1_renames_38 rfl (lv_at hl 3 rfl) ?_
          refine lv_iload hx hb dX1_renames_39 (lv_at hl 0 rfl) ?_
          refine ni_add hx hb dX1_renames_41 ?_
          refine ni_ald hx hb hK hP 1 0 rfl rfl (by decide) dX1_renames_42 (by omega) ?_
          refine lv_aload_n hx hb dX1_renames_43 rfl (lv_at hl 1 rfl) ?_
          refine va_get (D := D) (ci := 1) (v := .ref (z 1)) (C := RX1) (T := TX1) (N := 3) hx hb hts in_X1 hown hK hP 0 rfl rfl 0 (by decide) (hts _ q164) (fun _ h9 => h9) rfl dX1_renames_44 ?_
          refine lv_iload_n hx hb dX1_renames_47 rfl (lv_at hl 3 rfl) ?_
          refine lv_iload_n hx hb dX1_renames_48 rfl (lv_at hl 4 rfl) ?_
          refine ni_add hx hb dX1_renames_49 ?_
          refine ni_ald hx hb hK hP 1 0 rfl rfl (by decide) dX1_renames_50 (by omega) ?_
          refine lv_icmp_ne (tgt := 58) hx hb dX1_renames_51 (by decide) (fun c_51 => ?_) (fun c_51 => ?_)
          · skip
            refine lv_iconst (v := nI (0)) hx hb dX1_renames_58 (by decide) ?_
            refine ni_icmp_eq (tgt := 64) hx hb dX1_renames_59 (by decide) (by omega) (by omega) (fun c_59 => absurd c_59 (by decide)) (fun c_59 => ?_)
            refine lv_iconst (v := nI (0)) hx hb dX1_renames_62 (by decide) ?_
            exact st_zret (v := nI (0)) () rfl hx hb hr hlocks hK hP hD hS dX1_renames_63 (bl_f (fun h => c_51 ((h i c_6).mp c_26)))
          · skip
            refine lv_iconst (v := nI (1)) hx hb dX1_renames_54 (by decide) ?_
            refine lv_goto (tgt := 59) hx hb dX1_renames_55 (by decide) ?_
            refine ni_icmp_eq (tgt := 64) hx hb dX1_renames_59 (by decide) (by omega) (by omega) (fun c_59 => ?_) (fun c_59 => absurd c_59 (by decide))
            refine lv_iinc (v := nI (i + 1)) (lv' := [(4, .int (nI (i + 1))), (0, .ref (z 0)), (1, .int (nI (a))), (2, .int (nI (b))), (3, .int (nI (k)))]) hx hb dX1_renames_64 hl (k := 0) rfl (ni_inc _) (by decide) rfl (fun ls hl => ?_)
            refine lv_goto (tgt := 3) hx hb dX1_renames_67 (by decide) ?_
            exact ihloop (i + 1) (by omega) (by omega) (lt_s hi ⟨fun _ => c_51, fun _ => c_26⟩) _ _ _ hP hD hS (lv_sub hl [0, 1, 2, 3, 4] rfl)
  exact loop (k + 1) 0 (by omega) (by omega) lt_0 _ _ _ hP hD hS (lv_sub hl [0, 1, 2, 3, 4] rfl)

set_option maxHeartbeats 4000000 in
set_option maxRecDepth 100000 in
/-- alike(a, b, N) -/
theorem mM_alike (l : Launch) (D : va_G) (z : Nat → Nat) (d0 d1 : ClassId) (tl pl : Nat) (g : Nat → Int32) (htl : tl ≤ 48) (hpl : pl ≤ 12) (a b N : Nat) (hka : a + N ≤ 60) (hkb : b + N ≤ 60) : ct_I l yX1_alike cX1_alike 7 (some .boolean) ({ frames := 1, cells := 0, slots := 0, locals := 24 } : Room) ([.ref (z 0), .int (nI (a)), .int (nI (b)), .int (nI (N))] : List Value) D (tyA d0 d1) (wM z d0 (nI (tl)) (nI (pl)) (g)) (fun r (_ : Unit) => bl r (akG g a g b N)) (fun (_ : Unit) => (wM z d0 (nI (tl)) (nI (pl)) (g))) := by
  intro sz
  refine st_of (QA := (st_I D (tyA d0 d1) (fun r (_ : Unit) => bl r (akG g a g b N)) (fun (_ : Unit) => (wM z d0 (nI (tl)) (nI (pl)) (g))))) (by decide) (Nat.le_of_ble_eq_true rfl) ?_
  intro p e s m below meth c A ls hx hb hr hml hlocks hown hts hname hK hP hD hS hA hl
  have hl : lv_has ls 7 [(0, .ref (z 0)), (1, .int (nI (a))), (2, .int (nI (b))), (3, .int (nI (N)))] := hl
  have hown : s.vm.findClass RX1 = some m.cls := hown
  refine lv_iconst (v := nI (0)) hx hb dX1_alike_0 (by decide) ?_
  refine lv_istore (lv' := [(4, .int (nI (0))), (0, .ref (z 0)), (1, .int (nI (a))), (2, .int (nI (b))), (3, .int (nI (N)))]) hx hb dX1_alike_1 hl (by decide) rfl (fun ls hl => ?_)
  have loop : ∀ (fu : Nat) (i : Nat), N < i + fu → i ≤ N → (∀ q, q < i → akC g a g b q) → ∀ (H : Heap) (locs : List Loc) (ls : Array Slot), va_P D vwCl (wM z d0 (nI (tl)) (nI (pl)) (g)) H → va_D A (wM z d0 (nI (tl)) (nI (pl)) (g)) → va_S A s.heap H locs → lv_has ls 7 [(4, .int (nI (i))), (0, .ref (z 0)), (1, .int (nI (a))), (2, .int (nI (b))), (3, .int (nI (N)))] → W p l e ({ frames := 1, cells := 0, slots := 0, locals := 24 } : Room) s m ([.ref (z 0), .int (nI (a)), .int (nI (b)), .int (nI (N))] : List Value).toArray below meth c H locs 0 0 (MQ below ((st_I D (tyA d0 d1) (fun r (_ : Unit) => bl r (akG g a g b N)) (fun (_ : Unit) => (wM z d0 (nI (tl)) (nI (pl)) (g)))) A) ([.ref (z 0), .int (nI (a)), .int (nI (b)), .int (nI (N))] : List Value).toArray s 0 0 A) (F0 m 3 ls []) := by
    intro fu
    induction fu with
    | zero => intro i hf hik hi; exfalso; omega
    | succ fu ihloop =>
      intro i hf hik hi H locs ls hP hD hS hl
      refine lv_iload hx hb dX1_alike_3 (lv_at hl 0 rfl) ?_
      refine lv_iload_n hx hb dX1_alike_5 rfl (lv_at hl 4 rfl) ?_
      refine ni_icmp_ge (tgt := 73) hx hb dX1_alike_6 (by decide) (by omega) (by omega) (fun c_6 => ?_) (fun c_6 => ?_)
      · skip
        refine lv_iconst (v := nI (1)) hx hb dX1_alike_73 (by decide) ?_
        exact st_zret (v := nI (1)) () rfl hx hb hr hlocks hK hP hD hS dX1_alike_74 (bl_t (fun q hq => hi q (Nat.lt_of_lt_of_le hq c_6)))
      · skip
        refine lv_aload_n hx hb dX1_alike_9 rfl (lv_at hl 1 rfl) ?_
        refine va_get (D := D) (ci := 1) (v := .ref (z 1)) (C := RX1) (T := TX1) (N := 3) hx hb hts in_X1 hown hK hP 0 rfl rfl 0 (by decide) (hts _ q164) (fun _ h9 => h9) rfl dX1_alike_10 ?_
        refine lv_iload_n hx hb dX1_alike_13 rfl (lv_at hl 2 rfl) ?_
        refine lv_iload hx hb dX1_alike_14 (lv_at hl 0 rfl) ?_
        refine ni_add hx hb dX1_alike_16 ?_
        refine ni_ald hx hb hK hP 1 0 rfl rfl (by decide) dX1_alike_17 (by omega) ?_
        refine lv_istore (lv' := [(5, .int (g (a + i))), (4, .int (nI (i))), (0, .ref (z 0)), (1, .int (nI (a))), (2, .int (nI (b))), (3, .int (nI (N)))]) hx hb dX1_alike_18 hl (by decide) rfl (fun ls hl => ?_)
        refine lv_aload_n hx hb dX1_alike_20 rfl (lv_at hl 2 rfl) ?_
        refine va_get (D := D) (ci := 1) (v := .ref (z 1)) (C := RX1) (T := TX1) (N := 3) hx hb hts in_X1 hown hK hP 0 rfl rfl 0 (by decide) (hts _ q164) (fun _ h9 => h9) rfl dX1_alike_21 ?_
        refine lv_iload_n hx hb dX1_alike_24 rfl (lv_at hl 4 rfl) ?_
        refine lv_iload hx hb dX1_alike_25 (lv_at hl 1 rfl) ?_
        refine ni_add hx hb dX1_alike_27 ?_
        refine ni_ald hx hb hK hP 1 0 rfl rfl (by decide) dX1_alike_28 (by omega) ?_
        refine lv_istore (lv' := [(6, .int (g (b + i))), (5, .int (g (a + i))), (4, .int (nI (i))), (0, .ref (z 0)), (1, .int (nI (a))), (2, .int (nI (b))), (3, .int (nI (N)))]) hx hb dX1_alike_29 hl (by decide) rfl (fun ls hl => ?_)
        refine lv_iload hx hb dX1_alike_31 (lv_at hl 1 rfl) ?_
        refine lv_bipush (v := nI (16)) hx hb dX1_alike_33 (by decide) ?_
        refine lv_icmp_lt (tgt := 45) hx hb dX1_alike_35 (by decide) (fun c_35 => ?_) (fun c_35 => ?_)
        · skip
          refine lv_iload hx hb dX1_alike_45 (lv_at hl 1 rfl) ?_
          refine lv_iload hx hb dX1_alike_47 (lv_at hl 0 rfl) ?_
          refine lv_icmp_eq (tgt := 67) hx hb dX1_alike_49 (by decide) (fun c_49 => ?_) (fun c_49 => ?_)
          · skip
            have hk : akC g a g b i := ⟨fun _ => c_49, fun h => absurd c_35 h⟩
            refine lv_iinc (v := nI (i + 1)) (lv' := [(4, .int (nI (i + 1))), (6, .int (g (b + i))), (5, .int (g (a + i))), (0, .ref (z 0)), (1, .int (nI (a))), (2, .int (nI (b))), (3, .int (nI (N)))]) hx hb dX1_alike_67 hl (k := 2) rfl (ni_inc _) (by decide) rfl (fun ls hl => ?_)
            refine lv_goto (tgt := 3) hx hb dX1_alike_70 (by decide) ?_
            exact ihloop (i + 1) (by omega) (by omega) (lt_s hi hk) _ _ _ hP hD hS (lv_sub hl [0, 3, 4, 5, 6] rfl)
          · skip
            refine lv_iconst (v := nI (0)) hx hb dX1_alike_52 (by decide) ?_
            exact st_zret (v := nI (0)) () rfl hx hb hr hlocks hK hP hD hS dX1_alike_53 (bl_f (fun h => c_49 ((h i c_6).1 (Or.inl c_35))))
        · skip
          refine lv_iload hx hb dX1_alike_38 (lv_at hl 0 rfl) ?_
          refine lv_bipush (v := nI (16)) hx hb dX1_alike_40 (by decide) ?_
          refine lv_icmp_ge (tgt := 54) hx hb dX1_alike_42 (by decide) (fun c_42 => ?_) (fun c_42 => ?_)
          · skip
            refine lv_aload_n hx hb dX1_alike_54 rfl (lv_at hl 3 rfl) ?_
            refine lv_iload_n hx hb dX1_alike_55 rfl (lv_at hl 4 rfl) ?_
            refine lv_iload_n hx hb dX1_alike_56 rfl (lv_at hl 5 rfl) ?_
            refine lv_iload hx hb dX1_alike_57 (lv_at hl 2 rfl) ?_
            refine st_cVi0 (ci := 1) (qc := (RX1, TX1, 3)) (As := [.int (nI (a)), .int (nI (b)), .int (nI (i))]) (rest := []) 3 ⟨hx, hb, hml, hown, hts⟩ (mM_renames l D z d0 d1 tl pl g htl hpl a b i (by omega) (by omega)) (lw_V q218 q220 qs11 q16 q221) (by decide +kernel) ⟨Nat.le_of_ble_eq_true rfl, Nat.le_of_ble_eq_true rfl⟩ rfl rfl ⟨Nat.zero_le _, Nat.zero_le _⟩ hK hP hD hS hA rfl rfl rfl hl.1 rfl (Nat.le_of_ble_eq_true rfl) dX1_alike_59 (fun r_59 u H locs hq_59 hP hD hS => ?_)
            have hP : va_P D vwCl (wM z d0 (nI (tl)) (nI (pl)) (g)) H := hP
            have hD : va_D A (wM z d0 (nI (tl)) (nI (pl)) (g)) := hD
            rcases hq_59 with ⟨rfl, hq_59⟩ | ⟨rfl, hq_59⟩
            · skip
              refine ni_if_ne (tgt := 67) hx hb dX1_alike_62 (by decide) (by omega) (fun c_62 => ?_) (fun c_62 => absurd c_62 (by decide))
              have hk : akC g a g b i := ⟨fun h => h.elim (fun h => absurd h c_35) (fun h => absurd c_42 (Int32.not_le.mpr h)), fun _ _ => hq_59⟩
              refine lv_iinc (v := nI (i + 1)) (lv' := [(4, .int (nI (i + 1))), (6, .int (g (b + i))), (5, .int (g (a + i))), (0, .ref (z 0)), (1, .int (nI (a))), (2, .int (nI (b))), (3, .int (nI (N)))]) hx hb dX1_alike_67 hl (k := 2) rfl (ni_inc _) (by decide) rfl (fun ls hl => ?_)
              refine lv_goto (tgt := 3) hx hb dX1_alike_70 (by decide) ?_
              exact ihloop (i + 1) (by omega) (by omega) (lt_s hi hk) _ _ _ hP hD hS (lv_sub hl [0, 3, 4, 5, 6] rfl)
            · skip
              refine ni_if_ne (tgt := 67) hx hb dX1_alike_62 (by decide) (by omega) (fun c_62 => absurd c_62 (by decide)) (fun c_62 => ?_)
              refine lv_iconst (v := nI (0)) hx hb dX1_alike_65 (by decide) ?_
              exact st_zret (v := nI (0)) () rfl hx hb hr hlocks hK hP hD hS dX1_alike_66 (bl_f (fun h => hq_59 ((h i c_6).2 c_35 (Int32.not_lt.mpr c_42))))
          · skip
            refine lv_iload hx hb dX1_alike_45 (lv_at hl 1 rfl) ?_
            refine lv_iload hx hb dX1_alike_47 (lv_at hl 0 rfl) ?_
            refine lv_icmp_eq (tgt := 67) hx hb dX1_alike_49 (by decide) (fun c_49 => ?_) (fun c_49 => ?_)
            · skip
              have hk : akC g a g b i := ⟨fun _ => c_49, fun _ h => absurd (Int32.not_le.mp c_42) h⟩
              refine lv_iinc (v := nI (i + 1)) (lv' := [(4, .int (nI (i + 1))), (6, .int (g (b + i))), (5, .int (g (a + i))), (0, .ref (z 0)), (1, .int (nI (a))), (2, .int (nI (b))), (3, .int (nI (N)))]) hx hb dX1_alike_67 hl (k := 2) rfl (ni_inc _) (by decide) rfl (fun ls hl => ?_)
              refine lv_goto (tgt := 3) hx hb dX1_alike_70 (by decide) ?_
              exact ihloop (i + 1) (by omega) (by omega) (lt_s hi hk) _ _ _ hP hD hS (lv_sub hl [0, 3, 4, 5, 6] rfl)
            · skip
              refine lv_iconst (v := nI (0)) hx hb dX1_alike_52 (by decide) ?_
              exact st_zret (v := nI (0)) () rfl hx hb hr hlocks hK hP hD hS dX1_alike_53 (bl_f (fun h => c_49 ((h i c_6).1 (Or.inr (Int32.not_le.mp c_42)))))
  exact loop (N + 1) 0 (by omega) (by omega) lt_0 _ _ _ hP hD hS (lv_sub hl [0, 1, 2, 3, 4] rfl)
end
section
/-! the model: matches and clones -/
set_option maxHeartbeats 4000000 in
set_option maxRecDepth 100000 in
/-- isMatch(i) -/
theorem mM_isMatch (l : Launch) (D : va_G) (z : Nat → Nat) (d0 d1 : ClassId) (tl pl : Nat) (g : Nat → Int32) (htl : tl ≤ 48) (hpl : pl ≤ 12) (i : Nat) (hi : i < tl) : ct_I l yX1_isMatch cX1_isMatch 2 (some .boolean) ({ frames := 2, cells := 0, slots := 0, locals := 50 } : Room) ([.ref (z 0), .int (nI (i))] : List Value) D (tyA d0 d1) (wM z d0 (nI (tl)) (nI (pl)) (g)) (fun r (_ : Unit) => bl r ((mtM g tl pl) i)) (fun (_ : Unit) => (wM z d0 (nI (tl)) (nI (pl)) (g))) := by
  intro sz
  refine st_of (QA := (st_I D (tyA d0 d1) (fun r (_ : Unit) => bl r ((mtM g tl pl) i)) (fun (_ : Unit) => (wM z d0 (nI (tl)) (nI (pl)) (g))))) (by decide) (Nat.le_of_ble_eq_true rfl) ?_
  intro p e s m below meth c A ls hx hb hr hml hlocks hown hts hname hK hP hD hS hA hl
  have hl : lv_has ls 2 [(0, .ref (z 0)), (1, .int (nI (i)))] := hl
  have hown : s.vm.findClass RX1 = some m.cls := hown
  refine lv_aload_n hx hb dX1_isMatch_0 rfl (lv_at hl 0 rfl) ?_
  refine va_get (D := D) (ci := 1) (v := .int (nI (pl))) (C := RX1) (T := TX1) (N := 3) hx hb hts in_X1 hown hK hP 0 rfl rfl 2 (by decide) (hts _ q166) (fun _ h9 => h9) rfl dX1_isMatch_1 ?_
  refine ni_if_le (tgt := 42) hx hb dX1_isMatch_4 (by decide) (by omega) (fun c_4 => ?_) (fun c_4 => ?_)
  · skip
    refine lv_iconst (v := nI (0)) hx hb dX1_isMatch_42 (by decide) ?_
    exact st_zret (v := nI (0)) () rfl hx hb hr hlocks hK hP hD hS dX1_isMatch_43 (bl_f (fun h => absurd h.1 (by omega)))
  · skip
    refine lv_iload_n hx hb dX1_isMatch_7 rfl (lv_at hl 1 rfl) ?_
    refine ni_if_lt (tgt := 42) hx hb dX1_isMatch_8 (by decide) (by omega) ?_
    refine lv_iload_n hx hb dX1_isMatch_11 rfl (lv_at hl 1 rfl) ?_
    refine lv_aload_n hx hb dX1_isMatch_12 rfl (lv_at hl 0 rfl) ?_
    refine va_get (D := D) (ci := 1) (v := .int (nI (pl))) (C := RX1) (T := TX1) (N := 3) hx hb hts in_X1 hown hK hP 0 rfl rfl 2 (by decide) (hts _ q166) (fun _ h9 => h9) rfl dX1_isMatch_13 ?_
    refine ni_add hx hb dX1_isMatch_16 ?_
    refine lv_aload_n hx hb dX1_isMatch_17 rfl (lv_at hl 0 rfl) ?_
    refine va_get (D := D) (ci := 1) (v := .int (nI (tl))) (C := RX1) (T := TX1) (N := 3) hx hb hts in_X1 hown hK hP 0 rfl rfl 1 (by decide) (hts _ q165) (fun _ h9 => h9) rfl dX1_isMatch_18 ?_
    refine ni_icmp_gt (tgt := 42) hx hb dX1_isMatch_21 (by decide) (by omega) (by omega) (fun c_21 => ?_) (fun c_21 => ?_)
    · skip
      refine lv_iconst (v := nI (0)) hx hb dX1_isMatch_42 (by decide) ?_
      exact st_zret (v := nI (0)) () rfl hx hb hr hlocks hK hP hD hS dX1_isMatch_43 (bl_f (fun h => absurd h.2.1 (by omega)))
    · skip
      refine lv_aload_n hx hb dX1_isMatch_24 rfl (lv_at hl 0 rfl) ?_
      refine lv_bipush (v := nI (48)) hx hb dX1_isMatch_25 (by decide) ?_
      refine lv_iload_n hx hb dX1_isMatch_27 rfl (lv_at hl 1 rfl) ?_
      refine lv_aload_n hx hb dX1_isMatch_28 rfl (lv_at hl 0 rfl) ?_
      refine va_get (D := D) (ci := 1) (v := .int (nI (pl))) (C := RX1) (T := TX1) (N := 3) hx hb hts in_X1 hown hK hP 0 rfl rfl 2 (by decide) (hts _ q166) (fun _ h9 => h9) rfl dX1_isMatch_29 ?_
      refine st_cVi0 (ci := 1) (qc := (RX1, TX1, 3)) (As := [.int (nI (48)), .int (nI (i)), .int (nI (pl))]) (rest := []) 3 ⟨hx, hb, hml, hown, hts⟩ (mM_alike l D z d0 d1 tl pl g htl hpl 48 i pl (by omega) (by omega)) (lw_V q214 q216 qs10 q16 q217) (by decide +kernel) ⟨Nat.le_of_ble_eq_true rfl, Nat.le_of_ble_eq_true rfl⟩ rfl rfl ⟨Nat.zero_le _, Nat.zero_le _⟩ hK hP hD hS hA rfl rfl rfl hl.1 rfl (Nat.le_of_ble_eq_true rfl) dX1_isMatch_32 (fun r_32 u H locs hq_32 hP hD hS => ?_)
      have hP : va_P D vwCl (wM z d0 (nI (tl)) (nI (pl)) (g)) H := hP
      have hD : va_D A (wM z d0 (nI (tl)) (nI (pl)) (g)) := hD
      rcases hq_32 with ⟨rfl, hq_32⟩ | ⟨rfl, hq_32⟩
      · skip
        refine ni_if_eq (tgt := 42) hx hb dX1_isMatch_35 (by decide) (by omega) (fun c_35 => absurd c_35 (by decide)) (fun c_35 => ?_)
        refine lv_iconst (v := nI (1)) hx hb dX1_isMatch_38 (by decide) ?_
        refine lv_goto (tgt := 43) hx hb dX1_isMatch_39 (by decide) ?_
        exact st_zret (v := nI (1)) () rfl hx hb hr hlocks hK hP hD hS dX1_isMatch_43 (bl_t ⟨c_4, c_21, hq_32⟩)
      · skip
        refine ni_if_eq (tgt := 42) hx hb dX1_isMatch_35 (by decide) (by omega) (fun c_35 => ?_) (fun c_35 => absurd c_35 (by decide))
        refine lv_iconst (v := nI (0)) hx hb dX1_isMatch_42 (by decide) ?_
        exact st_zret (v := nI (0)) () rfl hx hb hr hlocks hK hP hD hS dX1_isMatch_43 (bl_f (fun h => hq_32 h.2.2))

set_option maxHeartbeats 4000000 in
set_option maxRecDepth 100000 in
/-- matches() -/
theorem mM_matches (l : Launch) (D : va_G) (z : Nat → Nat) (d0 d1 : ClassId) (tl pl : Nat) (g : Nat → Int32) (htl : tl ≤ 48) (hpl : pl ≤ 12) : ct_I l yX1_matches cX1_matches 3 (some .int) ({ frames := 3, cells := 0, slots := 0, locals := 71 } : Room) ([.ref (z 0)] : List Value) D (tyA d0 d1) (wM z d0 (nI (tl)) (nI (pl)) (g)) (fun r (_ : Unit) => r = nI (cnt (mtM g tl pl) tl)) (fun (_ : Unit) => (wM z d0 (nI (tl)) (nI (pl)) (g))) := by
  intro sz
  refine st_of (QA := (st_I D (tyA d0 d1) (fun r (_ : Unit) => r = nI (cnt (mtM g tl pl) tl)) (fun (_ : Unit) => (wM z d0 (nI (tl)) (nI (pl)) (g))))) (by decide) (Nat.le_of_ble_eq_true rfl) ?_
  intro p e s m below meth c A ls hx hb hr hml hlocks hown hts hname hK hP hD hS hA hl
  have hl : lv_has ls 3 [(0, .ref (z 0))] := hl
  have hown : s.vm.findClass RX1 = some m.cls := hown
  refine lv_iconst (v := nI (0)) hx hb dX1_matches_0 (by decide) ?_
  refine lv_istore_n (lv' := [(1, .int (nI (0))), (0, .ref (z 0))]) hx hb dX1_matches_1 rfl hl (by decide) rfl (fun ls hl => ?_)
  refine lv_iconst (v := nI (0)) hx hb dX1_matches_2 (by decide) ?_
  refine lv_istore_n (lv' := [(2, .int (nI (0))), (1, .int (nI (0))), (0, .ref (z 0))]) hx hb dX1_matches_3 rfl hl (by decide) rfl (fun ls hl => ?_)
  have loop : ∀ (fu : Nat) (i k : Nat), tl < i + fu → i ≤ tl → k = cnt (mtM g tl pl) i → ∀ (H : Heap) (locs : List Loc) (ls : Array Slot), va_P D vwCl (wM z d0 (nI (tl)) (nI (pl)) (g)) H → va_D A (wM z d0 (nI (tl)) (nI (pl)) (g)) → va_S A s.heap H locs → lv_has ls 3 [(2, .int (nI (i))), (1, .int (nI (k))), (0, .ref (z 0))] → W p l e ({ frames := 3, cells := 0, slots := 0, locals := 71 } : Room) s m ([.ref (z 0)] : List Value).toArray below meth c H locs 0 0 (MQ below ((st_I D (tyA d0 d1) (fun r (_ : Unit) => r = nI (cnt (mtM g tl pl) tl)) (fun (_ : Unit) => (wM z d0 (nI (tl)) (nI (pl)) (g)))) A) ([.ref (z 0)] : List Value).toArray s 0 0 A) (F0 m 4 ls []) := by
    intro fu
    induction fu with
    | zero => intro i k hf hi hc; exfalso; omega
    | succ fu ihloop =>
      intro i k hf hi hc H locs ls hP hD hS hl
      refine lv_iload_n hx hb dX1_matches_4 rfl (lv_at hl 0 rfl) ?_
      refine lv_aload_n hx hb dX1_matches_5 rfl (lv_at hl 2 rfl) ?_
      refine va_get (D := D) (ci := 1) (v := .int (nI (tl))) (C := RX1) (T := TX1) (N := 3) hx hb hts in_X1 hown hK hP 0 rfl rfl 1 (by decide) (hts _ q165) (fun _ h9 => h9) rfl dX1_matches_6 ?_
      refine ni_icmp_ge (tgt := 29) hx hb dX1_matches_9 (by decide) (by omega) (by omega) (fun c_9 => ?_) (fun c_9 => ?_)
      · skip
        refine lv_iload_n hx hb dX1_matches_29 rfl (lv_at hl 1 rfl) ?_
        exact st_iret (v := nI (k)) () hx hb hr hlocks hK hP hD hS dX1_matches_30 (by show nI k = _; rw [hc, show i = tl by omega])
      · skip
        refine lv_aload_n hx hb dX1_matches_12 rfl (lv_at hl 2 rfl) ?_
        refine lv_iload_n hx hb dX1_matches_13 rfl (lv_at hl 0 rfl) ?_
        refine st_cVi0 (ci := 1) (qc := (RX1, TX1, 3)) (As := [.int (nI (i))]) (rest := []) 1 ⟨hx, hb, hml, hown, hts⟩ (mM_isMatch l D z d0 d1 tl pl g htl hpl i c_9) (lw_V q210 q212 qs9 q16 q213) (by decide +kernel) ⟨Nat.le_of_ble_eq_true rfl, Nat.le_of_ble_eq_true rfl⟩ rfl rfl ⟨Nat.zero_le _, Nat.zero_le _⟩ hK hP hD hS hA rfl rfl rfl hl.1 rfl (Nat.le_of_ble_eq_true rfl) dX1_matches_14 (fun r_14 u H locs hq_14 hP hD hS => ?_)
        have hP : va_P D vwCl (wM z d0 (nI (tl)) (nI (pl)) (g)) H := hP
        have hD : va_D A (wM z d0 (nI (tl)) (nI (pl)) (g)) := hD
        rcases hq_14 with ⟨rfl, hq_14⟩ | ⟨rfl, hq_14⟩
        · skip
          refine ni_if_eq (tgt := 23) hx hb dX1_matches_17 (by decide) (by omega) (fun c_17 => absurd c_17 (by decide)) (fun c_17 => ?_)
          refine lv_iinc (v := nI (k + 1)) (lv' := [(1, .int (nI (k + 1))), (2, .int (nI (i))), (0, .ref (z 0))]) hx hb dX1_matches_20 hl (k := 1) rfl (ni_inc _) (by decide) rfl (fun ls hl => ?_)
          refine lv_iinc (v := nI (i + 1)) (lv' := [(2, .int (nI (i + 1))), (1, .int (nI (k + 1))), (0, .ref (z 0))]) hx hb dX1_matches_23 hl (k := 1) rfl (ni_inc _) (by decide) rfl (fun ls hl => ?_)
          refine lv_goto (tgt := 4) hx hb dX1_matches_26 (by decide) ?_
          exact ihloop (i + 1) (k + 1) (by omega) (by omega) (by rw [cnt_t hq_14, hc]) _ _ _ hP hD hS (lv_sub hl [0, 1, 2] rfl)
        · skip
          refine ni_if_eq (tgt := 23) hx hb dX1_matches_17 (by decide) (by omega) (fun c_17 => ?_) (fun c_17 => absurd c_17 (by decide))
          refine lv_iinc (v := nI (i + 1)) (lv' := [(2, .int (nI (i + 1))), (1, .int (nI (k))), (0, .ref (z 0))]) hx hb dX1_matches_23 hl (k := 0) rfl (ni_inc _) (by decide) rfl (fun ls hl => ?_)
          refine lv_goto (tgt := 4) hx hb dX1_matches_26 (by decide) ?_
          exact ihloop (i + 1) k (by omega) (by omega) (by rw [cnt_f hq_14, hc]) _ _ _ hP hD hS (lv_sub hl [0, 1, 2] rfl)
  exact loop (tl + 1) 0 0 (by omega) (by omega) rfl _ _ _ hP hD hS (lv_sub hl [0, 1, 2] rfl)

set_option maxHeartbeats 4000000 in
set_option maxRecDepth 100000 in
/-- matchAt(x) -/
theorem mM_matchAt (l : Launch) (D : va_G) (z : Nat → Nat) (d0 d1 : ClassId) (tl pl : Nat) (g : Nat → Int32) (htl : tl ≤ 48) (hpl : pl ≤ 12) (x : Int32) : ct_I l yX1_matchAt cX1_matchAt 4 (some .int) ({ frames := 3, cells := 0, slots := 0, locals := 71 } : Room) ([.ref (z 0), .int (x)] : List Value) D (tyA d0 d1) (wM z d0 (nI (tl)) (nI (pl)) (g)) (fun r (_ : Unit) => mAt (mtM g tl pl) tl x r) (fun (_ : Unit) => (wM z d0 (nI (tl)) (nI (pl)) (g))) := by
  intro sz
  refine st_of (QA := (st_I D (tyA d0 d1) (fun r (_ : Unit) => mAt (mtM g tl pl) tl x r) (fun (_ : Unit) => (wM z d0 (nI (tl)) (nI (pl)) (g))))) (by decide) (Nat.le_of_ble_eq_true rfl) ?_
  intro p e s m below meth c A ls hx hb hr hml hlocks hown hts hname hK hP hD hS hA hl
  have hl : lv_has ls 4 [(0, .ref (z 0)), (1, .int (x))] := hl
  have hown : s.vm.findClass RX1 = some m.cls := hown
  refine lv_iconst (v := nI (0)) hx hb dX1_matchAt_0 (by decide) ?_
  refine lv_istore_n (lv' := [(2, .int (nI (0))), (0, .ref (z 0)), (1, .int (x))]) hx hb dX1_matchAt_1 rfl hl (by decide) rfl (fun ls hl => ?_)
  refine lv_iconst (v := nI (0)) hx hb dX1_matchAt_2 (by decide) ?_
  refine lv_istore_n (lv' := [(3, .int (nI (0))), (2, .int (nI (0))), (0, .ref (z 0)), (1, .int (x))]) hx hb dX1_matchAt_3 rfl hl (by decide) rfl (fun ls hl => ?_)
  have loop : ∀ (fu : Nat) (i k : Nat), tl < i + fu → i ≤ tl → k = cnt (mtM g tl pl) i → (∀ q, q < i → (mtM g tl pl) q → ¬ x = nI (cnt (mtM g tl pl) q)) → ∀ (H : Heap) (locs : List Loc) (ls : Array Slot), va_P D vwCl (wM z d0 (nI (tl)) (nI (pl)) (g)) H → va_D A (wM z d0 (nI (tl)) (nI (pl)) (g)) → va_S A s.heap H locs → lv_has ls 4 [(3, .int (nI (i))), (2, .int (nI (k))), (0, .ref (z 0)), (1, .int (x))] → W p l e ({ frames := 3, cells := 0, slots := 0, locals := 71 } : Room) s m ([.ref (z 0), .int (x)] : List Value).toArray below meth c H locs 0 0 (MQ below ((st_I D (tyA d0 d1) (fun r (_ : Unit) => mAt (mtM g tl pl) tl x r) (fun (_ : Unit) => (wM z d0 (nI (tl)) (nI (pl)) (g)))) A) ([.ref (z 0), .int (x)] : List Value).toArray s 0 0 A) (F0 m 4 ls []) := by
    intro fu
    induction fu with
    | zero => intro i k hf hi hc hn; exfalso; omega
    | succ fu ihloop =>
      intro i k hf hi hc hn H locs ls hP hD hS hl
      refine lv_iload_n hx hb dX1_matchAt_4 rfl (lv_at hl 0 rfl) ?_
      refine lv_aload_n hx hb dX1_matchAt_5 rfl (lv_at hl 2 rfl) ?_
      refine va_get (D := D) (ci := 1) (v := .int (nI (tl))) (C := RX1) (T := TX1) (N := 3) hx hb hts in_X1 hown hK hP 0 rfl rfl 1 (by decide) (hts _ q165) (fun _ h9 => h9) rfl dX1_matchAt_6 ?_
      refine ni_icmp_ge (tgt := 36) hx hb dX1_matchAt_9 (by decide) (by omega) (by omega) (fun c_9 => ?_) (fun c_9 => ?_)
      · skip
        refine lv_bipush (v := (-4)) hx hb dX1_matchAt_36 (by decide) ?_
        exact st_iret (v := (-4)) () hx hb hr hlocks hK hP hD hS dX1_matchAt_38 (Or.inr ⟨rfl, fun q hq => hn q (by omega)⟩)
      · skip
        refine lv_aload_n hx hb dX1_matchAt_12 rfl (lv_at hl 2 rfl) ?_
        refine lv_iload_n hx hb dX1_matchAt_13 rfl (lv_at hl 0 rfl) ?_
        refine st_cVi0 (ci := 1) (qc := (RX1, TX1, 3)) (As := [.int (nI (i))]) (rest := []) 1 ⟨hx, hb, hml, hown, hts⟩ (mM_isMatch l D z d0 d1 tl pl g htl hpl i c_9) (lw_V q210 q212 qs9 q16 q213) (by decide +kernel) ⟨Nat.le_of_ble_eq_true rfl, Nat.le_of_ble_eq_true rfl⟩ rfl rfl ⟨Nat.zero_le _, Nat.zero_le _⟩ hK hP hD hS hA rfl rfl rfl hl.1 rfl (Nat.le_of_ble_eq_true rfl) dX1_matchAt_14 (fun r_14 u H locs hq_14 hP hD hS => ?_)
        have hP : va_P D vwCl (wM z d0 (nI (tl)) (nI (pl)) (g)) H := hP
        have hD : va_D A (wM z d0 (nI (tl)) (nI (pl)) (g)) := hD
        rcases hq_14 with ⟨rfl, hq_14⟩ | ⟨rfl, hq_14⟩
        · skip
          refine ni_if_eq (tgt := 30) hx hb dX1_matchAt_17 (by decide) (by omega) (fun c_17 => absurd c_17 (by decide)) (fun c_17 => ?_)
          refine lv_iload_n hx hb dX1_matchAt_20 rfl (lv_at hl 1 rfl) ?_
          refine lv_iload_n hx hb dX1_matchAt_21 rfl (lv_at hl 3 rfl) ?_
          refine lv_icmp_ne (tgt := 27) hx hb dX1_matchAt_22 (by decide) (fun c_22 => ?_) (fun c_22 => ?_)
          · skip
            refine lv_iinc (v := nI (k + 1)) (lv' := [(2, .int (nI (k + 1))), (3, .int (nI (i))), (0, .ref (z 0)), (1, .int (x))]) hx hb dX1_matchAt_27 hl (k := 1) rfl (ni_inc _) (by decide) rfl (fun ls hl => ?_)
            refine lv_iinc (v := nI (i + 1)) (lv' := [(3, .int (nI (i + 1))), (2, .int (nI (k + 1))), (0, .ref (z 0)), (1, .int (x))]) hx hb dX1_matchAt_30 hl (k := 1) rfl (ni_inc _) (by decide) rfl (fun ls hl => ?_)
            refine lv_goto (tgt := 4) hx hb dX1_matchAt_33 (by decide) ?_
            exact ihloop (i + 1) (k + 1) (by omega) (by omega) (by rw [cnt_t hq_14, hc]) (lt_s hn (fun _ h => c_22 (by rw [hc]; exact h.symm))) _ _ _ hP hD hS (lv_sub hl [0, 1, 2, 3] rfl)
          · skip
            refine lv_iload_n hx hb dX1_matchAt_25 rfl (lv_at hl 0 rfl) ?_
            exact st_iret (v := nI (i)) () hx hb hr hlocks hK hP hD hS dX1_matchAt_26 (Or.inl ⟨i, c_9, hq_14, by rw [← hc]; exact c_22.symm, rfl⟩)
        · skip
          refine ni_if_eq (tgt := 30) hx hb dX1_matchAt_17 (by decide) (by omega) (fun c_17 => ?_) (fun c_17 => absurd c_17 (by decide))
          refine lv_iinc (v := nI (i + 1)) (lv' := [(3, .int (nI (i + 1))), (2, .int (nI (k))), (0, .ref (z 0)), (1, .int (x))]) hx hb dX1_matchAt_30 hl (k := 0) rfl (ni_inc _) (by decide) rfl (fun ls hl => ?_)
          refine lv_goto (tgt := 4) hx hb dX1_matchAt_33 (by decide) ?_
          exact ihloop (i + 1) k (by omega) (by omega) (by rw [cnt_f hq_14, hc]) (lt_s hn (fun h => absurd h hq_14)) _ _ _ hP hD hS (lv_sub hl [0, 1, 2, 3] rfl)
  exact loop (tl + 1) 0 0 (by omega) (by omega) rfl lt_0 _ _ _ hP hD hS (lv_sub hl [0, 1, 2, 3] rfl)

set_option maxHeartbeats 4000000 in
set_option maxRecDepth 100000 in
/-- renamed(x, y) -/
theorem mM_renamed (l : Launch) (D : va_G) (z : Nat → Nat) (d0 d1 : ClassId) (tl pl : Nat) (g : Nat → Int32) (htl : tl ≤ 48) (hpl : pl ≤ 12) (x y : Int32) : ct_I l yX1_renamed cX1_renamed 5 (some .int) ({ frames := 4, cells := 0, slots := 0, locals := 94 } : Room) ([.ref (z 0), .int (x), .int (y)] : List Value) D (tyA d0 d1) (wM z d0 (nI (tl)) (nI (pl)) (g)) (fun r (_ : Unit) => rnm (mtM g tl pl) tl pl (fun k => g (48 + k)) g x y r) (fun (_ : Unit) => (wM z d0 (nI (tl)) (nI (pl)) (g))) := by
  intro sz
  refine st_of (QA := (st_I D (tyA d0 d1) (fun r (_ : Unit) => rnm (mtM g tl pl) tl pl (fun k => g (48 + k)) g x y r) (fun (_ : Unit) => (wM z d0 (nI (tl)) (nI (pl)) (g))))) (by decide) (Nat.le_of_ble_eq_true rfl) ?_
  intro p e s m below meth c A ls hx hb hr hml hlocks hown hts hname hK hP hD hS hA hl
  have hl : lv_has ls 5 [(0, .ref (z 0)), (1, .int (x)), (2, .int (y))] := hl
  have hown : s.vm.findClass RX1 = some m.cls := hown
  refine lv_aload_n hx hb dX1_renamed_0 rfl (lv_at hl 0 rfl) ?_
  refine lv_iload_n hx hb dX1_renamed_1 rfl (lv_at hl 1 rfl) ?_
  refine st_cVi0 (ci := 1) (qc := (RX1, TX1, 3)) (As := [.int (x)]) (rest := []) 1 ⟨hx, hb, hml, hown, hts⟩ (mM_matchAt l D z d0 d1 tl pl g htl hpl x) (lw_V q230 q223 q224 q16 q225) (by decide +kernel) ⟨Nat.le_of_ble_eq_true rfl, Nat.le_of_ble_eq_true rfl⟩ rfl rfl ⟨Nat.zero_le _, Nat.zero_le _⟩ hK hP hD hS hA rfl rfl rfl hl.1 rfl (Nat.le_of_ble_eq_true rfl) dX1_renamed_2 (fun r_2 u H locs hq_2 hP hD hS => ?_)
  have hP : va_P D vwCl (wM z d0 (nI (tl)) (nI (pl)) (g)) H := hP
  have hD : va_D A (wM z d0 (nI (tl)) (nI (pl)) (g)) := hD
  rcases hq_2 with ⟨p0, hp0, hM0, hx0, rfl⟩ | ⟨rfl, hno⟩
  · skip
    refine lv_istore_n (lv' := [(3, .int (nI (p0))), (0, .ref (z 0)), (1, .int (x)), (2, .int (y))]) hx hb dX1_renamed_5 rfl hl (by decide) rfl (fun ls hl => ?_)
    refine lv_iload_n hx hb dX1_renamed_6 rfl (lv_at hl 0 rfl) ?_
    refine ni_if_lt (tgt := 22) hx hb dX1_renamed_7 (by decide) (by omega) ?_
    refine lv_iload_n hx hb dX1_renamed_10 rfl (lv_at hl 3 rfl) ?_
    refine lv_bipush (v := nI (16)) hx hb dX1_renamed_11 (by decide) ?_
    refine lv_icmp_lt (tgt := 22) hx hb dX1_renamed_13 (by decide) (fun c_13 => ?_) (fun c_13 => ?_)
    · skip
      refine lv_bipush (v := (-4)) hx hb dX1_renamed_22 (by decide) ?_
      exact st_iret (v := (-4)) () hx hb hr hlocks hK hP hD hS dX1_renamed_24 (Or.inr ⟨rfl, fun p k h => h.2.2.2.1 c_13⟩)
    · skip
      refine lv_iload_n hx hb dX1_renamed_16 rfl (lv_at hl 3 rfl) ?_
      refine lv_bipush (v := nI (31)) hx hb dX1_renamed_17 (by decide) ?_
      refine lv_icmp_le (tgt := 25) hx hb dX1_renamed_19 (by decide) (fun c_19 => ?_) (fun c_19 => ?_)
      · skip
        refine lv_iconst (v := nI (0)) hx hb dX1_renamed_25 (by decide) ?_
        refine lv_istore (lv' := [(4, .int (nI (0))), (3, .int (nI (p0))), (0, .ref (z 0)), (1, .int (x)), (2, .int (y))]) hx hb dX1_renamed_26 hl (by decide) rfl (fun ls hl => ?_)
        have loop : ∀ (fu : Nat) (i : Nat), pl < i + fu → i ≤ pl → (∀ q, q < i → ¬ g (48 + q) = y) → ∀ (H : Heap) (locs : List Loc) (ls : Array Slot), va_P D vwCl (wM z d0 (nI (tl)) (nI (pl)) (g)) H → va_D A (wM z d0 (nI (tl)) (nI (pl)) (g)) → va_S A s.heap H locs → lv_has ls 5 [(4, .int (nI (i))), (3, .int (nI (p0))), (0, .ref (z 0)), (1, .int (x)), (2, .int (y))] → W p l e ({ frames := 4, cells := 0, slots := 0, locals := 94 } : Room) s m ([.ref (z 0), .int (x), .int (y)] : List Value).toArray below meth c H locs 0 0 (MQ below ((st_I D (tyA d0 d1) (fun r (_ : Unit) => rnm (mtM g tl pl) tl pl (fun k => g (48 + k)) g x y r) (fun (_ : Unit) => (wM z d0 (nI (tl)) (nI (pl)) (g)))) A) ([.ref (z 0), .int (x), .int (y)] : List Value).toArray s 0 0 A) (F0 m 28 ls []) := by
          intro fu
          induction fu with
          | zero => intro i hf hi hn; exfalso; omega
          | succ fu ihloop =>
            intro i hf hi hn H locs ls hP hD hS hl
            refine lv_iload hx hb dX1_renamed_28 (lv_at hl 0 rfl) ?_
            refine lv_aload_n hx hb dX1_renamed_30 rfl (lv_at hl 2 rfl) ?_
            refine va_get (D := D) (ci := 1) (v := .int (nI (pl))) (C := RX1) (T := TX1) (N := 3) hx hb hts in_X1 hown hK hP 0 rfl rfl 2 (by decide) (hts _ q166) (fun _ h9 => h9) rfl dX1_renamed_31 ?_
            refine ni_icmp_ge (tgt := 67) hx hb dX1_renamed_34 (by decide) (by omega) (by omega) (fun c_34 => ?_) (fun c_34 => ?_)
            · skip
              refine lv_bipush (v := (-4)) hx hb dX1_renamed_67 (by decide) ?_
              exact st_iret (v := (-4)) () hx hb hr hlocks hK hP hD hS dX1_renamed_69 (Or.inr ⟨rfl, fun p k h => hn k (Nat.lt_of_lt_of_le h.2.2.2.2.2.1 c_34) h.2.2.2.2.2.2⟩)
            · skip
              refine lv_aload_n hx hb dX1_renamed_37 rfl (lv_at hl 2 rfl) ?_
              refine va_get (D := D) (ci := 1) (v := .ref (z 1)) (C := RX1) (T := TX1) (N := 3) hx hb hts in_X1 hown hK hP 0 rfl rfl 0 (by decide) (hts _ q164) (fun _ h9 => h9) rfl dX1_renamed_38 ?_
              refine lv_bipush (v := nI (48)) hx hb dX1_renamed_41 (by decide) ?_
              refine lv_iload hx hb dX1_renamed_43 (lv_at hl 0 rfl) ?_
              refine ni_add hx hb dX1_renamed_45 ?_
              refine ni_ald hx hb hK hP 1 0 rfl rfl (by decide) dX1_renamed_46 (by omega) ?_
              refine lv_iload_n hx hb dX1_renamed_47 rfl (lv_at hl 4 rfl) ?_
              refine lv_icmp_ne (tgt := 61) hx hb dX1_renamed_48 (by decide) (fun c_48 => ?_) (fun c_48 => ?_)
              · skip
                refine lv_iinc (v := nI (i + 1)) (lv' := [(4, .int (nI (i + 1))), (3, .int (nI (p0))), (0, .ref (z 0)), (1, .int (x)), (2, .int (y))]) hx hb dX1_renamed_61 hl (k := 0) rfl (ni_inc _) (by decide) rfl (fun ls hl => ?_)
                refine lv_goto (tgt := 28) hx hb dX1_renamed_64 (by decide) ?_
                exact ihloop (i + 1) (by omega) (by omega) (lt_s hn c_48) _ _ _ hP hD hS (lv_sub hl [0, 1, 2, 3, 4] rfl)
              · skip
                refine lv_aload_n hx hb dX1_renamed_51 rfl (lv_at hl 2 rfl) ?_
                refine va_get (D := D) (ci := 1) (v := .ref (z 1)) (C := RX1) (T := TX1) (N := 3) hx hb hts in_X1 hown hK hP 0 rfl rfl 0 (by decide) (hts _ q164) (fun _ h9 => h9) rfl dX1_renamed_52 ?_
                refine lv_iload_n hx hb dX1_renamed_55 rfl (lv_at hl 1 rfl) ?_
                refine lv_iload hx hb dX1_renamed_56 (lv_at hl 0 rfl) ?_
                refine ni_add hx hb dX1_renamed_58 ?_
                refine ni_ald hx hb hK hP 1 0 rfl rfl (by decide) dX1_renamed_59 (by omega) ?_
                exact st_iret (v := (g (p0 + i))) () hx hb hr hlocks hK hP hD hS dX1_renamed_60 (Or.inl ⟨p0, i, ⟨hp0, hM0, hx0, c_13, c_19, c_34, c_48⟩, hn, rfl⟩)
        exact loop (pl + 1) 0 (by omega) (by omega) lt_0 _ _ _ hP hD hS (lv_sub hl [0, 1, 2, 3, 4] rfl)
      · skip
        refine lv_bipush (v := (-4)) hx hb dX1_renamed_22 (by decide) ?_
        exact st_iret (v := (-4)) () hx hb hr hlocks hK hP hD hS dX1_renamed_24 (Or.inr ⟨rfl, fun p k h => c_19 h.2.2.2.2.1⟩)
  · skip
    refine lv_istore_n (lv' := [(3, .int (-4)), (0, .ref (z 0)), (1, .int (x)), (2, .int (y))]) hx hb dX1_renamed_5 rfl hl (by decide) rfl (fun ls hl => ?_)
    refine lv_iload_n hx hb dX1_renamed_6 rfl (lv_at hl 0 rfl) ?_
    refine lv_if_lt (tgt := 22) hx hb dX1_renamed_7 (by decide) (fun c_7 => ?_) (fun c_7 => absurd c_7 (by decide))
    refine lv_bipush (v := (-4)) hx hb dX1_renamed_22 (by decide) ?_
    exact st_iret (v := (-4)) () hx hb hr hlocks hK hP hD hS dX1_renamed_24 (Or.inr ⟨rfl, fun p k h => hno p h.1 h.2.1 h.2.2.1⟩)

set_option maxHeartbeats 4000000 in
set_option maxRecDepth 100000 in
/-- twin(i, N) -/
theorem mM_twin (l : Launch) (D : va_G) (z : Nat → Nat) (d0 d1 : ClassId) (tl pl : Nat) (g : Nat → Int32) (htl : tl ≤ 48) (hpl : pl ≤ 12) (i N : Nat) (hiN : i + N ≤ tl) : ct_I l yX1_twin cX1_twin 4 (some .int) ({ frames := 2, cells := 0, slots := 0, locals := 50 } : Room) ([.ref (z 0), .int (nI (i)), .int (nI (N))] : List Value) D (tyA d0 d1) (wM z d0 (nI (tl)) (nI (pl)) (g)) (fun r (_ : Unit) => mn (fun j => aM g tl i j N) r) (fun (_ : Unit) => (wM z d0 (nI (tl)) (nI (pl)) (g))) := by
  intro sz
  refine st_of (QA := (st_I D (tyA d0 d1) (fun r (_ : Unit) => mn (fun j => aM g tl i j N) r) (fun (_ : Unit) => (wM z d0 (nI (tl)) (nI (pl)) (g))))) (by decide) (Nat.le_of_ble_eq_true rfl) ?_
  intro p e s m below meth c A ls hx hb hr hml hlocks hown hts hname hK hP hD hS hA hl
  have hl : lv_has ls 4 [(0, .ref (z 0)), (1, .int (nI (i))), (2, .int (nI (N)))] := hl
  have hown : s.vm.findClass RX1 = some m.cls := hown
  refine lv_iload_n hx hb dX1_twin_0 rfl (lv_at hl 1 rfl) ?_
  refine lv_iconst (v := nI (1)) hx hb dX1_twin_1 (by decide) ?_
  refine ni_add hx hb dX1_twin_2 ?_
  refine lv_istore_n (lv' := [(3, .int (nI (i + 1))), (0, .ref (z 0)), (1, .int (nI (i))), (2, .int (nI (N)))]) hx hb dX1_twin_3 rfl hl (by decide) rfl (fun ls hl => ?_)
  have loop : ∀ (fu : Nat) (j : Nat), tl + 1 < j + fu → j ≤ tl + 1 → i < j → (∀ q, q < j → ¬ aM g tl i q N) → ∀ (H : Heap) (locs : List Loc) (ls : Array Slot), va_P D vwCl (wM z d0 (nI (tl)) (nI (pl)) (g)) H → va_D A (wM z d0 (nI (tl)) (nI (pl)) (g)) → va_S A s.heap H locs → lv_has ls 4 [(3, .int (nI (j))), (0, .ref (z 0)), (1, .int (nI (i))), (2, .int (nI (N)))] → W p l e ({ frames := 2, cells := 0, slots := 0, locals := 50 } : Room) s m ([.ref (z 0), .int (nI (i)), .int (nI (N))] : List Value).toArray below meth c H locs 0 0 (MQ below ((st_I D (tyA d0 d1) (fun r (_ : Unit) => mn (fun j => aM g tl i j N) r) (fun (_ : Unit) => (wM z d0 (nI (tl)) (nI (pl)) (g)))) A) ([.ref (z 0), .int (nI (i)), .int (nI (N))] : List Value).toArray s 0 0 A) (F0 m 4 ls []) := by
    intro fu
    induction fu with
    | zero => intro j hf hj hij hn; exfalso; omega
    | succ fu ihloop =>
      intro j hf hj hij hn H locs ls hP hD hS hl
      refine lv_iload_n hx hb dX1_twin_4 rfl (lv_at hl 0 rfl) ?_
      refine lv_iload_n hx hb dX1_twin_5 rfl (lv_at hl 3 rfl) ?_
      refine ni_add hx hb dX1_twin_6 ?_
      refine lv_aload_n hx hb dX1_twin_7 rfl (lv_at hl 1 rfl) ?_
      refine va_get (D := D) (ci := 1) (v := .int (nI (tl))) (C := RX1) (T := TX1) (N := 3) hx hb hts in_X1 hown hK hP 0 rfl rfl 1 (by decide) (hts _ q165) (fun _ h9 => h9) rfl dX1_twin_8 ?_
      refine ni_icmp_gt (tgt := 32) hx hb dX1_twin_11 (by decide) (by omega) (by omega) (fun c_11 => ?_) (fun c_11 => ?_)
      · skip
        refine lv_bipush (v := (-4)) hx hb dX1_twin_32 (by decide) ?_
        exact st_iret (v := (-4)) () hx hb hr hlocks hK hP hD hS dX1_twin_34 (Or.inr ⟨rfl, fun q h => hn q (by have := h.2.1; omega) h⟩)
      · skip
        refine lv_aload_n hx hb dX1_twin_14 rfl (lv_at hl 1 rfl) ?_
        refine lv_iload_n hx hb dX1_twin_15 rfl (lv_at hl 2 rfl) ?_
        refine lv_iload_n hx hb dX1_twin_16 rfl (lv_at hl 0 rfl) ?_
        refine lv_iload_n hx hb dX1_twin_17 rfl (lv_at hl 3 rfl) ?_
        refine st_cVi0 (ci := 1) (qc := (RX1, TX1, 3)) (As := [.int (nI (i)), .int (nI (j)), .int (nI (N))]) (rest := []) 3 ⟨hx, hb, hml, hown, hts⟩ (mM_alike l D z d0 d1 tl pl g htl hpl i j N (by omega) (by omega)) (lw_V q214 q216 qs10 q16 q217) (by decide +kernel) ⟨Nat.le_of_ble_eq_true rfl, Nat.le_of_ble_eq_true rfl⟩ rfl rfl ⟨Nat.zero_le _, Nat.zero_le _⟩ hK hP hD hS hA rfl rfl rfl hl.1 rfl (Nat.le_of_ble_eq_true rfl) dX1_twin_18 (fun r_18 u H locs hq_18 hP hD hS => ?_)
        have hP : va_P D vwCl (wM z d0 (nI (tl)) (nI (pl)) (g)) H := hP
        have hD : va_D A (wM z d0 (nI (tl)) (nI (pl)) (g)) := hD
        rcases hq_18 with ⟨rfl, hq_18⟩ | ⟨rfl, hq_18⟩
        · skip
          refine ni_if_eq (tgt := 26) hx hb dX1_twin_21 (by decide) (by omega) (fun c_21 => absurd c_21 (by decide)) (fun c_21 => ?_)
          refine lv_iload_n hx hb dX1_twin_24 rfl (lv_at hl 0 rfl) ?_
          exact st_iret (v := nI (j)) () hx hb hr hlocks hK hP hD hS dX1_twin_25 (Or.inl ⟨j, rfl, by omega, ⟨hij, c_11, hq_18⟩, fun q h => Nat.le_of_not_lt (fun z => hn q z h)⟩)
        · skip
          refine ni_if_eq (tgt := 26) hx hb dX1_twin_21 (by decide) (by omega) (fun c_21 => ?_) (fun c_21 => absurd c_21 (by decide))
          refine lv_iinc (v := nI (j + 1)) (lv' := [(3, .int (nI (j + 1))), (0, .ref (z 0)), (1, .int (nI (i))), (2, .int (nI (N)))]) hx hb dX1_twin_26 hl (k := 0) rfl (ni_inc _) (by decide) rfl (fun ls hl => ?_)
          refine lv_goto (tgt := 4) hx hb dX1_twin_29 (by decide) ?_
          exact ihloop (j + 1) (by omega) (by omega) (by omega) (lt_s hn (fun h => hq_18 h.2.2)) _ _ _ hP hD hS (lv_sub hl [0, 1, 2, 3] rfl)
  exact loop (tl + 2) (i + 1) (by omega) (by omega) (by omega) (fun q hq h => absurd h.1 (by omega)) _ _ _ hP hD hS (lv_sub hl [0, 1, 2, 3] rfl)

set_option maxHeartbeats 4000000 in
set_option maxRecDepth 100000 in
/-- firstWithTwin(N) -/
theorem mM_firstWithTwin (l : Launch) (D : va_G) (z : Nat → Nat) (d0 d1 : ClassId) (tl pl : Nat) (g : Nat → Int32) (htl : tl ≤ 48) (hpl : pl ≤ 12) (N : Nat) (hN : N ≤ 48) : ct_I l yX1_firstWithTwin cX1_firstWithTwin 3 (some .int) ({ frames := 3, cells := 0, slots := 0, locals := 73 } : Room) ([.ref (z 0), .int (nI (N))] : List Value) D (tyA d0 d1) (wM z d0 (nI (tl)) (nI (pl)) (g)) (fun r (_ : Unit) => mn (fun i => ∃ j, aM g tl i j N) r) (fun (_ : Unit) => (wM z d0 (nI (tl)) (nI (pl)) (g))) := by
  intro sz
  refine st_of (QA := (st_I D (tyA d0 d1) (fun r (_ : Unit) => mn (fun i => ∃ j, aM g tl i j N) r) (fun (_ : Unit) => (wM z d0 (nI (tl)) (nI (pl)) (g))))) (by decide) (Nat.le_of_ble_eq_true rfl) ?_
  intro p e s m below meth c A ls hx hb hr hml hlocks hown hts hname hK hP hD hS hA hl
  have hl : lv_has ls 3 [(0, .ref (z 0)), (1, .int (nI (N)))] := hl
  have hown : s.vm.findClass RX1 = some m.cls := hown
  refine lv_iconst (v := nI (0)) hx hb dX1_firstWithTwin_0 (by decide) ?_
  refine lv_istore_n (lv' := [(2, .int (nI (0))), (0, .ref (z 0)), (1, .int (nI (N)))]) hx hb dX1_firstWithTwin_1 rfl hl (by decide) rfl (fun ls hl => ?_)
  have loop : ∀ (fu : Nat) (i : Nat), tl + 1 < i + fu → i ≤ tl + 1 → (∀ q, q < i → ¬ ∃ j, aM g tl q j N) → ∀ (H : Heap) (locs : List Loc) (ls : Array Slot), va_P D vwCl (wM z d0 (nI (tl)) (nI (pl)) (g)) H → va_D A (wM z d0 (nI (tl)) (nI (pl)) (g)) → va_S A s.heap H locs → lv_has ls 3 [(2, .int (nI (i))), (0, .ref (z 0)), (1, .int (nI (N)))] → W p l e ({ frames := 3, cells := 0, slots := 0, locals := 73 } : Room) s m ([.ref (z 0), .int (nI (N))] : List Value).toArray below meth c H locs 0 0 (MQ below ((st_I D (tyA d0 d1) (fun r (_ : Unit) => mn (fun i => ∃ j, aM g tl i j N) r) (fun (_ : Unit) => (wM z d0 (nI (tl)) (nI (pl)) (g)))) A) ([.ref (z 0), .int (nI (N))] : List Value).toArray s 0 0 A) (F0 m 2 ls []) := by
    intro fu
    induction fu with
    | zero => intro i hf hi hn; exfalso; omega
    | succ fu ihloop =>
      intro i hf hi hn H locs ls hP hD hS hl
      refine lv_iload_n hx hb dX1_firstWithTwin_2 rfl (lv_at hl 0 rfl) ?_
      refine lv_iload_n hx hb dX1_firstWithTwin_3 rfl (lv_at hl 2 rfl) ?_
      refine ni_add hx hb dX1_firstWithTwin_4 ?_
      refine lv_aload_n hx hb dX1_firstWithTwin_5 rfl (lv_at hl 1 rfl) ?_
      refine va_get (D := D) (ci := 1) (v := .int (nI (tl))) (C := RX1) (T := TX1) (N := 3) hx hb hts in_X1 hown hK hP 0 rfl rfl 1 (by decide) (hts _ q165) (fun _ h9 => h9) rfl dX1_firstWithTwin_6 ?_
      refine ni_icmp_gt (tgt := 29) hx hb dX1_firstWithTwin_9 (by decide) (by omega) (by omega) (fun c_9 => ?_) (fun c_9 => ?_)
      · skip
        refine lv_bipush (v := (-4)) hx hb dX1_firstWithTwin_29 (by decide) ?_
        exact st_iret (v := (-4)) () hx hb hr hlocks hK hP hD hS dX1_firstWithTwin_31 (Or.inr ⟨rfl, fun q h => by obtain ⟨j, h⟩ := h; exact hn q (by have := h.1; have := h.2.1; omega) ⟨j, h⟩⟩)
      · skip
        refine lv_aload_n hx hb dX1_firstWithTwin_12 rfl (lv_at hl 1 rfl) ?_
        refine lv_iload_n hx hb dX1_firstWithTwin_13 rfl (lv_at hl 0 rfl) ?_
        refine lv_iload_n hx hb dX1_firstWithTwin_14 rfl (lv_at hl 2 rfl) ?_
        refine st_cVi0 (ci := 1) (qc := (RX1, TX1, 3)) (As := [.int (nI (i)), .int (nI (N))]) (rest := []) 2 ⟨hx, hb, hml, hown, hts⟩ (mM_twin l D z d0 d1 tl pl g htl hpl i N c_9) (lw_V q239 q241 qs13 q16 q242) (by decide +kernel) ⟨Nat.le_of_ble_eq_true rfl, Nat.le_of_ble_eq_true rfl⟩ rfl rfl ⟨Nat.zero_le _, Nat.zero_le _⟩ hK hP hD hS hA rfl rfl rfl hl.1 rfl (Nat.le_of_ble_eq_true rfl) dX1_firstWithTwin_15 (fun r_15 u H locs hq_15 hP hD hS => ?_)
        have hP : va_P D vwCl (wM z d0 (nI (tl)) (nI (pl)) (g)) H := hP
        have hD : va_D A (wM z d0 (nI (tl)) (nI (pl)) (g)) := hD
        rcases hq_15 with ⟨j, rfl, hj1, hj2, hj3⟩ | ⟨rfl, hno⟩
        · skip
          refine ni_if_lt (tgt := 23) hx hb dX1_firstWithTwin_18 (by decide) (by omega) ?_
          refine lv_iload_n hx hb dX1_firstWithTwin_21 rfl (lv_at hl 0 rfl) ?_
          exact st_iret (v := nI (i)) () hx hb hr hlocks hK hP hD hS dX1_firstWithTwin_22 (Or.inl ⟨i, rfl, by omega, ⟨j, hj2⟩, fun q h => Nat.le_of_not_lt (fun z => hn q z h)⟩)
        · skip
          refine lv_if_lt (tgt := 23) hx hb dX1_firstWithTwin_18 (by decide) (fun c_18 => ?_) (fun c_18 => absurd c_18 (by decide))
          refine lv_iinc (v := nI (i + 1)) (lv' := [(2, .int (nI (i + 1))), (0, .ref (z 0)), (1, .int (nI (N)))]) hx hb dX1_firstWithTwin_23 hl (k := 0) rfl (ni_inc _) (by decide) rfl (fun ls hl => ?_)
          refine lv_goto (tgt := 2) hx hb dX1_firstWithTwin_26 (by decide) ?_
          exact ihloop (i + 1) (by omega) (by omega) (lt_s hn (fun h => by obtain ⟨j, h⟩ := h; exact hno j h)) _ _ _ hP hD hS (lv_sub hl [0, 1, 2] rfl)
  exact loop (tl + 2) 0 (by omega) (by omega) lt_0 _ _ _ hP hD hS (lv_sub hl [0, 1, 2] rfl)

set_option maxHeartbeats 4000000 in
set_option maxRecDepth 100000 in
/-- longestClone() -/
theorem mM_longestClone (l : Launch) (D : va_G) (z : Nat → Nat) (d0 d1 : ClassId) (tl pl : Nat) (g : Nat → Int32) (htl : tl ≤ 48) (hpl : pl ≤ 12) : ct_I l yX1_longestClone cX1_longestClone 2 (some .int) ({ frames := 4, cells := 0, slots := 0, locals := 95 } : Room) ([.ref (z 0)] : List Value) D (tyA d0 d1) (wM z d0 (nI (tl)) (nI (pl)) (g)) (fun r (_ : Unit) => ∃ k, r = nI k ∧ k ≤ 48 ∧ mx (lg (aM g tl)) k) (fun (_ : Unit) => (wM z d0 (nI (tl)) (nI (pl)) (g))) := by
  intro sz
  refine st_of (QA := (st_I D (tyA d0 d1) (fun r (_ : Unit) => ∃ k, r = nI k ∧ k ≤ 48 ∧ mx (lg (aM g tl)) k) (fun (_ : Unit) => (wM z d0 (nI (tl)) (nI (pl)) (g))))) (by decide) (Nat.le_of_ble_eq_true rfl) ?_
  intro p e s m below meth c A ls hx hb hr hml hlocks hown hts hname hK hP hD hS hA hl
  have hl : lv_has ls 2 [(0, .ref (z 0))] := hl
  have hown : s.vm.findClass RX1 = some m.cls := hown
  have htop : ∀ q, lg (aM g tl) q → q + 1 ≤ tl := fun q h => by obtain ⟨h0, i, j, h1, h2, h3⟩ := h; omega
  have loop : ∀ (fu : Nat) (N : Nat), N < fu → N ≤ 48 → (∀ q, lg (aM g tl) q → q ≤ N) → ∀ (H : Heap) (locs : List Loc) (ls : Array Slot), va_P D vwCl (wM z d0 (nI (tl)) (nI (pl)) (g)) H → va_D A (wM z d0 (nI (tl)) (nI (pl)) (g)) → va_S A s.heap H locs → lv_has ls 2 [(1, .int (nI (N))), (0, .ref (z 0))] → W p l e ({ frames := 4, cells := 0, slots := 0, locals := 95 } : Room) s m ([.ref (z 0)] : List Value).toArray below meth c H locs 0 0 (MQ below ((st_I D (tyA d0 d1) (fun r (_ : Unit) => ∃ k, r = nI k ∧ k ≤ 48 ∧ mx (lg (aM g tl)) k) (fun (_ : Unit) => (wM z d0 (nI (tl)) (nI (pl)) (g)))) A) ([.ref (z 0)] : List Value).toArray s 0 0 A) (F0 m 7 ls []) := by
    intro fu
    induction fu with
    | zero => intro N hf hN hn; exfalso; omega
    | succ fu ihloop =>
      intro N hf hN hn H locs ls hP hD hS hl
      refine lv_iload_n hx hb dX1_longestClone_7 rfl (lv_at hl 0 rfl) ?_
      refine lv_iconst (v := nI (1)) hx hb dX1_longestClone_8 (by decide) ?_
      refine ni_icmp_lt (tgt := 28) hx hb dX1_longestClone_9 (by decide) (by omega) (by omega) (fun c_9 => ?_) (fun c_9 => ?_)
      · skip
        refine lv_iconst (v := nI (0)) hx hb dX1_longestClone_28 (by decide) ?_
        exact st_iret (v := nI (0)) () hx hb hr hlocks hK hP hD hS dX1_longestClone_29 ⟨0, rfl, by omega, Or.inr rfl, fun q h => by have := hn q h; omega⟩
      · skip
        refine lv_aload_n hx hb dX1_longestClone_12 rfl (lv_at hl 1 rfl) ?_
        refine lv_iload_n hx hb dX1_longestClone_13 rfl (lv_at hl 0 rfl) ?_
        refine st_cVi0 (ci := 1) (qc := (RX1, TX1, 3)) (As := [.int (nI (N))]) (rest := []) 1 ⟨hx, hb, hml, hown, hts⟩ (mM_firstWithTwin l D z d0 d1 tl pl g htl hpl N (by omega)) (lw_V q235 q237 qs12 q16 q238) (by decide +kernel) ⟨Nat.le_of_ble_eq_true rfl, Nat.le_of_ble_eq_true rfl⟩ rfl rfl ⟨Nat.zero_le _, Nat.zero_le _⟩ hK hP hD hS hA rfl rfl rfl hl.1 rfl (Nat.le_of_ble_eq_true rfl) dX1_longestClone_14 (fun r_14 u H locs hq_14 hP hD hS => ?_)
        have hP : va_P D vwCl (wM z d0 (nI (tl)) (nI (pl)) (g)) H := hP
        have hD : va_D A (wM z d0 (nI (tl)) (nI (pl)) (g)) := hD
        rcases hq_14 with ⟨i, rfl, hj1, hj2, hj3⟩ | ⟨rfl, hno⟩
        · skip
          refine ni_if_lt (tgt := 22) hx hb dX1_longestClone_17 (by decide) (by omega) ?_
          refine lv_iload_n hx hb dX1_longestClone_20 rfl (lv_at hl 0 rfl) ?_
          exact st_iret (v := nI (N)) () hx hb hr hlocks hK hP hD hS dX1_longestClone_21 ⟨N, rfl, by omega, Or.inl ⟨by omega, i, hj2⟩, hn⟩
        · skip
          refine lv_if_lt (tgt := 22) hx hb dX1_longestClone_17 (by decide) (fun c_17 => ?_) (fun c_17 => absurd c_17 (by decide))
          refine lv_iinc (v := nI (N - 1)) (lv' := [(1, .int (nI (N - 1))), (0, .ref (z 0))]) hx hb dX1_longestClone_22 hl (k := 0) rfl (ni_dec (by omega)) (by decide) rfl (fun ls hl => ?_)
          refine lv_goto (tgt := 7) hx hb dX1_longestClone_25 (by decide) ?_
          exact ihloop (N - 1) (by omega) (by omega) (fun q h => Nat.le_sub_one_of_lt (Nat.lt_of_le_of_ne (hn q h) (fun z => by subst z; obtain ⟨_, i, j, h⟩ := h; exact hno i ⟨j, h⟩))) _ _ _ hP hD hS (lv_sub hl [0, 1] rfl)
  refine lv_aload_n hx hb dX1_longestClone_0 rfl (lv_at hl 0 rfl) ?_
  refine va_get (D := D) (ci := 1) (v := .int (nI (tl))) (C := RX1) (T := TX1) (N := 3) hx hb hts in_X1 hown hK hP 0 rfl rfl 1 (by decide) (hts _ q165) (fun _ h9 => h9) rfl dX1_longestClone_1 ?_
  refine lv_iconst (v := nI (1)) hx hb dX1_longestClone_4 (by decide) ?_
  rcases Nat.eq_zero_or_pos tl with h0 | h0
  · skip
    refine lv_isub hx hb dX1_longestClone_5 ?_
    refine lv_istore_n (lv' := [(1, .int (nI tl - nI 1)), (0, .ref (z 0))]) hx hb dX1_longestClone_6 rfl hl (by decide) rfl (fun ls hl => ?_)
    refine lv_iload_n hx hb dX1_longestClone_7 rfl (lv_at hl 0 rfl) ?_
    refine lv_iconst (v := nI (1)) hx hb dX1_longestClone_8 (by decide) ?_
    refine lv_icmp_lt (tgt := 28) hx hb dX1_longestClone_9 (by decide) (fun c_9 => ?_) (fun c_9 => absurd c_9 (by rw [h0]; decide))
    refine lv_iconst (v := nI (0)) hx hb dX1_longestClone_28 (by decide) ?_
    exact st_iret (v := nI (0)) () hx hb hr hlocks hK hP hD hS dX1_longestClone_29 ⟨0, rfl, by omega, Or.inr rfl, fun q h => by have := htop q h; omega⟩
  · skip
    refine ni_sub (by omega) hx hb dX1_longestClone_5 ?_
    refine lv_istore_n (lv' := [(1, .int (nI (tl - 1))), (0, .ref (z 0))]) hx hb dX1_longestClone_6 rfl hl (by decide) rfl (fun ls hl => ?_)
    exact loop (tl + 1) (tl - 1) (by omega) (by omega) (fun q h => by have := htop q h; omega) _ _ _ hP hD hS (lv_sub hl [0, 1] rfl)

set_option maxHeartbeats 4000000 in
set_option maxRecDepth 100000 in
/-- cloneFirst() -/
theorem mM_cloneFirst (l : Launch) (D : va_G) (z : Nat → Nat) (d0 d1 : ClassId) (tl pl : Nat) (g : Nat → Int32) (htl : tl ≤ 48) (hpl : pl ≤ 12) : ct_I l yX1_cloneFirst cX1_cloneFirst 2 (some .int) ({ frames := 5, cells := 0, slots := 0, locals := 116 } : Room) ([.ref (z 0)] : List Value) D (tyA d0 d1) (wM z d0 (nI (tl)) (nI (pl)) (g)) (fun r (_ : Unit) => cfQ (aM g tl) r) (fun (_ : Unit) => (wM z d0 (nI (tl)) (nI (pl)) (g))) := by
  intro sz
  refine st_of (QA := (st_I D (tyA d0 d1) (fun r (_ : Unit) => cfQ (aM g tl) r) (fun (_ : Unit) => (wM z d0 (nI (tl)) (nI (pl)) (g))))) (by decide) (Nat.le_of_ble_eq_true rfl) ?_
  intro p e s m below meth c A ls hx hb hr hml hlocks hown hts hname hK hP hD hS hA hl
  have hl : lv_has ls 2 [(0, .ref (z 0))] := hl
  have hown : s.vm.findClass RX1 = some m.cls := hown
  refine lv_aload_n hx hb dX1_cloneFirst_0 rfl (lv_at hl 0 rfl) ?_
  refine st_cVi0 (ci := 1) (qc := (RX1, TX1, 3)) (As := []) (rest := []) 0 ⟨hx, hb, hml, hown, hts⟩ (mM_longestClone l D z d0 d1 tl pl g htl hpl) (lw_V q247 q232 q233 q16 q234) (by decide +kernel) ⟨Nat.le_of_ble_eq_true rfl, Nat.le_of_ble_eq_true rfl⟩ rfl rfl ⟨Nat.zero_le _, Nat.zero_le _⟩ hK hP hD hS hA rfl rfl rfl hl.1 rfl (Nat.le_of_ble_eq_true rfl) dX1_cloneFirst_1 (fun r_1 u H locs hq_1 hP hD hS => ?_)
  have hP : va_P D vwCl (wM z d0 (nI (tl)) (nI (pl)) (g)) H := hP
  have hD : va_D A (wM z d0 (nI (tl)) (nI (pl)) (g)) := hD
  obtain ⟨k, rfl, hk, hmx⟩ := hq_1
  refine lv_istore_n (lv' := [(1, .int (nI (k))), (0, .ref (z 0))]) hx hb dX1_cloneFirst_4 rfl hl (by decide) rfl (fun ls hl => ?_)
  refine lv_iload_n hx hb dX1_cloneFirst_5 rfl (lv_at hl 0 rfl) ?_
  refine ni_if_ne (tgt := 14) hx hb dX1_cloneFirst_6 (by decide) (by omega) (fun c_6 => ?_) (fun c_6 => ?_)
  · skip
    refine lv_aload_n hx hb dX1_cloneFirst_14 rfl (lv_at hl 1 rfl) ?_
    refine lv_iload_n hx hb dX1_cloneFirst_15 rfl (lv_at hl 0 rfl) ?_
    refine st_cVi0 (ci := 1) (qc := (RX1, TX1, 3)) (As := [.int (nI (k))]) (rest := []) 1 ⟨hx, hb, hml, hown, hts⟩ (mM_firstWithTwin l D z d0 d1 tl pl g htl hpl k hk) (lw_V q235 q237 qs12 q16 q238) (by decide +kernel) ⟨Nat.le_of_ble_eq_true rfl, Nat.le_of_ble_eq_true rfl⟩ rfl rfl ⟨Nat.zero_le _, Nat.zero_le _⟩ hK hP hD hS hA rfl rfl rfl hl.1 rfl (Nat.le_of_ble_eq_true rfl) dX1_cloneFirst_16 (fun r_16 u H locs hq_16 hP hD hS => ?_)
    have hP : va_P D vwCl (wM z d0 (nI (tl)) (nI (pl)) (g)) H := hP
    have hD : va_D A (wM z d0 (nI (tl)) (nI (pl)) (g)) := hD
    exact st_iret (v := (r_16)) () hx hb hr hlocks hK hP hD hS dX1_cloneFirst_19 ⟨k, hmx, Or.inr ⟨c_6, hq_16⟩⟩
  · skip
    refine lv_bipush (v := (-4)) hx hb dX1_cloneFirst_9 (by decide) ?_
    refine lv_goto (tgt := 19) hx hb dX1_cloneFirst_11 (by decide) ?_
    exact st_iret (v := (-4)) () hx hb hr hlocks hK hP hD hS dX1_cloneFirst_19 ⟨k, hmx, Or.inl ⟨c_6, rfl⟩⟩

set_option maxHeartbeats 4000000 in
set_option maxRecDepth 100000 in
/-- cloneSecond() -/
theorem mM_cloneSecond (l : Launch) (D : va_G) (z : Nat → Nat) (d0 d1 : ClassId) (tl pl : Nat) (g : Nat → Int32) (htl : tl ≤ 48) (hpl : pl ≤ 12) : ct_I l yX1_cloneSecond cX1_cloneSecond 3 (some .int) ({ frames := 5, cells := 0, slots := 0, locals := 116 } : Room) ([.ref (z 0)] : List Value) D (tyA d0 d1) (wM z d0 (nI (tl)) (nI (pl)) (g)) (fun r (_ : Unit) => csQ (aM g tl) r) (fun (_ : Unit) => (wM z d0 (nI (tl)) (nI (pl)) (g))) := by
  intro sz
  refine st_of (QA := (st_I D (tyA d0 d1) (fun r (_ : Unit) => csQ (aM g tl) r) (fun (_ : Unit) => (wM z d0 (nI (tl)) (nI (pl)) (g))))) (by decide) (Nat.le_of_ble_eq_true rfl) ?_
  intro p e s m below meth c A ls hx hb hr hml hlocks hown hts hname hK hP hD hS hA hl
  have hl : lv_has ls 3 [(0, .ref (z 0))] := hl
  have hown : s.vm.findClass RX1 = some m.cls := hown
  refine lv_aload_n hx hb dX1_cloneSecond_0 rfl (lv_at hl 0 rfl) ?_
  refine st_cVi0 (ci := 1) (qc := (RX1, TX1, 3)) (As := []) (rest := []) 0 ⟨hx, hb, hml, hown, hts⟩ (mM_longestClone l D z d0 d1 tl pl g htl hpl) (lw_V q247 q232 q233 q16 q234) (by decide +kernel) ⟨Nat.le_of_ble_eq_true rfl, Nat.le_of_ble_eq_true rfl⟩ rfl rfl ⟨Nat.zero_le _, Nat.zero_le _⟩ hK hP hD hS hA rfl rfl rfl hl.1 rfl (Nat.le_of_ble_eq_true rfl) dX1_cloneSecond_1 (fun r_1 u H locs hq_1 hP hD hS => ?_)
  have hP : va_P D vwCl (wM z d0 (nI (tl)) (nI (pl)) (g)) H := hP
  have hD : va_D A (wM z d0 (nI (tl)) (nI (pl)) (g)) := hD
  obtain ⟨k, rfl, hk, hmx⟩ := hq_1
  refine lv_istore_n (lv' := [(1, .int (nI (k))), (0, .ref (z 0))]) hx hb dX1_cloneSecond_4 rfl hl (by decide) rfl (fun ls hl => ?_)
  refine lv_iload_n hx hb dX1_cloneSecond_5 rfl (lv_at hl 0 rfl) ?_
  refine ni_if_ne (tgt := 12) hx hb dX1_cloneSecond_6 (by decide) (by omega) (fun c_6 => ?_) (fun c_6 => ?_)
  · skip
    refine lv_aload_n hx hb dX1_cloneSecond_12 rfl (lv_at hl 1 rfl) ?_
    refine lv_iload_n hx hb dX1_cloneSecond_13 rfl (lv_at hl 0 rfl) ?_
    refine st_cVi0 (ci := 1) (qc := (RX1, TX1, 3)) (As := [.int (nI (k))]) (rest := []) 1 ⟨hx, hb, hml, hown, hts⟩ (mM_firstWithTwin l D z d0 d1 tl pl g htl hpl k hk) (lw_V q235 q237 qs12 q16 q238) (by decide +kernel) ⟨Nat.le_of_ble_eq_true rfl, Nat.le_of_ble_eq_true rfl⟩ rfl rfl ⟨Nat.zero_le _, Nat.zero_le _⟩ hK hP hD hS hA rfl rfl rfl hl.1 rfl (Nat.le_of_ble_eq_true rfl) dX1_cloneSecond_14 (fun r_14 u H locs hq_14 hP hD hS => ?_)
    have hP : va_P D vwCl (wM z d0 (nI (tl)) (nI (pl)) (g)) H := hP
    have hD : va_D A (wM z d0 (nI (tl)) (nI (pl)) (g)) := hD
    have hq0 := hq_14
    rcases hq_14 with ⟨i, rfl, hj1, hj2, hj3⟩ | ⟨rfl, hno⟩
    · skip
      refine lv_istore_n (lv' := [(2, .int (nI (i))), (1, .int (nI (k))), (0, .ref (z 0))]) hx hb dX1_cloneSecond_17 rfl hl (by decide) rfl (fun ls hl => ?_)
      refine lv_aload_n hx hb dX1_cloneSecond_18 rfl (lv_at hl 2 rfl) ?_
      refine lv_iload_n hx hb dX1_cloneSecond_19 rfl (lv_at hl 0 rfl) ?_
      refine lv_iload_n hx hb dX1_cloneSecond_20 rfl (lv_at hl 1 rfl) ?_
      have hik : i + k ≤ tl := by obtain ⟨j, h⟩ := hj2; have := h.1; have := h.2.1; omega
      refine st_cVi0 (ci := 1) (qc := (RX1, TX1, 3)) (As := [.int (nI (i)), .int (nI (k))]) (rest := []) 2 ⟨hx, hb, hml, hown, hts⟩ (mM_twin l D z d0 d1 tl pl g htl hpl i k hik) (lw_V q239 q241 qs13 q16 q242) (by decide +kernel) ⟨Nat.le_of_ble_eq_true rfl, Nat.le_of_ble_eq_true rfl⟩ rfl rfl ⟨Nat.zero_le _, Nat.zero_le _⟩ hK hP hD hS hA rfl rfl rfl hl.1 rfl (Nat.le_of_ble_eq_true rfl) dX1_cloneSecond_21 (fun r_21 u H locs hq_21 hP hD hS => ?_)
      have hP : va_P D vwCl (wM z d0 (nI (tl)) (nI (pl)) (g)) H := hP
      have hD : va_D A (wM z d0 (nI (tl)) (nI (pl)) (g)) := hD
      exact st_iret (v := (r_21)) () hx hb hr hlocks hK hP hD hS dX1_cloneSecond_24 ⟨k, hmx, Or.inr ⟨c_6, i, hj1, hq0, hq_21⟩⟩
    · skip
      exfalso
      rcases hmx.1 with h | h
      · obtain ⟨_, i, j, h⟩ := h
        exact hno i ⟨j, h⟩
      · omega
  · skip
    refine lv_bipush (v := (-4)) hx hb dX1_cloneSecond_9 (by decide) ?_
    exact st_iret (v := (-4)) () hx hb hr hlocks hK hP hD hS dX1_cloneSecond_11 ⟨k, hmx, Or.inl ⟨c_6, rfl⟩⟩
end
section
/-! the model: the other methods -/
set_option maxHeartbeats 4000000 in
set_option maxRecDepth 100000 in
/-- kinds(x) -/
theorem mM_kinds (l : Launch) (D : va_G) (z : Nat → Nat) (d0 d1 : ClassId) (tl pl : Nat) (g : Nat → Int32) (htl : tl ≤ 48) (hpl : pl ≤ 12) (x : Int32) : ct_I l yX1_kinds cX1_kinds 6 (some .int) ({ frames := 2, cells := 0, slots := 0, locals := 50 } : Room) ([.ref (z 0), .int (x)] : List Value) D (tyA d0 d1) (wM z d0 (nI (tl)) (nI (pl)) (g)) (fun r (_ : Unit) => kdQ (nwM g) tl x r) (fun (_ : Unit) => (wM z d0 (nI (tl)) (nI (pl)) (g))) := by
  intro sz
  refine st_of (QA := (st_I D (tyA d0 d1) (fun r (_ : Unit) => kdQ (nwM g) tl x r) (fun (_ : Unit) => (wM z d0 (nI (tl)) (nI (pl)) (g))))) (by decide) (Nat.le_of_ble_eq_true rfl) ?_
  intro p e s m below meth c A ls hx hb hr hml hlocks hown hts hname hK hP hD hS hA hl
  have hl : lv_has ls 6 [(0, .ref (z 0)), (1, .int (x))] := hl
  have hown : s.vm.findClass RX1 = some m.cls := hown
  refine lv_iload_n hx hb dX1_kinds_0 rfl (lv_at hl 1 rfl) ?_
  refine lv_iconst (v := nI (1)) hx hb dX1_kinds_1 (by decide) ?_
  refine lv_icmp_lt (tgt := 13) hx hb dX1_kinds_2 (by decide) (fun c_2 => ?_) (fun c_2 => ?_)
  · skip
    refine lv_iconst (v := nI (0)) hx hb dX1_kinds_13 (by decide) ?_
    exact st_iret (v := nI (0)) () hx hb hr hlocks hK hP hD hS dX1_kinds_14 (Or.inr ⟨Or.inl c_2, rfl⟩)
  · skip
    refine lv_iload_n hx hb dX1_kinds_5 rfl (lv_at hl 1 rfl) ?_
    refine lv_aload_n hx hb dX1_kinds_6 rfl (lv_at hl 0 rfl) ?_
    refine va_get (D := D) (ci := 1) (v := .int (nI (tl))) (C := RX1) (T := TX1) (N := 3) hx hb hts in_X1 hown hK hP 0 rfl rfl 1 (by decide) (hts _ q165) (fun _ h9 => h9) rfl dX1_kinds_7 ?_
    refine lv_icmp_le (tgt := 15) hx hb dX1_kinds_10 (by decide) (fun c_10 => ?_) (fun c_10 => ?_)
    · skip
      obtain ⟨k, hk1, hk2, rfl⟩ := one_of (by omega) c_2 c_10
      refine lv_iconst (v := nI (0)) hx hb dX1_kinds_15 (by decide) ?_
      refine lv_istore_n (lv' := [(2, .int (nI (0))), (0, .ref (z 0)), (1, .int (nI (k)))]) hx hb dX1_kinds_16 rfl hl (by decide) rfl (fun ls hl => ?_)
      refine lv_iconst (v := nI (0)) hx hb dX1_kinds_17 (by decide) ?_
      refine lv_istore_n (lv' := [(3, .int (nI (0))), (2, .int (nI (0))), (0, .ref (z 0)), (1, .int (nI (k)))]) hx hb dX1_kinds_18 rfl hl (by decide) rfl (fun ls hl => ?_)
      have loop : ∀ (fu : Nat) (i f : Nat), tl + 1 < i + fu → i + k ≤ tl + 1 → f = cnt (nwM g k) i → ∀ (H : Heap) (locs : List Loc) (ls : Array Slot), va_P D vwCl (wM z d0 (nI (tl)) (nI (pl)) (g)) H → va_D A (wM z d0 (nI (tl)) (nI (pl)) (g)) → va_S A s.heap H locs → lv_has ls 6 [(3, .int (nI (i))), (2, .int (nI (f))), (0, .ref (z 0)), (1, .int (nI (k)))] → W p l e ({ frames := 2, cells := 0, slots := 0, locals := 50 } : Room) s m ([.ref (z 0), .int (nI (k))] : List Value).toArray below meth c H locs 0 0 (MQ below ((st_I D (tyA d0 d1) (fun r (_ : Unit) => kdQ (nwM g) tl (nI (k)) r) (fun (_ : Unit) => (wM z d0 (nI (tl)) (nI (pl)) (g)))) A) ([.ref (z 0), .int (nI (k))] : List Value).toArray s 0 0 A) (F0 m 19 ls []) := by
        intro fu
        induction fu with
        | zero => intro i f hf hi hc; exfalso; omega
        | succ fu ihloop =>
          intro i f hf hi hc H locs ls hP hD hS hl
          refine lv_iload_n hx hb dX1_kinds_19 rfl (lv_at hl 0 rfl) ?_
          refine lv_iload_n hx hb dX1_kinds_20 rfl (lv_at hl 3 rfl) ?_
          refine ni_add hx hb dX1_kinds_21 ?_
          refine lv_aload_n hx hb dX1_kinds_22 rfl (lv_at hl 2 rfl) ?_
          refine va_get (D := D) (ci := 1) (v := .int (nI (tl))) (C := RX1) (T := TX1) (N := 3) hx hb hts in_X1 hown hK hP 0 rfl rfl 1 (by decide) (hts _ q165) (fun _ h9 => h9) rfl dX1_kinds_23 ?_
          refine ni_icmp_gt (tgt := 84) hx hb dX1_kinds_26 (by decide) (by omega) (by omega) (fun c_26 => ?_) (fun c_26 => ?_)
          · skip
            refine lv_iload_n hx hb dX1_kinds_84 rfl (lv_at hl 1 rfl) ?_
            exact st_iret (v := nI (f)) () hx hb hr hlocks hK hP hD hS dX1_kinds_85 (Or.inl ⟨k, hk1, hk2, rfl, by rw [hc, show i = tl + 1 - k by omega]⟩)
          · skip
            refine lv_iconst (v := nI (0)) hx hb dX1_kinds_29 (by decide) ?_
            refine lv_istore (lv' := [(4, .int (nI (0))), (3, .int (nI (i))), (2, .int (nI (f))), (0, .ref (z 0)), (1, .int (nI (k)))]) hx hb dX1_kinds_30 hl (by decide) rfl (fun ls hl => ?_)
            refine lv_iconst (v := nI (0)) hx hb dX1_kinds_32 (by decide) ?_
            refine lv_istore (lv' := [(5, .int (nI (0))), (4, .int (nI (0))), (3, .int (nI (i))), (2, .int (nI (f))), (0, .ref (z 0)), (1, .int (nI (k)))]) hx hb dX1_kinds_33 hl (by decide) rfl (fun ls hl => ?_)
            have inner : ∀ (fu : Nat) (j b : Nat), i < j + fu → j ≤ i → ((b = 1 ∧ ∃ q, q < j ∧ akG g i g q k) ∨ (b = 0 ∧ ¬ ∃ q, q < j ∧ akG g i g q k)) → ∀ (H : Heap) (locs : List Loc) (ls : Array Slot), va_P D vwCl (wM z d0 (nI (tl)) (nI (pl)) (g)) H → va_D A (wM z d0 (nI (tl)) (nI (pl)) (g)) → va_S A s.heap H locs → lv_has ls 6 [(5, .int (nI (j))), (4, .int (nI (b))), (3, .int (nI (i))), (2, .int (nI (f))), (0, .ref (z 0)), (1, .int (nI (k)))] → W p l e ({ frames := 2, cells := 0, slots := 0, locals := 50 } : Room) s m ([.ref (z 0), .int (nI (k))] : List Value).toArray below meth c H locs 0 0 (MQ below ((st_I D (tyA d0 d1) (fun r (_ : Unit) => kdQ (nwM g) tl (nI (k)) r) (fun (_ : Unit) => (wM z d0 (nI (tl)) (nI (pl)) (g)))) A) ([.ref (z 0), .int (nI (k))] : List Value).toArray s 0 0 A) (F0 m 35 ls []) := by
              intro fu
              induction fu with
              | zero => intro j b hf2 hj hb2; exfalso; omega
              | succ fu ihinner =>
                intro j b hf2 hj hb2 H locs ls hP hD hS hl
                rcases hb2 with ⟨rfl, hb2⟩ | ⟨rfl, hb2⟩
                · skip
                  refine lv_iload hx hb dX1_kinds_35 (lv_at hl 0 rfl) ?_
                  refine lv_iload_n hx hb dX1_kinds_37 rfl (lv_at hl 2 rfl) ?_
                  refine ni_icmp_ge (tgt := 70) hx hb dX1_kinds_38 (by decide) (by omega) (by omega) (fun c_38 => ?_) (fun c_38 => ?_)
                  · skip
                    refine lv_iload hx hb dX1_kinds_70 (lv_at hl 1 rfl) ?_
                    refine ni_if_ne (tgt := 78) hx hb dX1_kinds_72 (by decide) (by omega) (fun c_72 => ?_) (fun c_72 => absurd c_72 (by decide))
                    refine lv_iinc (v := nI (i + 1)) (lv' := [(3, .int (nI (i + 1))), (5, .int (nI (j))), (4, .int (nI (1))), (2, .int (nI (f))), (0, .ref (z 0)), (1, .int (nI (k)))]) hx hb dX1_kinds_78 hl (k := 2) rfl (ni_inc _) (by decide) rfl (fun ls hl => ?_)
                    refine lv_goto (tgt := 19) hx hb dX1_kinds_81 (by decide) ?_
                    have hji : j = i := by omega
                    subst hji
                    exact ihloop (j + 1) f (by omega) (by omega) (by rw [cnt_f (P := nwM g k) (fun h => h hb2), hc]) _ _ _ hP hD hS (lv_sub hl [0, 3, 4, 5] rfl)
                  · skip
                    refine lv_iload hx hb dX1_kinds_41 (lv_at hl 1 rfl) ?_
                    refine ni_if_ne (tgt := 57) hx hb dX1_kinds_43 (by decide) (by omega) (fun c_43 => ?_) (fun c_43 => absurd c_43 (by decide))
                    refine lv_iconst (v := nI (1)) hx hb dX1_kinds_57 (by decide) ?_
                    refine lv_goto (tgt := 62) hx hb dX1_kinds_58 (by decide) ?_
                    refine lv_istore (lv' := [(4, .int (nI (1))), (5, .int (nI (j))), (3, .int (nI (i))), (2, .int (nI (f))), (0, .ref (z 0)), (1, .int (nI (k)))]) hx hb dX1_kinds_62 hl (by decide) rfl (fun ls hl => ?_)
                    refine lv_iinc (v := nI (j + 1)) (lv' := [(5, .int (nI (j + 1))), (4, .int (nI (1))), (3, .int (nI (i))), (2, .int (nI (f))), (0, .ref (z 0)), (1, .int (nI (k)))]) hx hb dX1_kinds_64 hl (k := 1) rfl (ni_inc _) (by decide) rfl (fun ls hl => ?_)
                    refine lv_goto (tgt := 35) hx hb dX1_kinds_67 (by decide) ?_
                    exact ihinner (j + 1) 1 (by omega) (by omega) (Or.inl ⟨rfl, by obtain ⟨q, h1, h2⟩ := hb2; exact ⟨q, by omega, h2⟩⟩) _ _ _ hP hD hS (lv_sub hl [0, 1, 2, 3, 4, 5] rfl)
                · skip
                  refine lv_iload hx hb dX1_kinds_35 (lv_at hl 0 rfl) ?_
                  refine lv_iload_n hx hb dX1_kinds_37 rfl (lv_at hl 2 rfl) ?_
                  refine ni_icmp_ge (tgt := 70) hx hb dX1_kinds_38 (by decide) (by omega) (by omega) (fun c_38 => ?_) (fun c_38 => ?_)
                  · skip
                    refine lv_iload hx hb dX1_kinds_70 (lv_at hl 1 rfl) ?_
                    refine ni_if_ne (tgt := 78) hx hb dX1_kinds_72 (by decide) (by omega) (fun c_72 => absurd c_72 (by decide)) (fun c_72 => ?_)
                    refine lv_iinc (v := nI (f + 1)) (lv' := [(2, .int (nI (f + 1))), (5, .int (nI (j))), (4, .int (nI (0))), (3, .int (nI (i))), (0, .ref (z 0)), (1, .int (nI (k)))]) hx hb dX1_kinds_75 hl (k := 3) rfl (ni_inc _) (by decide) rfl (fun ls hl => ?_)
                    refine lv_iinc (v := nI (i + 1)) (lv' := [(3, .int (nI (i + 1))), (2, .int (nI (f + 1))), (5, .int (nI (j))), (4, .int (nI (0))), (0, .ref (z 0)), (1, .int (nI (k)))]) hx hb dX1_kinds_78 hl (k := 3) rfl (ni_inc _) (by decide) rfl (fun ls hl => ?_)
                    refine lv_goto (tgt := 19) hx hb dX1_kinds_81 (by decide) ?_
                    have hji : j = i := by omega
                    subst hji
                    exact ihloop (j + 1) (f + 1) (by omega) (by omega) (by rw [cnt_t (P := nwM g k) hb2, hc]) _ _ _ hP hD hS (lv_sub hl [0, 1, 4, 5] rfl)
                  · skip
                    refine lv_iload hx hb dX1_kinds_41 (lv_at hl 1 rfl) ?_
                    refine ni_if_ne (tgt := 57) hx hb dX1_kinds_43 (by decide) (by omega) (fun c_43 => absurd c_43 (by decide)) (fun c_43 => ?_)
                    refine lv_aload_n hx hb dX1_kinds_46 rfl (lv_at hl 4 rfl) ?_
                    refine lv_iload_n hx hb dX1_kinds_47 rfl (lv_at hl 2 rfl) ?_
                    refine lv_iload hx hb dX1_kinds_48 (lv_at hl 0 rfl) ?_
                    refine lv_iload_n hx hb dX1_kinds_50 rfl (lv_at hl 5 rfl) ?_
                    refine st_cVi0 (ci := 1) (qc := (RX1, TX1, 3)) (As := [.int (nI (i)), .int (nI (j)), .int (nI (k))]) (rest := []) 3 ⟨hx, hb, hml, hown, hts⟩ (mM_alike l D z d0 d1 tl pl g htl hpl i j k (by omega) (by omega)) (lw_V q214 q216 qs10 q16 q217) (by decide +kernel) ⟨Nat.le_of_ble_eq_true rfl, Nat.le_of_ble_eq_true rfl⟩ rfl rfl ⟨Nat.zero_le _, Nat.zero_le _⟩ hK hP hD hS hA rfl rfl rfl hl.1 rfl (Nat.le_of_ble_eq_true rfl) dX1_kinds_51 (fun r_51 u H locs hq_51 hP hD hS => ?_)
                    have hP : va_P D vwCl (wM z d0 (nI (tl)) (nI (pl)) (g)) H := hP
                    have hD : va_D A (wM z d0 (nI (tl)) (nI (pl)) (g)) := hD
                    rcases hq_51 with ⟨rfl, hq_51⟩ | ⟨rfl, hq_51⟩
                    · skip
                      refine ni_if_eq (tgt := 61) hx hb dX1_kinds_54 (by decide) (by omega) (fun c_54 => absurd c_54 (by decide)) (fun c_54 => ?_)
                      refine lv_iconst (v := nI (1)) hx hb dX1_kinds_57 (by decide) ?_
                      refine lv_goto (tgt := 62) hx hb dX1_kinds_58 (by decide) ?_
                      refine lv_istore (lv' := [(4, .int (nI (1))), (5, .int (nI (j))), (3, .int (nI (i))), (2, .int (nI (f))), (0, .ref (z 0)), (1, .int (nI (k)))]) hx hb dX1_kinds_62 hl (by decide) rfl (fun ls hl => ?_)
                      refine lv_iinc (v := nI (j + 1)) (lv' := [(5, .int (nI (j + 1))), (4, .int (nI (1))), (3, .int (nI (i))), (2, .int (nI (f))), (0, .ref (z 0)), (1, .int (nI (k)))]) hx hb dX1_kinds_64 hl (k := 1) rfl (ni_inc _) (by decide) rfl (fun ls hl => ?_)
                      refine lv_goto (tgt := 35) hx hb dX1_kinds_67 (by decide) ?_
                      exact ihinner (j + 1) 1 (by omega) (by omega) (Or.inl ⟨rfl, j, by omega, hq_51⟩) _ _ _ hP hD hS (lv_sub hl [0, 1, 2, 3, 4, 5] rfl)
                    · skip
                      refine ni_if_eq (tgt := 61) hx hb dX1_kinds_54 (by decide) (by omega) (fun c_54 => ?_) (fun c_54 => absurd c_54 (by decide))
                      refine lv_iconst (v := nI (0)) hx hb dX1_kinds_61 (by decide) ?_
                      refine lv_istore (lv' := [(4, .int (nI (0))), (5, .int (nI (j))), (3, .int (nI (i))), (2, .int (nI (f))), (0, .ref (z 0)), (1, .int (nI (k)))]) hx hb dX1_kinds_62 hl (by decide) rfl (fun ls hl => ?_)
                      refine lv_iinc (v := nI (j + 1)) (lv' := [(5, .int (nI (j + 1))), (4, .int (nI (0))), (3, .int (nI (i))), (2, .int (nI (f))), (0, .ref (z 0)), (1, .int (nI (k)))]) hx hb dX1_kinds_64 hl (k := 1) rfl (ni_inc _) (by decide) rfl (fun ls hl => ?_)
                      refine lv_goto (tgt := 35) hx hb dX1_kinds_67 (by decide) ?_
                      exact ihinner (j + 1) 0 (by omega) (by omega) (Or.inr ⟨rfl, fun h => by obtain ⟨q, h1, h2⟩ := h; exact (if hqj : q = j then hq_51 (hqj ▸ h2) else hb2 ⟨q, by omega, h2⟩)⟩) _ _ _ hP hD hS (lv_sub hl [0, 1, 2, 3, 4, 5] rfl)
            exact inner (i + 1) 0 0 (by omega) (by omega) (Or.inr ⟨rfl, fun h => by obtain ⟨q, h1, h2⟩ := h; omega⟩) _ _ _ hP hD hS (lv_sub hl [0, 1, 2, 3, 4, 5] rfl)
      exact loop (tl + 2) 0 0 (by omega) (by omega) rfl _ _ _ hP hD hS (lv_sub hl [0, 1, 2, 3] rfl)
    · skip
      refine lv_iconst (v := nI (0)) hx hb dX1_kinds_13 (by decide) ?_
      exact st_iret (v := nI (0)) () hx hb hr hlocks hK hP hD hS dX1_kinds_14 (Or.inr ⟨Or.inr (Int32.not_le.mp c_10), rfl⟩)

set_option maxHeartbeats 4000000 in
set_option maxRecDepth 100000 in
/-- reach(x, y) -/
theorem mM_reach (l : Launch) (D : va_G) (z : Nat → Nat) (d0 d1 : ClassId) (tl pl : Nat) (g : Nat → Int32) (htl : tl ≤ 48) (hpl : pl ≤ 12) (x y : Int32) : ct_I l yX1_reach cX1_reach 5 (some .int) ({ frames := 2, cells := 0, slots := 0, locals := 50 } : Room) ([.ref (z 0), .int (x), .int (y)] : List Value) D (tyA d0 d1) (wM z d0 (nI (tl)) (nI (pl)) (g)) (fun r (_ : Unit) => rcQ (fun i j n => akG g i g j n) tl x y r) (fun (_ : Unit) => (wM z d0 (nI (tl)) (nI (pl)) (g))) := by
  intro sz
  refine st_of (QA := (st_I D (tyA d0 d1) (fun r (_ : Unit) => rcQ (fun i j n => akG g i g j n) tl x y r) (fun (_ : Unit) => (wM z d0 (nI (tl)) (nI (pl)) (g))))) (by decide) (Nat.le_of_ble_eq_true rfl) ?_
  intro p e s m below meth c A ls hx hb hr hml hlocks hown hts hname hK hP hD hS hA hl
  have hl : lv_has ls 5 [(0, .ref (z 0)), (1, .int (x)), (2, .int (y))] := hl
  have hown : s.vm.findClass RX1 = some m.cls := hown
  refine lv_aload_n hx hb dX1_reach_0 rfl (lv_at hl 0 rfl) ?_
  refine lv_iload_n hx hb dX1_reach_1 rfl (lv_at hl 1 rfl) ?_
  refine st_cVi0 (ci := 1) (qc := (RX1, TX1, 3)) (As := [.int (x)]) (rest := []) 1 ⟨hx, hb, hml, hown, hts⟩ (mM_inText l D z d0 d1 tl pl g htl hpl x) (lw_V q186 q188 qs8 q16 q189) (by decide +kernel) ⟨Nat.le_of_ble_eq_true rfl, Nat.le_of_ble_eq_true rfl⟩ rfl rfl ⟨Nat.zero_le _, Nat.zero_le _⟩ hK hP hD hS hA rfl rfl rfl hl.1 rfl (Nat.le_of_ble_eq_true rfl) dX1_reach_2 (fun r_2 u H locs hq_2 hP hD hS => ?_)
  have hP : va_P D vwCl (wM z d0 (nI (tl)) (nI (pl)) (g)) H := hP
  have hD : va_D A (wM z d0 (nI (tl)) (nI (pl)) (g)) := hD
  rcases hq_2 with ⟨rfl, hq_2⟩ | ⟨rfl, hq_2⟩
  · skip
    refine ni_if_eq (tgt := 16) hx hb dX1_reach_5 (by decide) (by omega) (fun c_5 => absurd c_5 (by decide)) (fun c_5 => ?_)
    refine lv_aload_n hx hb dX1_reach_8 rfl (lv_at hl 0 rfl) ?_
    refine lv_iload_n hx hb dX1_reach_9 rfl (lv_at hl 2 rfl) ?_
    refine st_cVi0 (ci := 1) (qc := (RX1, TX1, 3)) (As := [.int (y)]) (rest := []) 1 ⟨hx, hb, hml, hown, hts⟩ (mM_inText l D z d0 d1 tl pl g htl hpl y) (lw_V q186 q188 qs8 q16 q189) (by decide +kernel) ⟨Nat.le_of_ble_eq_true rfl, Nat.le_of_ble_eq_true rfl⟩ rfl rfl ⟨Nat.zero_le _, Nat.zero_le _⟩ hK hP hD hS hA rfl rfl rfl hl.1 rfl (Nat.le_of_ble_eq_true rfl) dX1_reach_10 (fun r_10 u H locs hq_10 hP hD hS => ?_)
    have hP : va_P D vwCl (wM z d0 (nI (tl)) (nI (pl)) (g)) H := hP
    have hD : va_D A (wM z d0 (nI (tl)) (nI (pl)) (g)) := hD
    rcases hq_10 with ⟨rfl, hq_10⟩ | ⟨rfl, hq_10⟩
    · skip
      refine ni_if_ne (tgt := 19) hx hb dX1_reach_13 (by decide) (by omega) (fun c_13 => ?_) (fun c_13 => absurd c_13 (by decide))
      obtain ⟨i, hi, rfl⟩ := in_of (by omega) hq_2
      obtain ⟨j, hj, rfl⟩ := in_of (by omega) hq_10
      have loop : ∀ (fu : Nat) (N la : Nat), N < fu → N + la ≤ tl → i ≤ la → j ≤ la → (∀ q, (i + q ≤ tl ∧ j + q ≤ tl ∧ akG g i g j q) → q ≤ N) → ∀ (H : Heap) (locs : List Loc) (ls : Array Slot), va_P D vwCl (wM z d0 (nI (tl)) (nI (pl)) (g)) H → va_D A (wM z d0 (nI (tl)) (nI (pl)) (g)) → va_S A s.heap H locs → lv_has ls 5 [(4, .int (nI (N))), (3, .int (nI (la))), (0, .ref (z 0)), (1, .int (nI (i))), (2, .int (nI (j)))] → W p l e ({ frames := 2, cells := 0, slots := 0, locals := 50 } : Room) s m ([.ref (z 0), .int (nI (i)), .int (nI (j))] : List Value).toArray below meth c H locs 0 0 (MQ below ((st_I D (tyA d0 d1) (fun r (_ : Unit) => rcQ (fun i j n => akG g i g j n) tl (nI (i)) (nI (j)) r) (fun (_ : Unit) => (wM z d0 (nI (tl)) (nI (pl)) (g)))) A) ([.ref (z 0), .int (nI (i)), .int (nI (j))] : List Value).toArray s 0 0 A) (F0 m 38 ls []) := by
        intro fu
        induction fu with
        | zero => intro N la hf hla hli hlj hn; exfalso; omega
        | succ fu ihloop =>
          intro N la hf hla hli hlj hn H locs ls hP hD hS hl
          refine lv_iload hx hb dX1_reach_38 (lv_at hl 0 rfl) ?_
          refine lv_iconst (v := nI (1)) hx hb dX1_reach_40 (by decide) ?_
          refine ni_icmp_lt (tgt := 64) hx hb dX1_reach_41 (by decide) (by omega) (by omega) (fun c_41 => ?_) (fun c_41 => ?_)
          · skip
            refine lv_iconst (v := nI (0)) hx hb dX1_reach_64 (by decide) ?_
            exact st_iret (v := nI (0)) () hx hb hr hlocks hK hP hD hS dX1_reach_65 (Or.inl ⟨i, j, 0, hi, hj, rfl, rfl, rfl, Or.inr rfl, fun q h => by have := hn q h; omega⟩)
          · skip
            refine lv_aload_n hx hb dX1_reach_44 rfl (lv_at hl 2 rfl) ?_
            refine lv_iload_n hx hb dX1_reach_45 rfl (lv_at hl 3 rfl) ?_
            refine lv_iload_n hx hb dX1_reach_46 rfl (lv_at hl 4 rfl) ?_
            refine lv_iload hx hb dX1_reach_47 (lv_at hl 0 rfl) ?_
            refine st_cVi0 (ci := 1) (qc := (RX1, TX1, 3)) (As := [.int (nI (i)), .int (nI (j)), .int (nI (N))]) (rest := []) 3 ⟨hx, hb, hml, hown, hts⟩ (mM_alike l D z d0 d1 tl pl g htl hpl i j N (by omega) (by omega)) (lw_V q214 q216 qs10 q16 q217) (by decide +kernel) ⟨Nat.le_of_ble_eq_true rfl, Nat.le_of_ble_eq_true rfl⟩ rfl rfl ⟨Nat.zero_le _, Nat.zero_le _⟩ hK hP hD hS hA rfl rfl rfl hl.1 rfl (Nat.le_of_ble_eq_true rfl) dX1_reach_49 (fun r_49 u H locs hq_49 hP hD hS => ?_)
            have hP : va_P D vwCl (wM z d0 (nI (tl)) (nI (pl)) (g)) H := hP
            have hD : va_D A (wM z d0 (nI (tl)) (nI (pl)) (g)) := hD
            rcases hq_49 with ⟨rfl, hq_49⟩ | ⟨rfl, hq_49⟩
            · skip
              refine ni_if_eq (tgt := 58) hx hb dX1_reach_52 (by decide) (by omega) (fun c_52 => absurd c_52 (by decide)) (fun c_52 => ?_)
              refine lv_iload hx hb dX1_reach_55 (lv_at hl 0 rfl) ?_
              exact st_iret (v := nI (N)) () hx hb hr hlocks hK hP hD hS dX1_reach_57 (Or.inl ⟨i, j, N, hi, hj, rfl, rfl, rfl, Or.inl ⟨by omega, by omega, hq_49⟩, hn⟩)
            · skip
              refine ni_if_eq (tgt := 58) hx hb dX1_reach_52 (by decide) (by omega) (fun c_52 => ?_) (fun c_52 => absurd c_52 (by decide))
              refine lv_iinc (v := nI (N - 1)) (lv' := [(4, .int (nI (N - 1))), (3, .int (nI (la))), (0, .ref (z 0)), (1, .int (nI (i))), (2, .int (nI (j)))]) hx hb dX1_reach_58 hl (k := 0) rfl (ni_dec (by omega)) (by decide) rfl (fun ls hl => ?_)
              refine lv_goto (tgt := 38) hx hb dX1_reach_61 (by decide) ?_
              exact ihloop (N - 1) la (by omega) (by omega) (by omega) (by omega) (fun q h => Nat.le_sub_one_of_lt (Nat.lt_of_le_of_ne (hn q h) (fun z => hq_49 (z ▸ h.2.2)))) _ _ _ hP hD hS (lv_sub hl [0, 1, 2, 3, 4] rfl)
      refine lv_iload_n hx hb dX1_reach_19 rfl (lv_at hl 1 rfl) ?_
      refine lv_iload_n hx hb dX1_reach_20 rfl (lv_at hl 2 rfl) ?_
      refine ni_icmp_le (tgt := 28) hx hb dX1_reach_21 (by decide) (by omega) (by omega) (fun c_21 => ?_) (fun c_21 => ?_)
      · skip
        refine lv_iload_n hx hb dX1_reach_28 rfl (lv_at hl 2 rfl) ?_
        refine lv_istore_n (lv' := [(3, .int (nI (j))), (0, .ref (z 0)), (1, .int (nI (i))), (2, .int (nI (j)))]) hx hb dX1_reach_29 rfl hl (by decide) rfl (fun ls hl => ?_)
        refine lv_aload_n hx hb dX1_reach_30 rfl (lv_at hl 1 rfl) ?_
        refine va_get (D := D) (ci := 1) (v := .int (nI (tl))) (C := RX1) (T := TX1) (N := 3) hx hb hts in_X1 hown hK hP 0 rfl rfl 1 (by decide) (hts _ q165) (fun _ h9 => h9) rfl dX1_reach_31 ?_
        refine lv_iload_n hx hb dX1_reach_34 rfl (lv_at hl 0 rfl) ?_
        refine ni_sub (by omega) hx hb dX1_reach_35 ?_
        refine lv_istore (lv' := [(4, .int (nI (tl - j))), (3, .int (nI (j))), (0, .ref (z 0)), (1, .int (nI (i))), (2, .int (nI (j)))]) hx hb dX1_reach_36 hl (by decide) rfl (fun ls hl => ?_)
        exact loop (tl + 1) (tl - j) j (by omega) (by omega) (by omega) (by omega) (fun q h => by have := h.1; have := h.2.1; omega) _ _ _ hP hD hS (lv_sub hl [0, 1, 2, 3, 4] rfl)
      · skip
        refine lv_iload_n hx hb dX1_reach_24 rfl (lv_at hl 1 rfl) ?_
        refine lv_goto (tgt := 29) hx hb dX1_reach_25 (by decide) ?_
        refine lv_istore_n (lv' := [(3, .int (nI (i))), (0, .ref (z 0)), (1, .int (nI (i))), (2, .int (nI (j)))]) hx hb dX1_reach_29 rfl hl (by decide) rfl (fun ls hl => ?_)
        refine lv_aload_n hx hb dX1_reach_30 rfl (lv_at hl 1 rfl) ?_
        refine va_get (D := D) (ci := 1) (v := .int (nI (tl))) (C := RX1) (T := TX1) (N := 3) hx hb hts in_X1 hown hK hP 0 rfl rfl 1 (by decide) (hts _ q165) (fun _ h9 => h9) rfl dX1_reach_31 ?_
        refine lv_iload_n hx hb dX1_reach_34 rfl (lv_at hl 0 rfl) ?_
        refine ni_sub (by omega) hx hb dX1_reach_35 ?_
        refine lv_istore (lv' := [(4, .int (nI (tl - i))), (3, .int (nI (i))), (0, .ref (z 0)), (1, .int (nI (i))), (2, .int (nI (j)))]) hx hb dX1_reach_36 hl (by decide) rfl (fun ls hl => ?_)
        exact loop (tl + 1) (tl - i) i (by omega) (by omega) (by omega) (by omega) (fun q h => by have := h.1; have := h.2.1; omega) _ _ _ hP hD hS (lv_sub hl [0, 1, 2, 3, 4] rfl)
    · skip
      refine ni_if_ne (tgt := 19) hx hb dX1_reach_13 (by decide) (by omega) (fun c_13 => absurd c_13 (by decide)) (fun c_13 => ?_)
      refine lv_bipush (v := (-3)) hx hb dX1_reach_16 (by decide) ?_
      exact st_iret (v := (-3)) () hx hb hr hlocks hK hP hD hS dX1_reach_18 (Or.inr ⟨fun h => hq_10 h.2, rfl⟩)
  · skip
    refine ni_if_eq (tgt := 16) hx hb dX1_reach_5 (by decide) (by omega) (fun c_5 => ?_) (fun c_5 => absurd c_5 (by decide))
    refine lv_bipush (v := (-3)) hx hb dX1_reach_16 (by decide) ?_
    exact st_iret (v := (-3)) () hx hb hr hlocks hK hP hD hS dX1_reach_18 (Or.inr ⟨fun h => hq_2 h.1, rfl⟩)

set_option maxHeartbeats 4000000 in
set_option maxRecDepth 100000 in
/-- text(x) -/
theorem mM_text (l : Launch) (D : va_G) (z : Nat → Nat) (d0 d1 : ClassId) (tl pl : Nat) (g : Nat → Int32) (htl : tl ≤ 48) (hpl : pl ≤ 12) (x : Int32) : ct_I l yX1_text cX1_text 2 (some .int) ({ frames := 1, cells := 0, slots := 0, locals := 21 } : Room) ([.ref (z 0), .int (x)] : List Value) D (tyA d0 d1) (wM z d0 (nI (tl)) (nI (pl)) (g)) (fun r (u : Nat × (Nat → Int32)) => (¬ okQ x ∧ r = -1 ∧ u = (tl, g)) ∨ (okQ x ∧ tl = 48 ∧ r = -2 ∧ u = (tl, g)) ∨ (okQ x ∧ tl < 48 ∧ r = nI (tl + 1) ∧ u = (tl + 1, upd g tl x))) (fun (u : Nat × (Nat → Int32)) => wM z d0 (nI u.1) (nI pl) u.2) := by
  intro sz
  refine st_of (QA := (st_I D (tyA d0 d1) (fun r (u : Nat × (Nat → Int32)) => (¬ okQ x ∧ r = -1 ∧ u = (tl, g)) ∨ (okQ x ∧ tl = 48 ∧ r = -2 ∧ u = (tl, g)) ∨ (okQ x ∧ tl < 48 ∧ r = nI (tl + 1) ∧ u = (tl + 1, upd g tl x))) (fun (u : Nat × (Nat → Int32)) => wM z d0 (nI u.1) (nI pl) u.2))) (by decide) (Nat.le_of_ble_eq_true rfl) ?_
  intro p e s m below meth c A ls hx hb hr hml hlocks hown hts hname hK hP hD hS hA hl
  have hl : lv_has ls 2 [(0, .ref (z 0)), (1, .int (x))] := hl
  have hown : s.vm.findClass RX1 = some m.cls := hown
  refine lv_aload_n hx hb dX1_text_0 rfl (lv_at hl 0 rfl) ?_
  refine lv_iload_n hx hb dX1_text_1 rfl (lv_at hl 1 rfl) ?_
  refine st_cVi0 (ci := 1) (qc := (RX1, TX1, 3)) (As := [.int (x)]) (rest := []) 1 ⟨hx, hb, hml, hown, hts⟩ (mM_isToken l D z d0 d1 tl pl g htl hpl x) (lw_V q178 q180 qs7 q16 q181) (by decide +kernel) ⟨Nat.le_of_ble_eq_true rfl, Nat.le_of_ble_eq_true rfl⟩ rfl rfl ⟨Nat.zero_le _, Nat.zero_le _⟩ hK hP hD hS hA rfl rfl rfl hl.1 rfl (Nat.le_of_ble_eq_true rfl) dX1_text_2 (fun r_2 u H locs hq_2 hP hD hS => ?_)
  have hP : va_P D vwCl (wM z d0 (nI (tl)) (nI (pl)) (g)) H := hP
  have hD : va_D A (wM z d0 (nI (tl)) (nI (pl)) (g)) := hD
  rcases hq_2 with ⟨rfl, hq_2⟩ | ⟨rfl, hq_2⟩
  · skip
    refine ni_if_ne (tgt := 10) hx hb dX1_text_5 (by decide) (by omega) (fun c_5 => ?_) (fun c_5 => absurd c_5 (by decide))
    refine lv_aload_n hx hb dX1_text_10 rfl (lv_at hl 0 rfl) ?_
    refine va_get (D := D) (ci := 1) (v := .int (nI (tl))) (C := RX1) (T := TX1) (N := 3) hx hb hts in_X1 hown hK hP 0 rfl rfl 1 (by decide) (hts _ q165) (fun _ h9 => h9) rfl dX1_text_11 ?_
    refine lv_bipush (v := nI (48)) hx hb dX1_text_14 (by decide) ?_
    refine ni_icmp_ne (tgt := 22) hx hb dX1_text_16 (by decide) (by omega) (by omega) (fun c_16 => ?_) (fun c_16 => ?_)
    · skip
      refine lv_aload_n hx hb dX1_text_22 rfl (lv_at hl 0 rfl) ?_
      refine va_get (D := D) (ci := 1) (v := .ref (z 1)) (C := RX1) (T := TX1) (N := 3) hx hb hts in_X1 hown hK hP 0 rfl rfl 0 (by decide) (hts _ q164) (fun _ h9 => h9) rfl dX1_text_23 ?_
      refine lv_aload_n hx hb dX1_text_26 rfl (lv_at hl 0 rfl) ?_
      refine va_get (D := D) (ci := 1) (v := .int (nI (tl))) (C := RX1) (T := TX1) (N := 3) hx hb hts in_X1 hown hK hP 0 rfl rfl 1 (by decide) (hts _ q165) (fun _ h9 => h9) rfl dX1_text_27 ?_
      refine lv_iload_n hx hb dX1_text_30 rfl (lv_at hl 1 rfl) ?_
      refine ni_ast (ws2 := (wM z d0 (nI (tl)) (nI (pl)) (upd g tl ((x))))) hx hb hK hP hD hS 1 0 rfl rfl rfl (by decide) dX1_text_31 (by omega) (fun H locs hP hD hS => ?_)
      refine lv_aload_n hx hb dX1_text_32 rfl (lv_at hl 0 rfl) ?_
      refine lv_dup hx hb dX1_text_33 rfl ?_
      refine va_get (D := D) (ci := 1) (v := .int (nI (tl))) (C := RX1) (T := TX1) (N := 3) hx hb hts in_X1 hown hK hP 0 rfl rfl 1 (by decide) (hts _ q165) (fun _ h9 => h9) rfl dX1_text_34 ?_
      refine lv_iconst (v := nI (1)) hx hb dX1_text_37 (by decide) ?_
      refine ni_add hx hb dX1_text_38 ?_
      refine va_put (D := D) (ci := 1) (v := .int (nI (tl + 1))) (ty := .int) (C := RX1) (T := TX1) (N := 3) hx hb hts in_X1 tyX1 tyX1_ok nmX1 hown hK hP hD hS 0 rfl rfl 1 (by decide) (hts _ q165) (fun _ h9 => h9) rfl (by decide +kernel) rfl rfl (Nat.le_of_ble_eq_true rfl) dX1_text_39 (fun H locs hP hD hS => ?_)
      have hP : va_P D vwCl (wM z d0 (nI (tl + 1)) (nI (pl)) (upd g tl ((x)))) H := hP
      have hD : va_D A (wM z d0 (nI (tl + 1)) (nI (pl)) (upd g tl ((x)))) := hD
      refine lv_aload_n hx hb dX1_text_42 rfl (lv_at hl 0 rfl) ?_
      refine va_get (D := D) (ci := 1) (v := .int (nI (tl + 1))) (C := RX1) (T := TX1) (N := 3) hx hb hts in_X1 hown hK hP 0 rfl rfl 1 (by decide) (hts _ q165) (fun _ h9 => h9) rfl dX1_text_43 ?_
      exact st_iret (v := nI (tl + 1)) (tl + 1, upd g tl x) hx hb hr hlocks hK hP hD hS dX1_text_46 (Or.inr (Or.inr ⟨hq_2, by omega, rfl, rfl⟩))
    · skip
      refine lv_bipush (v := (-2)) hx hb dX1_text_19 (by decide) ?_
      exact st_iret (v := (-2)) (tl, g) hx hb hr hlocks hK hP hD hS dX1_text_21 (Or.inr (Or.inl ⟨hq_2, c_16, rfl, rfl⟩))
  · skip
    refine ni_if_ne (tgt := 10) hx hb dX1_text_5 (by decide) (by omega) (fun c_5 => absurd c_5 (by decide)) (fun c_5 => ?_)
    refine lv_iconst (v := (-1)) hx hb dX1_text_8 (by decide) ?_
    exact st_iret (v := (-1)) (tl, g) hx hb hr hlocks hK hP hD hS dX1_text_9 (Or.inl ⟨hq_2, rfl, rfl⟩)

set_option maxHeartbeats 4000000 in
set_option maxRecDepth 100000 in
/-- change(x, y) -/
theorem mM_change (l : Launch) (D : va_G) (z : Nat → Nat) (d0 d1 : ClassId) (tl pl : Nat) (g : Nat → Int32) (htl : tl ≤ 48) (hpl : pl ≤ 12) (x y : Int32) : ct_I l yX1_change cX1_change 4 (some .int) ({ frames := 1, cells := 0, slots := 0, locals := 21 } : Room) ([.ref (z 0), .int (x), .int (y)] : List Value) D (tyA d0 d1) (wM z d0 (nI (tl)) (nI (pl)) (g)) (fun r (u : Nat → Int32) => (¬ inQ tl x ∧ r = -3 ∧ u = g) ∨ (inQ tl x ∧ ¬ okQ y ∧ r = -1 ∧ u = g) ∨ (okQ y ∧ ∃ i, i < tl ∧ x = nI i ∧ r = g i ∧ u = upd g i y)) (fun (u : Nat → Int32) => wM z d0 (nI tl) (nI pl) u) := by
  intro sz
  refine st_of (QA := (st_I D (tyA d0 d1) (fun r (u : Nat → Int32) => (¬ inQ tl x ∧ r = -3 ∧ u = g) ∨ (inQ tl x ∧ ¬ okQ y ∧ r = -1 ∧ u = g) ∨ (okQ y ∧ ∃ i, i < tl ∧ x = nI i ∧ r = g i ∧ u = upd g i y)) (fun (u : Nat → Int32) => wM z d0 (nI tl) (nI pl) u))) (by decide) (Nat.le_of_ble_eq_true rfl) ?_
  intro p e s m below meth c A ls hx hb hr hml hlocks hown hts hname hK hP hD hS hA hl
  have hl : lv_has ls 4 [(0, .ref (z 0)), (1, .int (x)), (2, .int (y))] := hl
  have hown : s.vm.findClass RX1 = some m.cls := hown
  refine lv_aload_n hx hb dX1_change_0 rfl (lv_at hl 0 rfl) ?_
  refine lv_iload_n hx hb dX1_change_1 rfl (lv_at hl 1 rfl) ?_
  refine st_cVi0 (ci := 1) (qc := (RX1, TX1, 3)) (As := [.int (x)]) (rest := []) 1 ⟨hx, hb, hml, hown, hts⟩ (mM_inText l D z d0 d1 tl pl g htl hpl x) (lw_V q186 q188 qs8 q16 q189) (by decide +kernel) ⟨Nat.le_of_ble_eq_true rfl, Nat.le_of_ble_eq_true rfl⟩ rfl rfl ⟨Nat.zero_le _, Nat.zero_le _⟩ hK hP hD hS hA rfl rfl rfl hl.1 rfl (Nat.le_of_ble_eq_true rfl) dX1_change_2 (fun r_2 u H locs hq_2 hP hD hS => ?_)
  have hP : va_P D vwCl (wM z d0 (nI (tl)) (nI (pl)) (g)) H := hP
  have hD : va_D A (wM z d0 (nI (tl)) (nI (pl)) (g)) := hD
  rcases hq_2 with ⟨rfl, hq_2⟩ | ⟨rfl, hq_2⟩
  · skip
    refine ni_if_ne (tgt := 11) hx hb dX1_change_5 (by decide) (by omega) (fun c_5 => ?_) (fun c_5 => absurd c_5 (by decide))
    refine lv_aload_n hx hb dX1_change_11 rfl (lv_at hl 0 rfl) ?_
    refine lv_iload_n hx hb dX1_change_12 rfl (lv_at hl 2 rfl) ?_
    refine st_cVi0 (ci := 1) (qc := (RX1, TX1, 3)) (As := [.int (y)]) (rest := []) 1 ⟨hx, hb, hml, hown, hts⟩ (mM_isToken l D z d0 d1 tl pl g htl hpl y) (lw_V q178 q180 qs7 q16 q181) (by decide +kernel) ⟨Nat.le_of_ble_eq_true rfl, Nat.le_of_ble_eq_true rfl⟩ rfl rfl ⟨Nat.zero_le _, Nat.zero_le _⟩ hK hP hD hS hA rfl rfl rfl hl.1 rfl (Nat.le_of_ble_eq_true rfl) dX1_change_13 (fun r_13 u H locs hq_13 hP hD hS => ?_)
    have hP : va_P D vwCl (wM z d0 (nI (tl)) (nI (pl)) (g)) H := hP
    have hD : va_D A (wM z d0 (nI (tl)) (nI (pl)) (g)) := hD
    rcases hq_13 with ⟨rfl, hq_13⟩ | ⟨rfl, hq_13⟩
    · skip
      refine ni_if_ne (tgt := 21) hx hb dX1_change_16 (by decide) (by omega) (fun c_16 => ?_) (fun c_16 => absurd c_16 (by decide))
      obtain ⟨i, hi, rfl⟩ := in_of (by omega) hq_2
      refine lv_aload_n hx hb dX1_change_21 rfl (lv_at hl 0 rfl) ?_
      refine va_get (D := D) (ci := 1) (v := .ref (z 1)) (C := RX1) (T := TX1) (N := 3) hx hb hts in_X1 hown hK hP 0 rfl rfl 0 (by decide) (hts _ q164) (fun _ h9 => h9) rfl dX1_change_22 ?_
      refine lv_iload_n hx hb dX1_change_25 rfl (lv_at hl 1 rfl) ?_
      refine ni_ald hx hb hK hP 1 0 rfl rfl (by decide) dX1_change_26 (by omega) ?_
      refine lv_istore_n (lv' := [(3, .int (g i)), (0, .ref (z 0)), (1, .int (nI (i))), (2, .int (y))]) hx hb dX1_change_27 rfl hl (by decide) rfl (fun ls hl => ?_)
      refine lv_aload_n hx hb dX1_change_28 rfl (lv_at hl 1 rfl) ?_
      refine va_get (D := D) (ci := 1) (v := .ref (z 1)) (C := RX1) (T := TX1) (N := 3) hx hb hts in_X1 hown hK hP 0 rfl rfl 0 (by decide) (hts _ q164) (fun _ h9 => h9) rfl dX1_change_29 ?_
      refine lv_iload_n hx hb dX1_change_32 rfl (lv_at hl 2 rfl) ?_
      refine lv_iload_n hx hb dX1_change_33 rfl (lv_at hl 3 rfl) ?_
      refine ni_ast (ws2 := (wM z d0 (nI (tl)) (nI (pl)) (upd g i ((y))))) hx hb hK hP hD hS 1 0 rfl rfl rfl (by decide) dX1_change_34 (by omega) (fun H locs hP hD hS => ?_)
      refine lv_iload_n hx hb dX1_change_35 rfl (lv_at hl 0 rfl) ?_
      exact st_iret (v := (g i)) (upd g i y) hx hb hr hlocks hK hP hD hS dX1_change_36 (Or.inr (Or.inr ⟨hq_13, i, hi, rfl, rfl, rfl⟩))
    · skip
      refine ni_if_ne (tgt := 21) hx hb dX1_change_16 (by decide) (by omega) (fun c_16 => absurd c_16 (by decide)) (fun c_16 => ?_)
      refine lv_iconst (v := (-1)) hx hb dX1_change_19 (by decide) ?_
      exact st_iret (v := (-1)) g hx hb hr hlocks hK hP hD hS dX1_change_20 (Or.inr (Or.inl ⟨hq_2, hq_13, rfl, rfl⟩))
  · skip
    refine ni_if_ne (tgt := 11) hx hb dX1_change_5 (by decide) (by omega) (fun c_5 => absurd c_5 (by decide)) (fun c_5 => ?_)
    refine lv_bipush (v := (-3)) hx hb dX1_change_8 (by decide) ?_
    exact st_iret (v := (-3)) g hx hb hr hlocks hK hP hD hS dX1_change_10 (Or.inl ⟨hq_2, rfl, rfl⟩)

set_option maxHeartbeats 4000000 in
set_option maxRecDepth 100000 in
/-- pattern(x) -/
theorem mM_pattern (l : Launch) (D : va_G) (z : Nat → Nat) (d0 d1 : ClassId) (tl pl : Nat) (g : Nat → Int32) (htl : tl ≤ 48) (hpl : pl ≤ 12) (x : Int32) : ct_I l yX1_pattern cX1_pattern 2 (some .int) ({ frames := 1, cells := 0, slots := 0, locals := 21 } : Room) ([.ref (z 0), .int (x)] : List Value) D (tyA d0 d1) (wM z d0 (nI (tl)) (nI (pl)) (g)) (fun r (u : Nat × (Nat → Int32)) => (¬ okQ x ∧ r = -1 ∧ u = (pl, g)) ∨ (okQ x ∧ pl = 12 ∧ r = -2 ∧ u = (pl, g)) ∨ (okQ x ∧ pl < 12 ∧ r = nI (pl + 1) ∧ u = (pl + 1, upd g (48 + pl) x))) (fun (u : Nat × (Nat → Int32)) => wM z d0 (nI tl) (nI u.1) u.2) := by
  intro sz
  refine st_of (QA := (st_I D (tyA d0 d1) (fun r (u : Nat × (Nat → Int32)) => (¬ okQ x ∧ r = -1 ∧ u = (pl, g)) ∨ (okQ x ∧ pl = 12 ∧ r = -2 ∧ u = (pl, g)) ∨ (okQ x ∧ pl < 12 ∧ r = nI (pl + 1) ∧ u = (pl + 1, upd g (48 + pl) x))) (fun (u : Nat × (Nat → Int32)) => wM z d0 (nI tl) (nI u.1) u.2))) (by decide) (Nat.le_of_ble_eq_true rfl) ?_
  intro p e s m below meth c A ls hx hb hr hml hlocks hown hts hname hK hP hD hS hA hl
  have hl : lv_has ls 2 [(0, .ref (z 0)), (1, .int (x))] := hl
  have hown : s.vm.findClass RX1 = some m.cls := hown
  refine lv_aload_n hx hb dX1_pattern_0 rfl (lv_at hl 0 rfl) ?_
  refine lv_iload_n hx hb dX1_pattern_1 rfl (lv_at hl 1 rfl) ?_
  refine st_cVi0 (ci := 1) (qc := (RX1, TX1, 3)) (As := [.int (x)]) (rest := []) 1 ⟨hx, hb, hml, hown, hts⟩ (mM_isToken l D z d0 d1 tl pl g htl hpl x) (lw_V q178 q180 qs7 q16 q181) (by decide +kernel) ⟨Nat.le_of_ble_eq_true rfl, Nat.le_of_ble_eq_true rfl⟩ rfl rfl ⟨Nat.zero_le _, Nat.zero_le _⟩ hK hP hD hS hA rfl rfl rfl hl.1 rfl (Nat.le_of_ble_eq_true rfl) dX1_pattern_2 (fun r_2 u H locs hq_2 hP hD hS => ?_)
  have hP : va_P D vwCl (wM z d0 (nI (tl)) (nI (pl)) (g)) H := hP
  have hD : va_D A (wM z d0 (nI (tl)) (nI (pl)) (g)) := hD
  rcases hq_2 with ⟨rfl, hq_2⟩ | ⟨rfl, hq_2⟩
  · skip
    refine ni_if_ne (tgt := 10) hx hb dX1_pattern_5 (by decide) (by omega) (fun c_5 => ?_) (fun c_5 => absurd c_5 (by decide))
    refine lv_aload_n hx hb dX1_pattern_10 rfl (lv_at hl 0 rfl) ?_
    refine va_get (D := D) (ci := 1) (v := .int (nI (pl))) (C := RX1) (T := TX1) (N := 3) hx hb hts in_X1 hown hK hP 0 rfl rfl 2 (by decide) (hts _ q166) (fun _ h9 => h9) rfl dX1_pattern_11 ?_
    refine lv_bipush (v := nI (12)) hx hb dX1_pattern_14 (by decide) ?_
    refine ni_icmp_ne (tgt := 22) hx hb dX1_pattern_16 (by decide) (by omega) (by omega) (fun c_16 => ?_) (fun c_16 => ?_)
    · skip
      refine lv_aload_n hx hb dX1_pattern_22 rfl (lv_at hl 0 rfl) ?_
      refine va_get (D := D) (ci := 1) (v := .ref (z 1)) (C := RX1) (T := TX1) (N := 3) hx hb hts in_X1 hown hK hP 0 rfl rfl 0 (by decide) (hts _ q164) (fun _ h9 => h9) rfl dX1_pattern_23 ?_
      refine lv_bipush (v := nI (48)) hx hb dX1_pattern_26 (by decide) ?_
      refine lv_aload_n hx hb dX1_pattern_28 rfl (lv_at hl 0 rfl) ?_
      refine va_get (D := D) (ci := 1) (v := .int (nI (pl))) (C := RX1) (T := TX1) (N := 3) hx hb hts in_X1 hown hK hP 0 rfl rfl 2 (by decide) (hts _ q166) (fun _ h9 => h9) rfl dX1_pattern_29 ?_
      refine ni_add hx hb dX1_pattern_32 ?_
      refine lv_iload_n hx hb dX1_pattern_33 rfl (lv_at hl 1 rfl) ?_
      refine ni_ast (ws2 := (wM z d0 (nI (tl)) (nI (pl)) (upd g (48 + pl) ((x))))) hx hb hK hP hD hS 1 0 rfl rfl rfl (by decide) dX1_pattern_34 (by omega) (fun H locs hP hD hS => ?_)
      refine lv_aload_n hx hb dX1_pattern_35 rfl (lv_at hl 0 rfl) ?_
      refine lv_dup hx hb dX1_pattern_36 rfl ?_
      refine va_get (D := D) (ci := 1) (v := .int (nI (pl))) (C := RX1) (T := TX1) (N := 3) hx hb hts in_X1 hown hK hP 0 rfl rfl 2 (by decide) (hts _ q166) (fun _ h9 => h9) rfl dX1_pattern_37 ?_
      refine lv_iconst (v := nI (1)) hx hb dX1_pattern_40 (by decide) ?_
      refine ni_add hx hb dX1_pattern_41 ?_
      refine va_put (D := D) (ci := 1) (v := .int (nI (pl + 1))) (ty := .int) (C := RX1) (T := TX1) (N := 3) hx hb hts in_X1 tyX1 tyX1_ok nmX1 hown hK hP hD hS 0 rfl rfl 2 (by decide) (hts _ q166) (fun _ h9 => h9) rfl (by decide +kernel) rfl rfl (Nat.le_of_ble_eq_true rfl) dX1_pattern_42 (fun H locs hP hD hS => ?_)
      have hP : va_P D vwCl (wM z d0 (nI (tl)) (nI (pl + 1)) (upd g (48 + pl) ((x)))) H := hP
      have hD : va_D A (wM z d0 (nI (tl)) (nI (pl + 1)) (upd g (48 + pl) ((x)))) := hD
      refine lv_aload_n hx hb dX1_pattern_45 rfl (lv_at hl 0 rfl) ?_
      refine va_get (D := D) (ci := 1) (v := .int (nI (pl + 1))) (C := RX1) (T := TX1) (N := 3) hx hb hts in_X1 hown hK hP 0 rfl rfl 2 (by decide) (hts _ q166) (fun _ h9 => h9) rfl dX1_pattern_46 ?_
      exact st_iret (v := nI (pl + 1)) (pl + 1, upd g (48 + pl) x) hx hb hr hlocks hK hP hD hS dX1_pattern_49 (Or.inr (Or.inr ⟨hq_2, by omega, rfl, rfl⟩))
    · skip
      refine lv_bipush (v := (-2)) hx hb dX1_pattern_19 (by decide) ?_
      exact st_iret (v := (-2)) (pl, g) hx hb hr hlocks hK hP hD hS dX1_pattern_21 (Or.inr (Or.inl ⟨hq_2, c_16, rfl, rfl⟩))
  · skip
    refine ni_if_ne (tgt := 10) hx hb dX1_pattern_5 (by decide) (by omega) (fun c_5 => absurd c_5 (by decide)) (fun c_5 => ?_)
    refine lv_iconst (v := (-1)) hx hb dX1_pattern_8 (by decide) ?_
    exact st_iret (v := (-1)) (pl, g) hx hb hr hlocks hK hP hD hS dX1_pattern_9 (Or.inl ⟨hq_2, rfl, rfl⟩)

set_option maxHeartbeats 4000000 in
set_option maxRecDepth 100000 in
/-- patternFrom(x, y) -/
theorem mM_patternFrom (l : Launch) (D : va_G) (z : Nat → Nat) (d0 d1 : ClassId) (tl pl : Nat) (g : Nat → Int32) (htl : tl ≤ 48) (hpl : pl ≤ 12) (x y : Int32) : ct_I l yX1_patternFrom cX1_patternFrom 4 (some .int) ({ frames := 0, cells := 0, slots := 0, locals := 0 } : Room) ([.ref (z 0), .int (x), .int (y)] : List Value) D (tyA d0 d1) (wM z d0 (nI (tl)) (nI (pl)) (g)) (fun r (u : Nat × (Nat → Int32)) => (∃ i k, pfQ tl x y i k ∧ r = nI k ∧ u.1 = k ∧ (∀ q, q < 48 → u.2 q = g q) ∧ (∀ q, q < k → u.2 (48 + q) = g (i + q))) ∨ ((∀ i k, ¬ pfQ tl x y i k) ∧ r = -3 ∧ u = (pl, g))) (fun (u : Nat × (Nat → Int32)) => wM z d0 (nI tl) (nI u.1) u.2) := by
  intro sz
  refine st_of (QA := (st_I D (tyA d0 d1) (fun r (u : Nat × (Nat → Int32)) => (∃ i k, pfQ tl x y i k ∧ r = nI k ∧ u.1 = k ∧ (∀ q, q < 48 → u.2 q = g q) ∧ (∀ q, q < k → u.2 (48 + q) = g (i + q))) ∨ ((∀ i k, ¬ pfQ tl x y i k) ∧ r = -3 ∧ u = (pl, g))) (fun (u : Nat × (Nat → Int32)) => wM z d0 (nI tl) (nI u.1) u.2))) (by decide) (Nat.le_of_ble_eq_true rfl) ?_
  intro p e s m below meth c A ls hx hb hr hml hlocks hown hts hname hK hP hD hS hA hl
  have hl : lv_has ls 4 [(0, .ref (z 0)), (1, .int (x)), (2, .int (y))] := hl
  have hown : s.vm.findClass RX1 = some m.cls := hown
  refine lv_iload_n hx hb dX1_patternFrom_0 rfl (lv_at hl 2 rfl) ?_
  refine lv_iconst (v := nI (1)) hx hb dX1_patternFrom_1 (by decide) ?_
  refine lv_icmp_lt (tgt := 25) hx hb dX1_patternFrom_2 (by decide) (fun c_2 => ?_) (fun c_2 => ?_)
  · skip
    refine lv_bipush (v := (-3)) hx hb dX1_patternFrom_25 (by decide) ?_
    exact st_iret (v := (-3)) (pl, g) hx hb hr hlocks hK hP hD hS dX1_patternFrom_27 (Or.inr ⟨fun i k h => absurd (h.2.1 ▸ c_2 : nI k < nI 1) (nI_nlt h.2.2.1 (by have := h.2.2.2.1; omega)), rfl, rfl⟩)
  · skip
    refine lv_iload_n hx hb dX1_patternFrom_5 rfl (lv_at hl 2 rfl) ?_
    refine lv_bipush (v := nI (12)) hx hb dX1_patternFrom_6 (by decide) ?_
    refine lv_icmp_gt (tgt := 25) hx hb dX1_patternFrom_8 (by decide) (fun c_8 => ?_) (fun c_8 => ?_)
    · skip
      refine lv_bipush (v := (-3)) hx hb dX1_patternFrom_25 (by decide) ?_
      exact st_iret (v := (-3)) (pl, g) hx hb hr hlocks hK hP hD hS dX1_patternFrom_27 (Or.inr ⟨fun i k h => absurd (h.2.1 ▸ c_8 : nI 12 < nI k) (nI_nlt h.2.2.2.1 (by decide)), rfl, rfl⟩)
    · skip
      obtain ⟨k0, hk1, hk2, rfl⟩ := one_of (by decide) c_2 (Int32.not_lt.mp c_8)
      refine lv_iload_n hx hb dX1_patternFrom_11 rfl (lv_at hl 1 rfl) ?_
      refine lv_if_lt (tgt := 25) hx hb dX1_patternFrom_12 (by decide) (fun c_12 => ?_) (fun c_12 => ?_)
      · skip
        refine lv_bipush (v := (-3)) hx hb dX1_patternFrom_25 (by decide) ?_
        exact st_iret (v := (-3)) (pl, g) hx hb hr hlocks hK hP hD hS dX1_patternFrom_27 (Or.inr ⟨fun i k h => absurd (h.1 ▸ c_12 : nI i < 0) (nI_pos (by have := h.2.2.2.2; omega)), rfl, rfl⟩)
      · skip
        obtain ⟨i0, hi0, rfl⟩ := nI_of c_12
        refine lv_iload_n hx hb dX1_patternFrom_15 rfl (lv_at hl 1 rfl) ?_
        refine lv_aload_n hx hb dX1_patternFrom_16 rfl (lv_at hl 0 rfl) ?_
        refine va_get (D := D) (ci := 1) (v := .int (nI (tl))) (C := RX1) (T := TX1) (N := 3) hx hb hts in_X1 hown hK hP 0 rfl rfl 1 (by decide) (hts _ q165) (fun _ h9 => h9) rfl dX1_patternFrom_17 ?_
        refine lv_iload_n hx hb dX1_patternFrom_20 rfl (lv_at hl 2 rfl) ?_
        refine lv_isub hx hb dX1_patternFrom_21 ?_
        refine lv_icmp_le (tgt := 28) hx hb dX1_patternFrom_22 (by decide) (fun c_22 => ?_) (fun c_22 => ?_)
        · skip
          have hik := (sub_le hi0 htl hk2).mp c_22
          refine lv_aload_n hx hb dX1_patternFrom_28 rfl (lv_at hl 0 rfl) ?_
          refine lv_iload_n hx hb dX1_patternFrom_29 rfl (lv_at hl 2 rfl) ?_
          refine va_put (D := D) (ci := 1) (v := .int (nI (k0))) (ty := .int) (C := RX1) (T := TX1) (N := 3) hx hb hts in_X1 tyX1 tyX1_ok nmX1 hown hK hP hD hS 0 rfl rfl 2 (by decide) (hts _ q166) (fun _ h9 => h9) rfl (by decide +kernel) rfl rfl (Nat.le_of_ble_eq_true rfl) dX1_patternFrom_30 (fun H locs hP hD hS => ?_)
          have hP : va_P D vwCl (wM z d0 (nI (tl)) (nI (k0)) (g)) H := hP
          have hD : va_D A (wM z d0 (nI (tl)) (nI (k0)) (g)) := hD
          refine lv_iconst (v := nI (0)) hx hb dX1_patternFrom_33 (by decide) ?_
          refine lv_istore_n (lv' := [(3, .int (nI (0))), (0, .ref (z 0)), (1, .int (nI (i0))), (2, .int (nI (k0)))]) hx hb dX1_patternFrom_34 rfl hl (by decide) rfl (fun ls hl => ?_)
          have loop : ∀ (fu : Nat) (j : Nat) (g2 : Nat → Int32), k0 < j + fu → j ≤ k0 → (∀ q, q < 48 → g2 q = g q) → (∀ q, q < j → g2 (48 + q) = g (i0 + q)) → ∀ (H : Heap) (locs : List Loc) (ls : Array Slot), va_P D vwCl (wM z d0 (nI (tl)) (nI (k0)) (g2)) H → va_D A (wM z d0 (nI (tl)) (nI (k0)) (g2)) → va_S A s.heap H locs → lv_has ls 4 [(3, .int (nI (j))), (0, .ref (z 0)), (1, .int (nI (i0))), (2, .int (nI (k0)))] → W p l e ({ frames := 0, cells := 0, slots := 0, locals := 0 } : Room) s m ([.ref (z 0), .int (nI (i0)), .int (nI (k0))] : List Value).toArray below meth c H locs 0 0 (MQ below ((st_I D (tyA d0 d1) (fun r (u : Nat × (Nat → Int32)) => (∃ i k, pfQ tl (nI (i0)) (nI (k0)) i k ∧ r = nI k ∧ u.1 = k ∧ (∀ q, q < 48 → u.2 q = g q) ∧ (∀ q, q < k → u.2 (48 + q) = g (i + q))) ∨ ((∀ i k, ¬ pfQ tl (nI (i0)) (nI (k0)) i k) ∧ r = -3 ∧ u = (pl, g))) (fun (u : Nat × (Nat → Int32)) => wM z d0 (nI tl) (nI u.1) u.2)) A) ([.ref (z 0), .int (nI (i0)), .int (nI (k0))] : List Value).toArray s 0 0 A) (F0 m 35 ls []) := by
            intro fu
            induction fu with
            | zero => intro j g2 hf hj h1 h2; exfalso; omega
            | succ fu ihloop =>
              intro j g2 hf hj h1 h2 H locs ls hP hD hS hl
              refine lv_iload_n hx hb dX1_patternFrom_35 rfl (lv_at hl 0 rfl) ?_
              refine lv_iload_n hx hb dX1_patternFrom_36 rfl (lv_at hl 3 rfl) ?_
              refine ni_icmp_ge (tgt := 63) hx hb dX1_patternFrom_37 (by decide) (by omega) (by omega) (fun c_37 => ?_) (fun c_37 => ?_)
              · skip
                refine lv_iload_n hx hb dX1_patternFrom_63 rfl (lv_at hl 3 rfl) ?_
                exact st_iret (v := nI (k0)) (k0, g2) hx hb hr hlocks hK hP hD hS dX1_patternFrom_64 (Or.inl ⟨i0, k0, ⟨rfl, rfl, hk1, hk2, hik⟩, rfl, rfl, h1, fun q hq => h2 q (by omega)⟩)
              · skip
                refine lv_aload_n hx hb dX1_patternFrom_40 rfl (lv_at hl 1 rfl) ?_
                refine va_get (D := D) (ci := 1) (v := .ref (z 1)) (C := RX1) (T := TX1) (N := 3) hx hb hts in_X1 hown hK hP 0 rfl rfl 0 (by decide) (hts _ q164) (fun _ h9 => h9) rfl dX1_patternFrom_41 ?_
                refine lv_bipush (v := nI (48)) hx hb dX1_patternFrom_44 (by decide) ?_
                refine lv_iload_n hx hb dX1_patternFrom_46 rfl (lv_at hl 0 rfl) ?_
                refine ni_add hx hb dX1_patternFrom_47 ?_
                refine lv_aload_n hx hb dX1_patternFrom_48 rfl (lv_at hl 1 rfl) ?_
                refine va_get (D := D) (ci := 1) (v := .ref (z 1)) (C := RX1) (T := TX1) (N := 3) hx hb hts in_X1 hown hK hP 0 rfl rfl 0 (by decide) (hts _ q164) (fun _ h9 => h9) rfl dX1_patternFrom_49 ?_
                refine lv_iload_n hx hb dX1_patternFrom_52 rfl (lv_at hl 2 rfl) ?_
                refine lv_iload_n hx hb dX1_patternFrom_53 rfl (lv_at hl 0 rfl) ?_
                refine ni_add hx hb dX1_patternFrom_54 ?_
                refine ni_ald hx hb hK hP 1 0 rfl rfl (by decide) dX1_patternFrom_55 (by omega) ?_
                refine ni_ast (ws2 := (wM z d0 (nI (tl)) (nI (k0)) (upd g2 (48 + j) ((g2 (i0 + j)))))) hx hb hK hP hD hS 1 0 rfl rfl rfl (by decide) dX1_patternFrom_56 (by omega) (fun H locs hP hD hS => ?_)
                refine lv_iinc (v := nI (j + 1)) (lv' := [(3, .int (nI (j + 1))), (0, .ref (z 0)), (1, .int (nI (i0))), (2, .int (nI (k0)))]) hx hb dX1_patternFrom_57 hl (k := 0) rfl (ni_inc _) (by decide) rfl (fun ls hl => ?_)
                refine lv_goto (tgt := 35) hx hb dX1_patternFrom_60 (by decide) ?_
                exact ihloop (j + 1) _ (by omega) (by omega) (fun q hq => (pk_un (by omega)).trans (h1 q hq)) (lt_s (fun q hq => (pk_un (by omega)).trans (h2 q hq)) (pk_us.trans (h1 _ (by omega)))) _ _ _ hP hD hS (lv_sub hl [0, 1, 2, 3] rfl)
          exact loop (k0 + 1) 0 g (by omega) (by omega) (fun _ _ => rfl) (fun q hq => absurd hq (by omega)) _ _ _ hP hD hS (lv_sub hl [0, 1, 2, 3] rfl)
        · skip
          refine lv_bipush (v := (-3)) hx hb dX1_patternFrom_25 (by decide) ?_
          exact st_iret (v := (-3)) (pl, g) hx hb hr hlocks hK hP hD hS dX1_patternFrom_27 (Or.inr ⟨fun i k h => by obtain ⟨h1, h2, h3, h4, h5⟩ := h; have e1 := (nI_eq (by omega) (by omega)).mp h1; have e2 := (nI_eq (by omega) (by omega)).mp h2; subst e1; subst e2; exact c_22 ((sub_le (by omega) (by omega) (by omega)).mpr h5), rfl, rfl⟩)

set_option maxHeartbeats 4000000 in
set_option maxRecDepth 100000 in
/-- clearPattern -/
theorem mM_clearPattern (l : Launch) (D : va_G) (z : Nat → Nat) (d0 d1 : ClassId) (tl pl : Nat) (g : Nat → Int32) (htl : tl ≤ 48) (hpl : pl ≤ 12) : ct_V l yX1_clearPattern cX1_clearPattern 1 none ({ frames := 0, cells := 0, slots := 0, locals := 0 } : Room) ([.ref (z 0)] : List Value) D (tyA d0 d1) (wM z d0 (nI (tl)) (nI (pl)) (g)) (fun (_ : Unit) => True) (fun (_ : Unit) => (wM z d0 (nI (tl)) (nI (0)) (g))) := by
  intro sz
  refine st_of (QA := (st_V D (tyA d0 d1) (fun (_ : Unit) => True) (fun (_ : Unit) => (wM z d0 (nI (tl)) (nI (0)) (g))))) (by decide) (Nat.le_of_ble_eq_true rfl) ?_
  intro p e s m below meth c A ls hx hb hr hml hlocks hown hts hname hK hP hD hS hA hl
  have hl : lv_has ls 1 [(0, .ref (z 0))] := hl
  have hown : s.vm.findClass RX1 = some m.cls := hown
  refine lv_aload_n hx hb dX1_clearPattern_0 rfl (lv_at hl 0 rfl) ?_
  refine lv_iconst (v := nI (0)) hx hb dX1_clearPattern_1 (by decide) ?_
  refine va_put (D := D) (ci := 1) (v := .int (nI (0))) (ty := .int) (C := RX1) (T := TX1) (N := 3) hx hb hts in_X1 tyX1 tyX1_ok nmX1 hown hK hP hD hS 0 rfl rfl 2 (by decide) (hts _ q166) (fun _ h9 => h9) rfl (by decide +kernel) rfl rfl (Nat.le_of_ble_eq_true rfl) dX1_clearPattern_2 (fun H locs hP hD hS => ?_)
  have hP : va_P D vwCl (wM z d0 (nI (tl)) (nI (0)) (g)) H := hP
  have hD : va_D A (wM z d0 (nI (tl)) (nI (0)) (g)) := hD
  exact st_vret () hx hb hr hlocks hK hP hD hS dX1_clearPattern_5 trivial

set_option maxHeartbeats 4000000 in
set_option maxRecDepth 100000 in
/-- clearText -/
theorem mM_clearText (l : Launch) (D : va_G) (z : Nat → Nat) (d0 d1 : ClassId) (tl pl : Nat) (g : Nat → Int32) (htl : tl ≤ 48) (hpl : pl ≤ 12) : ct_V l yX1_clearText cX1_clearText 1 none ({ frames := 0, cells := 0, slots := 0, locals := 0 } : Room) ([.ref (z 0)] : List Value) D (tyA d0 d1) (wM z d0 (nI (tl)) (nI (pl)) (g)) (fun (_ : Unit) => True) (fun (_ : Unit) => (wM z d0 (nI (0)) (nI (pl)) (g))) := by
  intro sz
  refine st_of (QA := (st_V D (tyA d0 d1) (fun (_ : Unit) => True) (fun (_ : Unit) => (wM z d0 (nI (0)) (nI (pl)) (g))))) (by decide) (Nat.le_of_ble_eq_true rfl) ?_
  intro p e s m below meth c A ls hx hb hr hml hlocks hown hts hname hK hP hD hS hA hl
  have hl : lv_has ls 1 [(0, .ref (z 0))] := hl
  have hown : s.vm.findClass RX1 = some m.cls := hown
  refine lv_aload_n hx hb dX1_clearText_0 rfl (lv_at hl 0 rfl) ?_
  refine lv_iconst (v := nI (0)) hx hb dX1_clearText_1 (by decide) ?_
  refine va_put (D := D) (ci := 1) (v := .int (nI (0))) (ty := .int) (C := RX1) (T := TX1) (N := 3) hx hb hts in_X1 tyX1 tyX1_ok nmX1 hown hK hP hD hS 0 rfl rfl 1 (by decide) (hts _ q165) (fun _ h9 => h9) rfl (by decide +kernel) rfl rfl (Nat.le_of_ble_eq_true rfl) dX1_clearText_2 (fun H locs hP hD hS => ?_)
  have hP : va_P D vwCl (wM z d0 (nI (0)) (nI (pl)) (g)) H := hP
  have hD : va_D A (wM z d0 (nI (0)) (nI (pl)) (g)) := hD
  exact st_vret () hx hb hr hlocks hK hP hD hS dX1_clearText_5 trivial
end
section
/-! the class's words: codes in a window, borders, the failure function, the bridge to the definition -/
set_option maxRecDepth 100000
/-- a code as it is in a window that has n tokens before it -/
def wi (x : Int32) (n : Nat) : Int32 := if nI n < x then nI 0 else x
theorem wi_wi {x : Int32} {n m : Nat} (h : m ≤ n) (hn : n < 2 ^ 31) : wi (wi x n) m = wi x m := by
  unfold wi
  by_cases h1 : nI n < x
  · have h2 : nI m < x := Int32.lt_of_le_of_lt (nI_le h hn) h1
    rw [if_pos h1, if_pos h2, if_neg (nI_nlt (Nat.zero_le _) (by omega))]
  · rw [if_neg h1]
theorem wi_of {x : Int32} {n : Nat} (h : x ≤ nI n) : wi x n = x := if_neg (Int32.not_lt.mpr h)
theorem wi_out {x : Int32} {n : Nat} (h : nI n < x) : wi x n = nI 0 := if_pos h
/-- the windows of codes of length n, from a in B and from c in C, are alike -/
def al (B : Nat → Int32) (a : Nat) (C : Nat → Int32) (c n : Nat) : Prop := ∀ k, k < n → wi (B (a + k)) k = wi (C (c + k)) k
theorem al_symm {B C : Nat → Int32} {a c n : Nat} (h : al B a C c n) : al C c B a n := fun k hk => (h k hk).symm
theorem al_trans {B C E : Nat → Int32} {a c d n : Nat} (h : al B a C c n) (h2 : al C c E d n) : al B a E d n := fun k hk => (h k hk).trans (h2 k hk)
theorem al_le {B C : Nat → Int32} {a c n m : Nat} (h : al B a C c n) (hm : m ≤ n) : al B a C c m := fun k hk => h k (Nat.lt_of_lt_of_le hk hm)
theorem al_0 {B C : Nat → Int32} {a c : Nat} : al B a C c 0 := fun k hk => absurd hk (Nat.not_lt_zero _)
theorem al_drop {B C : Nat → Int32} {a c n : Nat} (d : Nat) (h : al B a C c (d + n)) (hn : d + n < 2 ^ 31) : al B (a + d) C (c + d) n := by
  intro k hk
  have h1 := h (d + k) (by omega)
  rw [← wi_wi (x := B (a + d + k)) (n := d + k) (m := k) (by omega) (by omega), ← wi_wi (x := C (c + d + k)) (n := d + k) (m := k) (by omega) (by omega), Nat.add_assoc, Nat.add_assoc, h1]
theorem al_to {B C : Nat → Int32} {a c n a' c' n' : Nat} (h : al B a C c n) (e1 : a = a') (e2 : c = c') (e3 : n = n') : al B a' C c' n' := by
  subst e1; subst e2; subst e3; exact h
/-- the last n of q, where the first q are alike -/
theorem al_tail {B C : Nat → Int32} {i q n : Nat} (h : al B 0 C (i - q) q) (hq : q ≤ i) (hn : n ≤ q) (hb : q < 2 ^ 31) : al B (q - n) C (i - n) n :=
  al_to (al_drop (n := n) (q - n) (al_to h rfl rfl (by omega)) (by omega)) (by omega) (by omega) rfl
def bd (B : Nat → Int32) (n k : Nat) : Prop := k < n ∧ al B 0 B (n - k) k
/-- r is the failure value of place j -/
def isF (B : Nat → Int32) (j : Nat) (r : Int32) : Prop := ∃ k, r = nI k ∧ bd B (j + 1) k ∧ ∀ q, bd B (j + 1) q → q ≤ k
/-- at place i of T: the first q of P end there, and no longer run of less than U can be taken on -/
def kI (P T : Nat → Int32) (i U q : Nat) : Prop := q < U ∧ q ≤ i ∧ al P 0 T (i - q) q ∧ ∀ k, k < U → k ≤ i → al P 0 T (i - k) (k + 1) → k ≤ q
def oI (P T : Nat → Int32) (i M q : Nat) : Prop := q ≤ M ∧ q ≤ i ∧ al P 0 T (i - q) q ∧ ∀ k, k ≤ M → k ≤ i → al P 0 T (i - k) k → k ≤ q
theorem kI_step {P T : Nat → Int32} {i U q q2 : Nat} (hU : U < 2 ^ 31) (h : kI P T i U q) (hne : ¬ wi (T i) q = P q) (hw : wi (P q) q = P q) (h2 : bd P q q2) (hm : ∀ k, bd P q k → k ≤ q2) : kI P T i U q2 := by
  obtain ⟨h1, h3, h4, h5⟩ := h
  obtain ⟨g1, g2⟩ := h2
  refine ⟨by omega, by omega, al_trans g2 (al_tail h4 h3 (by omega) (by omega)), fun k k1 k2 k3 => ?_⟩
  have k4 := h5 k k1 k2 k3
  by_cases k5 : k = q
  · subst k5
    have k6 := k3 k (by omega)
    rw [Nat.zero_add, Nat.sub_add_cancel k2, hw] at k6
    exact absurd k6.symm hne
  · exact hm k ⟨by omega, al_trans (al_le k3 (Nat.le_succ _)) (al_symm (al_tail h4 h3 (by omega) (by omega)))⟩
theorem kI_al {P T : Nat → Int32} {i U q : Nat} (h : kI P T i U q) (he : wi (T i) q = P q) (hw : wi (P q) q = P q) : al P 0 T (i - q) (q + 1) := by
  obtain ⟨h1, h3, h4, h5⟩ := h
  refine lt_s h4 ?_
  rw [Nat.zero_add, Nat.sub_add_cancel h3, hw, he]
theorem kI_found {P T : Nat → Int32} {i M q : Nat} (h : kI P T i M q) (he : wi (T i) q = P q) (hw : wi (P q) q = P q) : oI P T (i + 1) M (q + 1) := by
  have h6 := kI_al h he hw
  obtain ⟨h1, h3, h4, h5⟩ := h
  refine ⟨by omega, by omega, al_to h6 rfl (by omega) rfl, fun k k1 k2 k3 => ?_⟩
  cases k with
  | zero => omega
  | succ k => exact Nat.succ_le_succ (h5 k (by omega) (by omega) (al_to k3 rfl (by omega) rfl))
theorem kI_none0 {P T : Nat → Int32} {i U : Nat} (h : kI P T i U 0) (he : ¬ wi (T i) 0 = P 0) (hw : wi (P 0) 0 = P 0) : ∀ k, k < U → k ≤ i → ¬ al P 0 T (i - k) (k + 1) := by
  obtain ⟨h1, h3, h4, h5⟩ := h
  intro k k1 k2 k3
  have k4 : k = 0 := Nat.le_zero.mp (h5 k k1 k2 k3)
  subst k4
  have k6 := k3 0 (by omega)
  rw [Nat.zero_add, Nat.sub_zero, Nat.add_zero, hw] at k6
  exact he k6.symm
theorem kI_none {P T : Nat → Int32} {i M : Nat} (h : kI P T i M 0) (he : ¬ wi (T i) 0 = P 0) (hw : wi (P 0) 0 = P 0) : oI P T (i + 1) M 0 := by
  have h6 := kI_none0 h he hw
  refine ⟨by omega, by omega, al_0, fun k k1 k2 k3 => ?_⟩
  cases k with
  | zero => omega
  | succ k => exact absurd (al_to k3 rfl (by omega) rfl) (h6 k (by omega) (by omega))
theorem oI_start {P T : Nat → Int32} {i M q : Nat} (h : oI P T i M q) (hq : q < M) : kI P T i M q :=
  ⟨hq, h.2.1, h.2.2.1, fun k k1 k2 k3 => h.2.2.2 k (by omega) k2 (al_le k3 (Nat.le_succ _))⟩
theorem oI_full {P T : Nat → Int32} {i M q2 : Nat} (hM : M < 2 ^ 31) (h : oI P T i M M) (h2 : bd P M q2) (hm : ∀ k, bd P M k → k ≤ q2) : kI P T i M q2 := by
  obtain ⟨h1, h3, h4, h5⟩ := h
  obtain ⟨g1, g2⟩ := h2
  refine ⟨g1, by omega, al_trans g2 (al_tail h4 h3 (by omega) hM), fun k k1 k2 k3 => hm k ⟨k1, ?_⟩⟩
  exact al_trans (al_le k3 (Nat.le_succ _)) (al_symm (al_tail h4 h3 (by omega) hM))
theorem kI_first {B : Nat → Int32} {j q : Nat} (h2 : bd B j q) (hm : ∀ k, bd B j k → k ≤ q) : kI B B j j q :=
  ⟨h2.1, by have := h2.1; omega, h2.2, fun k k1 k2 k3 => hm k ⟨k1, al_le k3 (Nat.le_succ _)⟩⟩
theorem isF_found {B : Nat → Int32} {j q : Nat} (h : kI B B j j q) (he : wi (B j) q = B q) (hw : wi (B q) q = B q) : isF B j (nI (q + 1)) := by
  have h6 := kI_al h he hw
  obtain ⟨h1, h3, h4, h5⟩ := h
  refine ⟨q + 1, rfl, ⟨by omega, al_to h6 rfl (by omega) rfl⟩, fun k k3 => ?_⟩
  cases k with
  | zero => omega
  | succ k => exact Nat.succ_le_succ (h5 k (by have := k3.1; omega) (by have := k3.1; omega) (al_to k3.2 rfl (by omega) rfl))
theorem isF_none {B : Nat → Int32} {j : Nat} (h : kI B B j j 0) (he : ¬ wi (B j) 0 = B 0) (hw : wi (B 0) 0 = B 0) : isF B j (nI 0) := by
  have h6 := kI_none0 h he hw
  refine ⟨0, rfl, ⟨by omega, al_0⟩, fun k k3 => ?_⟩
  cases k with
  | zero => omega
  | succ k => exact absurd (al_to k3.2 rfl (by omega) rfl) (h6 k (by have := k3.1; omega) (by have := k3.1; omega))
theorem isF_zero {B : Nat → Int32} : isF B 0 (nI 0) := ⟨0, rfl, ⟨by omega, al_0⟩, fun k k3 => by have := k3.1; omega⟩
theorem al_congr {B B' : Nat → Int32} {a c n N : Nat} (he : ∀ q, q < N → B q = B' q) (h1 : a + n ≤ N) (h2 : c + n ≤ N) (h : al B a B c n) : al B' a B' c n := by
  intro k hk
  rw [← he (a + k) (by omega), ← he (c + k) (by omega)]
  exact h k hk
theorem isF_congr {B B' : Nat → Int32} {j : Nat} {r : Int32} (he : ∀ q, q < j + 1 → B q = B' q) (h : isF B j r) : isF B' j r := by
  obtain ⟨k, h1, ⟨h2, h3⟩, h4⟩ := h
  refine ⟨k, h1, ⟨h2, al_congr he (by omega) (by omega) h3⟩, fun q hq => h4 q ⟨hq.1, ?_⟩⟩
  have h5 := hq.1
  exact al_congr (fun q hq => (he q hq).symm) (by omega) (by omega) hq.2
/-- r is the code of place i: a keyword as -1 - token, a name as the distance to its last use, 0 if there is none -/
def isD (f : Nat → Int32) (i : Nat) (r : Int32) : Prop := (f i < nI 16 ∧ r = -1 - f i) ∨ (¬ f i < nI 16 ∧ ((∃ d, 1 ≤ d ∧ d ≤ i ∧ r = nI d ∧ f (i - d) = f i ∧ ∀ e, e < d → 1 ≤ e → ¬ f (i - e) = f i) ∨ (r = nI 0 ∧ ∀ d, d ≤ i → 1 ≤ d → ¬ f (i - d) = f i)))
theorem isD_congr {f f' : Nat → Int32} {i : Nat} {r : Int32} (he : ∀ q, q < i + 1 → f q = f' q) (h : isD f i r) : isD f' i r := by
  have e0 := he i (by omega)
  rcases h with ⟨h1, h2⟩ | ⟨h1, h2⟩
  · exact Or.inl ⟨e0 ▸ h1, e0 ▸ h2⟩
  · refine Or.inr ⟨e0 ▸ h1, ?_⟩
    rcases h2 with ⟨d, g1, g2, g3, g4, g5⟩ | ⟨g1, g2⟩
    · refine Or.inl ⟨d, g1, g2, g3, ?_, fun e e1 e2 e3 => g5 e e1 e2 ?_⟩
      · rw [← he (i - d) (by omega), ← e0]; exact g4
      · rw [he (i - e) (by omega), e0]; exact e3
    · refine Or.inr ⟨g1, fun d d1 d2 e3 => g2 d d1 d2 ?_⟩
      rw [he (i - d) (by omega), e0]; exact e3
theorem ok_of {x : Int32} (h : okQ x) : ∃ j, j < 32 ∧ x = nI j := by
  obtain ⟨j, hj, rfl⟩ := nI_of h.1
  exact ⟨j, by have := (nI_leI hj (by decide)).mp h.2; omega, rfl⟩
theorem neg32 : ∀ j, j < 32 → -1 - nI j < 0 := by decide +kernel
theorem ok_neg {x : Int32} (h : okQ x) : -1 - x < 0 := by
  obtain ⟨j, hj, rfl⟩ := ok_of h
  exact neg32 j hj
theorem neg_ne {x : Int32} (h : okQ x) {n : Nat} (hn : n < 2 ^ 31) : ¬ -1 - x = nI n := fun e => nI_pos hn (e ▸ ok_neg h)
theorem isD_le {f : Nat → Int32} {i : Nat} {r : Int32} (hi : i < 2 ^ 31) (hk : okQ (f i)) (h : isD f i r) : r ≤ nI i := by
  rcases h with ⟨h1, h2⟩ | ⟨h1, ⟨d, g1, g2, g3, g4, g5⟩ | ⟨g1, g2⟩⟩
  · rw [h2]
    exact Int32.le_of_lt (Int32.lt_of_lt_of_le (ok_neg hk) (nI_pos' hi))
  · rw [g3]; exact nI_le g2 hi
  · rw [g1]; exact nI_le (Nat.zero_le _) hi
theorem isD_wi {f : Nat → Int32} {i : Nat} {r : Int32} (hi : i < 2 ^ 31) (hk : okQ (f i)) (h : isD f i r) : wi r i = r := wi_of (isD_le hi hk h)
/-- v is the code of place n of the window from a -/
def lu (F : Nat → Int32) (a n : Nat) (v : Int32) : Prop := (F (a + n) < nI 16 ∧ v = -1 - F (a + n)) ∨ (¬ F (a + n) < nI 16 ∧ ((∃ q, q < n ∧ v = nI (n - q) ∧ F (a + q) = F (a + n) ∧ ∀ p, q < p → p < n → ¬ F (a + p) = F (a + n)) ∨ (v = nI 0 ∧ ∀ q, q < n → ¬ F (a + q) = F (a + n))))
theorem lu_of {F : Nat → Int32} {a n : Nat} {r : Int32} (hn : a + n < 2 ^ 31) (hk : okQ (F (a + n))) (h : isD F (a + n) r) : lu F a n (wi r n) := by
  rcases h with ⟨h1, h2⟩ | ⟨h1, ⟨d, g1, g2, g3, g4, g5⟩ | ⟨g1, g2⟩⟩
  · refine Or.inl ⟨h1, ?_⟩
    rw [h2]
    exact wi_of (Int32.le_of_lt (Int32.lt_of_lt_of_le (ok_neg hk) (nI_pos' (by omega))))
  · refine Or.inr ⟨h1, ?_⟩
    subst g3
    by_cases hd : d ≤ n
    · refine Or.inl ⟨n - d, by omega, ?_, ?_, fun p p1 p2 p3 => ?_⟩
      · rw [wi_of (nI_le hd (by omega)), show n - (n - d) = d by omega]
      · rw [show a + (n - d) = a + n - d by omega]; exact g4
      · refine g5 (n - p) (by omega) (by omega) ?_
        rw [show a + n - (n - p) = a + p by omega]; exact p3
    · refine Or.inr ⟨wi_out (nI_lt (by omega) (by omega)), fun q q1 q2 => ?_⟩
      refine g5 (n - q) (by omega) (by omega) ?_
      rw [show a + n - (n - q) = a + q by omega]; exact q2
  · refine Or.inr ⟨h1, Or.inr ⟨?_, fun q q1 q2 => ?_⟩⟩
    · rw [g1]; exact wi_of (nI_le (Nat.zero_le _) (by omega))
    · refine g2 (n - q) (by omega) (by omega) ?_
      rw [show a + n - (n - q) = a + q by omega]; exact q2
theorem lu_iff {F G : Nat → Int32} {a b n : Nat} {v w : Int32} (hn : n < 2 ^ 31) (hF : okQ (F (a + n))) (hG : okQ (G (b + n))) (ih : akG F a G b n) (h1 : lu F a n v) (h2 : lu G b n w) : v = w ↔ akC F a G b n := by
  rcases h1 with ⟨f1, f2⟩ | ⟨f1, ⟨q, f2, f3, f4, f5⟩ | ⟨f2, f3⟩⟩
  · rcases h2 with ⟨k1, k2⟩ | ⟨k1, k2⟩
    · rw [f2, k2, Int32.sub_right_inj]
      exact ⟨fun e => ⟨fun _ => e, fun h => absurd f1 h⟩, fun h => h.1 (Or.inl f1)⟩
    · refine ⟨fun e => ?_, fun h => absurd (h.1 (Or.inl f1) ▸ f1) k1⟩
      rw [f2] at e
      rcases k2 with ⟨q, g2, g3, g4, g5⟩ | ⟨g2, g3⟩
      · rw [g3] at e; exact absurd e (neg_ne hF (by omega))
      · rw [g2] at e; exact absurd e (neg_ne hF (by omega))
  · rcases h2 with ⟨k1, k2⟩ | ⟨k1, ⟨q', k2, k3, k4, k5⟩ | ⟨k2, k3⟩⟩
    · refine ⟨fun e => ?_, fun h => absurd ((h.1 (Or.inr k1)).symm ▸ k1) f1⟩
      rw [f3, k2] at e
      exact absurd e.symm (neg_ne hG (by omega))
    · subst f3; subst k3
      rw [nI_eq (by omega) (by omega)]
      constructor
      · intro e
        have e : q = q' := by omega
        subst e
        refine ⟨fun h => absurd h (fun h => h.elim f1 k1), fun _ _ p hp => ?_⟩
        rcases Nat.lt_trichotomy p q with z | z | z
        · rw [← f4, ← k4]
          exact (ih q f2).2 (by rw [f4]; exact f1) (by rw [k4]; exact k1) p z
        · subst z
          exact ⟨fun _ => k4, fun _ => f4⟩
        · exact ⟨fun h => absurd h (f5 p z hp), fun h => absurd h (k5 p z hp)⟩
      · intro h
        have h := h.2 f1 k1
        rcases Nat.lt_trichotomy q q' with z | z | z
        · exact absurd ((h q' k2).mpr k4) (f5 q' z k2)
        · omega
        · exact absurd ((h q f2).mp f4) (k5 q z f2)
    · refine ⟨fun e => ?_, fun h => absurd ((h.2 f1 k1 q f2).mp f4) (k3 q f2)⟩
      rw [f3, k2, nI_eq (by omega) (by omega)] at e
      omega
  · rcases h2 with ⟨k1, k2⟩ | ⟨k1, ⟨q', k2, k3, k4, k5⟩ | ⟨k2, k3⟩⟩
    · refine ⟨fun e => ?_, fun h => absurd ((h.1 (Or.inr k1)).symm ▸ k1) f1⟩
      rw [f2, k2] at e
      exact absurd e.symm (neg_ne hG (by omega))
    · refine ⟨fun e => ?_, fun h => absurd ((h.2 f1 k1 q' k2).mpr k4) (f3 q' k2)⟩
      rw [f2, k3, nI_eq (by omega) (by omega)] at e
      omega
    · rw [f2, k2]
      refine ⟨fun _ => ⟨fun h => absurd h (fun h => h.elim f1 k1), fun _ _ p hp => ⟨fun h => absurd h (f3 p hp), fun h => absurd h (k3 p hp)⟩⟩, fun _ => rfl⟩
/-- THE BRIDGE: codes alike, place by place, is alike by the definition -/
theorem bridge {F G B C : Nat → Int32} {a b n : Nat} (ha : a + n < 2 ^ 31) (hF : ∀ k, k < n → okQ (F (a + k)) ∧ isD F (a + k) (B (a + k))) (hG : ∀ k, k < n → okQ (G (b + k)) ∧ isD G (b + k) (C (b + k))) (hb : b + n < 2 ^ 31) : al B a C b n ↔ akG F a G b n := by
  induction n with
  | zero => exact ⟨fun _ k hk => absurd hk (Nat.not_lt_zero _), fun _ => al_0⟩
  | succ n ih =>
    have ih := ih (by omega) (fun k hk => hF k (by omega)) (fun k hk => hG k (by omega)) (by omega)
    have h1 := hF n (by omega)
    have h2 := hG n (by omega)
    have l1 := lu_of (by omega) h1.1 h1.2
    have l2 := lu_of (by omega) h2.1 h2.2
    constructor
    · intro h
      have h3 := ih.mp (al_le h (Nat.le_succ _))
      exact lt_s h3 ((lu_iff (by omega) h1.1 h2.1 h3 l1 l2).mp (h n (by omega)))
    · intro h
      have h3 : akG F a G b n := fun k hk => h k (by omega)
      exact lt_s (ih.mpr h3) ((lu_iff (by omega) h1.1 h2.1 h3 l1 l2).mpr (h n (by omega)))
/-- the text and its codes -/
def TI (tl : Nat) (tk bk : Nat → Int32) : Prop := ∀ i, i < tl → okQ (tk i) ∧ isD tk i (bk i)
/-- the pattern, its codes and its failure function -/
def PI (pl : Nat) (wn wb fl : Nat → Int32) : Prop := ∀ i, i < pl → okQ (wn i) ∧ isD wn i (wb i) ∧ isF wb i (fl i)
theorem TI_push {tl : Nat} {tk bk : Nat → Int32} {x v : Int32} (h : TI tl tk bk) (hx : okQ x) (hv : isD (upd tk tl x) tl v) : TI (tl + 1) (upd tk tl x) (upd bk tl v) := by
  intro i hi
  by_cases e : i = tl
  · subst e
    rw [pk_us, pk_us]
    exact ⟨hx, hv⟩
  · rw [pk_un e, pk_un e]
    obtain ⟨h1, h2⟩ := h i (by omega)
    exact ⟨h1, isD_congr (fun q hq => (pk_un (by omega)).symm) h2⟩
theorem TI_chg {tl j : Nat} {tk bk bk' : Nat → Int32} {x : Int32} (h : TI tl tk bk) (hx : okQ x) (h1 : ∀ q, q < j → bk' q = bk q) (h2 : ∀ q, q < tl → j ≤ q → isD (upd tk j x) q (bk' q)) : TI tl (upd tk j x) bk' := by
  intro i hi
  by_cases e : i = j
  · subst e
    exact ⟨by rw [pk_us]; exact hx, h2 i hi (Nat.le_refl _)⟩
  · refine ⟨by rw [pk_un e]; exact (h i hi).1, ?_⟩
    by_cases e2 : i < j
    · rw [h1 i e2]
      exact isD_congr (fun q hq => (pk_un (by omega)).symm) (h i hi).2
    · exact h2 i hi (by omega)
theorem PI_push {pl : Nat} {wn wb fl fl' : Nat → Int32} {x v : Int32} (h : PI pl wn wb fl) (hx : okQ x) (hv : isD (upd wn pl x) pl v) (h1 : ∀ q, q < pl → fl' q = fl q) (h2 : isF (upd wb pl v) pl (fl' pl)) : PI (pl + 1) (upd wn pl x) (upd wb pl v) fl' := by
  intro i hi
  by_cases e : i = pl
  · subst e
    rw [pk_us, pk_us]
    exact ⟨hx, hv, h2⟩
  · rw [pk_un e, pk_un e, h1 i (by omega)]
    obtain ⟨g1, g2, g3⟩ := h i (by omega)
    exact ⟨g1, isD_congr (fun q hq => (pk_un (by omega)).symm) g2, isF_congr (fun q hq => (pk_un (by omega)).symm) g3⟩
theorem PI_wi {pl : Nat} {wn wb fl : Nat → Int32} (hp : pl ≤ 12) (h : PI pl wn wb fl) {j : Nat} (hj : j < pl) : wi (wb j) j = wb j := isD_wi (by omega) (h j hj).1 (h j hj).2.1
theorem PI_F {pl : Nat} {wn wb fl : Nat → Int32} (h : PI pl wn wb fl) {q : Nat} (h0 : 0 < q) (hq : q ≤ pl) : ∃ k, fl (q - 1) = nI k ∧ bd wb q k ∧ ∀ z, bd wb q z → z ≤ k := by
  have h1 := (h (q - 1) (by omega)).2.2
  unfold isF at h1
  rw [Nat.sub_add_cancel h0] at h1
  exact h1
/-- the pattern's codes match the text's at p -/
def mtX (wb bk : Nat → Int32) (tl pl p : Nat) : Prop := 0 < pl ∧ p + pl ≤ tl ∧ al wb 0 bk p pl
def aX (T : Nat → Int32) (n i j r : Nat) : Prop := i < j ∧ j + r ≤ n ∧ al T i T j r
def nwX (T : Nat → Int32) (k i : Nat) : Prop := ¬ ∃ j, j < i ∧ al T i T j k
/-! clones -/
/-- from i and from j on exactly r places stay alike, up to n -/
def rc (T : Nat → Int32) (n i j r : Nat) : Prop := j + r ≤ n ∧ al T i T j r ∧ (j + r = n ∨ ¬ wi (T (i + r)) r = wi (T (j + r)) r)
theorem rc_max {T : Nat → Int32} {n i j r k : Nat} (h : rc T n i j r) (hk : j + k ≤ n) (ha : al T i T j k) : k ≤ r := by
  rcases h.2.2 with h1 | h1
  · omega
  · rcases Nat.lt_or_ge r k with h2 | h2
    · exact absurd (ha r h2) h1
    · exact h2
theorem rc_uniq {T : Nat → Int32} {n i j r r' : Nat} (h : rc T n i j r) (h' : rc T n i j r') : r = r' :=
  Nat.le_antisymm (rc_max h' h.1 h.2.1) (rc_max h h'.1 h'.2.1)
theorem rc_from {T : Nat → Int32} {n i j : Nat} : ∀ (m k : Nat), n - (j + k) ≤ m → j + k ≤ n → al T i T j k → ∃ r, rc T n i j r := by
  intro m
  induction m with
  | zero => intro k h1 h2 h3; exact ⟨k, h2, h3, Or.inl (by omega)⟩
  | succ m ih =>
    intro k h1 h2 h3
    by_cases h4 : j + k = n
    · exact ⟨k, h2, h3, Or.inl h4⟩
    · by_cases h5 : wi (T (i + k)) k = wi (T (j + k)) k
      · exact ih (k + 1) (by omega) (by omega) (lt_s h3 h5)
      · exact ⟨k, h2, h3, Or.inr h5⟩
theorem rc_ex {T : Nat → Int32} {n i j : Nat} (h : j ≤ n) : ∃ r, rc T n i j r := rc_from n 0 (by omega) h al_0
/-- l, fi, se: the longest of the set Z, then the first, then the second smallest -/
def bst (Z : Nat → Nat → Nat → Prop) (l : Nat) (fi se : Int32) : Prop :=
  (l = 0 ∧ fi = -4 ∧ se = -4 ∧ ∀ i j r, Z i j r → r = 0) ∨
  (0 < l ∧ ∃ i j, i < 2 ^ 31 ∧ j < 2 ^ 31 ∧ fi = nI i ∧ se = nI j ∧ Z i j l ∧ ∀ i' j' r, Z i' j' r → r ≤ l ∧ (r = l → i < i' ∨ (i = i' ∧ j ≤ j')))
theorem bst_congr {Z Z' : Nat → Nat → Nat → Prop} {l : Nat} {fi se : Int32} (h : ∀ i j r, Z i j r ↔ Z' i j r) (hb : bst Z l fi se) : bst Z' l fi se := by
  have e : Z = Z' := by funext i j r; exact propext (h i j r)
  subst e; exact hb
def tkC (l : Nat) (fi se : Int32) (a b x : Nat) : Prop := 0 < x ∧ l ≤ x ∧ (l < x ∨ nI a < fi ∨ (nI a = fi ∧ nI b < se))
theorem bst_take {Z Z' : Nat → Nat → Nat → Prop} {l a b x : Nat} {fi se : Int32} {u : Nat × Int32 × Int32} (ha : a < 2 ^ 31) (hb : b < 2 ^ 31) (hB : bst Z l fi se) (hZ : ∀ i j r, Z' i j r ↔ (Z i j r ∨ (i = a ∧ j = b ∧ r = x))) (hu : (tkC l fi se a b x ∧ u = (x, nI a, nI b)) ∨ (¬ tkC l fi se a b x ∧ u = (l, fi, se))) : bst Z' u.1 u.2.1 u.2.2 := by
  rcases hu with ⟨⟨h0, h1, h2⟩, rfl⟩ | ⟨hn, rfl⟩
  · refine Or.inr ⟨h0, a, b, ha, hb, rfl, rfl, (hZ _ _ _).mpr (Or.inr ⟨rfl, rfl, rfl⟩), fun i' j' r hz => ?_⟩
    rcases (hZ _ _ _).mp hz with hz | ⟨rfl, rfl, rfl⟩
    · rcases hB with ⟨b1, b2, b3, b4⟩ | ⟨b0, i, j, b1, b2, b3, b4, b5, b6⟩
      · have := b4 _ _ _ hz
        exact ⟨by omega, fun e => by omega⟩
      · obtain ⟨c1, c2⟩ := b6 _ _ _ hz
        refine ⟨Nat.le_trans c1 h1, fun e => ?_⟩
        subst e
        have e1 : r = l := Nat.le_antisymm c1 h1
        have c2 := c2 e1
        rw [b3, b4] at h2
        rw [nI_ltI ha b1, nI_eq ha b1, nI_ltI hb b2] at h2
        omega
    · exact ⟨Nat.le_refl _, fun _ => Or.inr ⟨rfl, Nat.le_refl _⟩⟩
  · rcases hB with ⟨b1, b2, b3, b4⟩ | ⟨b0, i, j, b1, b2, b3, b4, b5, b6⟩
    · refine Or.inl ⟨b1, b2, b3, fun i j r hz => ?_⟩
      rcases (hZ _ _ _).mp hz with hz | ⟨rfl, rfl, rfl⟩
      · exact b4 _ _ _ hz
      · rcases Nat.eq_zero_or_pos r with h | h
        · exact h
        · exact absurd ⟨h, by omega, Or.inl (by omega)⟩ hn
    · refine Or.inr ⟨b0, i, j, b1, b2, b3, b4, (hZ _ _ _).mpr (Or.inl b5), fun i' j' r hz => ?_⟩
      rcases (hZ _ _ _).mp hz with hz | ⟨rfl, rfl, rfl⟩
      · exact b6 _ _ _ hz
      · unfold tkC at hn
        dsimp only at b0 ⊢
        rw [b3, b4, nI_ltI ha b1, nI_eq ha b1, nI_ltI hb b2] at hn
        omega
/-- the pairs that a sweep has seen: diagonals under d, and of d those under a -/
def Zp (T : Nat → Int32) (n d a i j r : Nat) : Prop := rc T n i j r ∧ i < j ∧ j < n ∧ (j < i + d ∨ (j = i + d ∧ i < a))
def Zf (T : Nat → Int32) (n i j r : Nat) : Prop := rc T n i j r ∧ i < j ∧ j < n
theorem Zp_next {T : Nat → Int32} {n d a x : Nat} (hd : 1 ≤ d) (ha : a + d < n) (hx : rc T n a (a + d) x) (i j r : Nat) : Zp T n d (a + 1) i j r ↔ (Zp T n d a i j r ∨ (i = a ∧ j = a + d ∧ r = x)) := by
  constructor
  · rintro ⟨h1, h2, h3, h4⟩
    by_cases h5 : j = i + d ∧ i = a
    · obtain ⟨h5, h6⟩ := h5
      subst h6; subst h5
      exact Or.inr ⟨rfl, rfl, rc_uniq h1 hx⟩
    · exact Or.inl ⟨h1, h2, h3, by omega⟩
  · rintro (⟨h1, h2, h3, h4⟩ | ⟨rfl, rfl, rfl⟩)
    · exact ⟨h1, h2, h3, by omega⟩
    · exact ⟨hx, by omega, ha, Or.inr ⟨rfl, by omega⟩⟩
theorem Zp_diag {T : Nat → Int32} {n d a : Nat} (ha : n ≤ a + d) (i j r : Nat) : Zp T n d a i j r ↔ Zp T n (d + 1) 0 i j r := by
  constructor
  · rintro ⟨h1, h2, h3, h4⟩; exact ⟨h1, h2, h3, by omega⟩
  · rintro ⟨h1, h2, h3, h4⟩; exact ⟨h1, h2, h3, by omega⟩
theorem Zp_all {T : Nat → Int32} {n d : Nat} (ha : n ≤ d) (i j r : Nat) : Zp T n d 0 i j r ↔ Zf T n i j r := by
  constructor
  · rintro ⟨h1, h2, h3, h4⟩; exact ⟨h1, h2, h3⟩
  · rintro ⟨h1, h2, h3⟩; exact ⟨h1, h2, h3, by omega⟩
theorem bst_0 {T : Nat → Int32} {n : Nat} : bst (Zp T n 1 0) 0 (-4) (-4) := Or.inl ⟨rfl, rfl, rfl, fun i j r h => by obtain ⟨h1, h2, h3, h4⟩ := h; omega⟩
/-- rp j: a window like the one at j, of length L at least, stands before it -/
def rpQ (Z : Nat → Nat → Nat → Prop) (n L : Nat) (rp : Nat → Int32) : Prop := ∀ j, j < n → bl (rp j) (∃ i r, Z i j r ∧ L ≤ r)
theorem rpQ_congr {Z Z' : Nat → Nat → Nat → Prop} {n L : Nat} {rp : Nat → Int32} (h : ∀ i j r, Z i j r ↔ Z' i j r) (hb : rpQ Z n L rp) : rpQ Z' n L rp := by
  have e : Z = Z' := by funext i j r; exact propext (h i j r)
  subst e; exact hb
theorem bl_iff {r : Int32} {P Q : Prop} (e : P ↔ Q) (h : bl r P) : bl r Q := by
  rcases h with ⟨h1, h2⟩ | ⟨h1, h2⟩
  · exact Or.inl ⟨h1, e.mp h2⟩
  · exact Or.inr ⟨h1, fun q => h2 (e.mpr q)⟩
theorem rpQ_yes {Z Z' : Nat → Nat → Nat → Prop} {n L a b x : Nat} {rp : Nat → Int32} (hZ : ∀ i j r, Z' i j r ↔ (Z i j r ∨ (i = a ∧ j = b ∧ r = x))) (hx : L ≤ x) (h : rpQ Z n L rp) : rpQ Z' n L (upd rp b (nI 1)) := by
  intro j hj
  by_cases e : j = b
  · subst e
    rw [pk_us]
    exact bl_t ⟨a, x, (hZ _ _ _).mpr (Or.inr ⟨rfl, rfl, rfl⟩), hx⟩
  · rw [pk_un e]
    refine bl_iff ⟨fun h => ?_, fun h => ?_⟩ (h j hj)
    · obtain ⟨i, r, h1, h2⟩ := h
      exact ⟨i, r, (hZ _ _ _).mpr (Or.inl h1), h2⟩
    · obtain ⟨i, r, h1, h2⟩ := h
      rcases (hZ _ _ _).mp h1 with h1 | ⟨_, h1, _⟩
      · exact ⟨i, r, h1, h2⟩
      · exact absurd h1 e
theorem rpQ_no {Z Z' : Nat → Nat → Nat → Prop} {n L a b x : Nat} {rp : Nat → Int32} (hZ : ∀ i j r, Z' i j r ↔ (Z i j r ∨ (i = a ∧ j = b ∧ r = x))) (hx : x < L) (h : rpQ Z n L rp) : rpQ Z' n L rp := by
  intro j hj
  refine bl_iff ⟨fun h => ?_, fun h => ?_⟩ (h j hj)
  · obtain ⟨i, r, h1, h2⟩ := h
    exact ⟨i, r, (hZ _ _ _).mpr (Or.inl h1), h2⟩
  · obtain ⟨i, r, h1, h2⟩ := h
    rcases (hZ _ _ _).mp h1 with h1 | ⟨_, _, h1⟩
    · exact ⟨i, r, h1, h2⟩
    · omega
theorem rpQ_0 {T : Nat → Int32} {n L : Nat} {rp : Nat → Int32} (h : ∀ j, j < n → rp j = nI 0) : rpQ (Zp T n 1 0) n L rp := fun j hj => Or.inr ⟨h j hj, fun h => by obtain ⟨i, r, ⟨h1, h2, h3, h4⟩, h5⟩ := h; omega⟩
theorem aX_Z {T : Nat → Int32} {n i j k : Nat} (h : aX T n i j k) (h0 : 0 < k) : ∃ r, Zf T n i j r ∧ k ≤ r := by
  obtain ⟨h1, h2, h3⟩ := h
  obtain ⟨r, hr⟩ := rc_ex (T := T) (i := i) (j := j) (n := n) (by omega)
  exact ⟨r, ⟨hr, h1, by omega⟩, rc_max hr h2 h3⟩
theorem Z_aX {T : Nat → Int32} {n i j r k : Nat} (h : Zf T n i j r) (hk : k ≤ r) : aX T n i j k := ⟨h.2.1, by have := h.1.1; omega, al_le h.1.2.1 hk⟩
theorem bst_mx {T : Nat → Int32} {n l : Nat} {fi se : Int32} (h : bst (Zf T n) l fi se) : mx (lg (aX T n)) l := by
  rcases h with ⟨b1, b2, b3, b4⟩ | ⟨b0, i, j, b1, b2, b3, b4, b5, b6⟩
  · refine ⟨Or.inr b1, fun k hk => ?_⟩
    obtain ⟨h0, i, j, h⟩ := hk
    obtain ⟨r, hr, hk⟩ := aX_Z h h0
    have := b4 _ _ _ hr
    omega
  · refine ⟨Or.inl ⟨b0, i, j, Z_aX b5 (Nat.le_refl _)⟩, fun k hk => ?_⟩
    obtain ⟨h0, i, j, h⟩ := hk
    obtain ⟨r, hr, hk⟩ := aX_Z h h0
    have := (b6 _ _ _ hr).1
    omega
theorem bst_le {T : Nat → Int32} {n l : Nat} {fi se : Int32} (h : bst (Zf T n) l fi se) : l ≤ n := by
  rcases h with ⟨b1, _⟩ | ⟨b0, i, j, b1, b2, b3, b4, b5, b6⟩
  · omega
  · have := b5.1.1
    omega
theorem bst_cf {T : Nat → Int32} {n l : Nat} {fi se : Int32} (h : bst (Zf T n) l fi se) : cfQ (aX T n) fi := by
  refine ⟨l, bst_mx h, ?_⟩
  rcases h with ⟨b1, b2, b3, b4⟩ | ⟨b0, i, j, b1, b2, b3, b4, b5, b6⟩
  · exact Or.inl ⟨b1, b2⟩
  · refine Or.inr ⟨b0, Or.inl ⟨i, b3, b1, ⟨j, Z_aX b5 (Nat.le_refl _)⟩, fun i' h => ?_⟩⟩
    obtain ⟨j', h⟩ := h
    obtain ⟨r, hr, hk⟩ := aX_Z h b0
    have := b6 _ _ _ hr
    omega
theorem bst_cs {T : Nat → Int32} {n l : Nat} {fi se : Int32} (h : bst (Zf T n) l fi se) : csQ (aX T n) se := by
  refine ⟨l, bst_mx h, ?_⟩
  rcases h with ⟨b1, b2, b3, b4⟩ | ⟨b0, i, j, b1, b2, b3, b4, b5, b6⟩
  · exact Or.inl ⟨b1, b3⟩
  · refine Or.inr ⟨b0, i, b1, Or.inl ⟨i, rfl, b1, ⟨j, Z_aX b5 (Nat.le_refl _)⟩, fun i' h => ?_⟩, Or.inl ⟨j, b4, b2, Z_aX b5 (Nat.le_refl _), fun j' h => ?_⟩⟩
    · obtain ⟨j', h⟩ := h
      obtain ⟨r, hr, hk⟩ := aX_Z h b0
      have := b6 _ _ _ hr
      omega
    · obtain ⟨r, hr, hk⟩ := aX_Z h b0
      have := b6 _ _ _ hr
      omega
theorem rp_nw {T : Nat → Int32} {n k i : Nat} {rp : Nat → Int32} (h : rpQ (Zf T n) n k rp) (h0 : 0 < k) (hi : i + k ≤ n) : bl (rp i) (¬ nwX T k i) := by
  refine bl_iff ⟨fun h => ?_, fun h => ?_⟩ (h i (by omega))
  · obtain ⟨j, r, h1, h2⟩ := h
    exact fun q => q ⟨j, h1.2.1, al_symm (al_le h1.1.2.1 h2)⟩
  · obtain ⟨j, h1, h2⟩ := Classical.not_not.mp h
    obtain ⟨r, h3, h4⟩ := aX_Z (T := T) (n := n) (i := j) (j := i) ⟨h1, hi, al_symm h2⟩ h0
    exact ⟨j, r, h3, h4⟩
end
section
/-! the search's numbers -/
set_option maxRecDepth 100000
def sI (wb bk : Nat → Int32) (pl n fo : Nat) (fa : Nat → Int32) : Prop := fo = cnt (fun p => al wb 0 bk p pl) n ∧ ∀ p, p < n → al wb 0 bk p pl → fa (cnt (fun p => al wb 0 bk p pl) p) = nI p
theorem sI_0 {wb bk : Nat → Int32} {pl : Nat} {fa : Nat → Int32} : sI wb bk pl 0 0 fa := ⟨rfl, fun p hp => absurd hp (Nat.not_lt_zero _)⟩
theorem sI_le {wb bk : Nat → Int32} {pl n fo : Nat} {fa : Nat → Int32} (h : sI wb bk pl n fo fa) : fo ≤ n := by
  rw [h.1]; exact cnt_le _ _
theorem sI_no {wb bk : Nat → Int32} {pl i q fo : Nat} {fa : Nat → Int32} (h : sI wb bk pl (i + 1 - pl) fo fa) (ho : oI wb bk (i + 1) pl q) (hq : ¬ q = pl) : sI wb bk pl (i + 1 + 1 - pl) fo fa := by
  by_cases h1 : pl ≤ i + 1
  · have h2 : ¬ al wb 0 bk (i + 1 - pl) pl := fun z => by
      have := ho.2.2.2 pl (Nat.le_refl _) h1 z
      have := ho.1
      omega
    rw [show i + 1 + 1 - pl = i + 1 - pl + 1 by omega]
    refine ⟨by rw [cnt_f (P := fun p => al wb 0 bk p pl) h2]; exact h.1, fun p hp hm => ?_⟩
    by_cases e : p = i + 1 - pl
    · subst e; exact absurd hm h2
    · exact h.2 p (by omega) hm
  · rw [show i + 1 + 1 - pl = i + 1 - pl by omega]
    exact h
theorem sI_yes {wb bk : Nat → Int32} {pl i fo : Nat} {fa : Nat → Int32} (h : sI wb bk pl (i + 1 - pl) fo fa) (ho : oI wb bk (i + 1) pl pl) : sI wb bk pl (i + 1 + 1 - pl) (fo + 1) (upd fa fo (nI (i + 1 - pl))) := by
  have h1 := ho.2.1
  have h2 := ho.2.2.1
  rw [show i + 1 + 1 - pl = i + 1 - pl + 1 by omega]
  refine ⟨by rw [cnt_t (P := fun p => al wb 0 bk p pl) h2, ← h.1], fun p hp hm => ?_⟩
  by_cases e : p = i + 1 - pl
  · subst e
    rw [← h.1, pk_us]
  · have h3 := cnt_lt (P := fun p => al wb 0 bk p pl) (p := p) (n := i + 1 - pl) (by omega) hm
    rw [← h.1] at h3
    rw [pk_un (by omega)]
    exact h.2 p (by omega) hm
theorem sI_end {wb bk : Nat → Int32} {tl pl fo : Nat} {fa : Nat → Int32} (h0 : 0 < pl) (h : sI wb bk pl (tl + 1 - pl) fo fa) : fo = cnt (mtX wb bk tl pl) tl ∧ ∀ p, p < tl → mtX wb bk tl pl p → fa (cnt (mtX wb bk tl pl) p) = nI p := by
  have e : ∀ n, n ≤ tl + 1 - pl → cnt (fun p => al wb 0 bk p pl) n = cnt (mtX wb bk tl pl) n := fun n hn => cnt_congr (fun p hp => ⟨fun z => ⟨h0, by omega, z⟩, fun z => z.2.2⟩)
  refine ⟨?_, fun p hp hm => ?_⟩
  · rw [h.1, e _ (Nat.le_refl _)]
    exact (cnt_stop (by omega) (fun p h1 h2 z => by have := z.2.1; omega)).symm
  · have h1 := hm.2.1
    rw [← e p (by omega)]
    exact h.2 p (by omega) hm.2.2
theorem mt_none {wb bk : Nat → Int32} {tl pl : Nat} (h0 : pl = 0) : 0 = cnt (mtX wb bk tl pl) tl := by
  rw [cnt_stop (a := 0) (Nat.zero_le _) (fun p _ _ z => by have := z.1; omega)]
  rfl
end
section
/-! the class: leaves, text and pattern -/
set_option maxHeartbeats 4000000 in
set_option maxRecDepth 100000 in
/-- badToken(x) -/
theorem mX_badToken (l : Launch) (D : va_G) (z : Nat → Nat) (d0 d1 : ClassId) (x : Int32) : ct_I l yX0_badToken cX0_badToken 1 (some .boolean) ({ frames := 0, cells := 0, slots := 0, locals := 0 } : Room) ([.int (x)] : List Value) D (tyA d0 d1) [] (fun r (_ : Unit) => bl r (¬ okQ x)) (fun (_ : Unit) => []) := by
  intro sz
  refine st_of (QA := (st_I D (tyA d0 d1) (fun r (_ : Unit) => bl r (¬ okQ x)) (fun (_ : Unit) => []))) (by decide) (Nat.le_of_ble_eq_true rfl) ?_
  intro p e s m below meth c A ls hx hb hr hml hlocks hown hts hname hK hP hD hS hA hl
  have hl : lv_has ls 1 [(0, .int (x))] := hl
  have hown : s.vm.findClass RX0 = some m.cls := hown
  refine lv_iload_n hx hb dX0_badToken_0 rfl (lv_at hl 0 rfl) ?_
  refine lv_if_lt (tgt := 10) hx hb dX0_badToken_1 (by decide) (fun c_1 => ?_) (fun c_1 => ?_)
  · skip
    refine lv_iconst (v := nI (1)) hx hb dX0_badToken_10 (by decide) ?_
    refine lv_goto (tgt := 15) hx hb dX0_badToken_11 (by decide) ?_
    exact st_zret (v := nI (1)) () rfl hx hb hr hlocks hK hP hD hS dX0_badToken_15 (bl_t (fun h => h.1 c_1))
  · skip
    refine lv_iload_n hx hb dX0_badToken_4 rfl (lv_at hl 0 rfl) ?_
    refine lv_bipush (v := nI (31)) hx hb dX0_badToken_5 (by decide) ?_
    refine lv_icmp_le (tgt := 14) hx hb dX0_badToken_7 (by decide) (fun c_7 => ?_) (fun c_7 => ?_)
    · skip
      refine lv_iconst (v := nI (0)) hx hb dX0_badToken_14 (by decide) ?_
      exact st_zret (v := nI (0)) () rfl hx hb hr hlocks hK hP hD hS dX0_badToken_15 (bl_f (fun h => h ⟨c_1, c_7⟩))
    · skip
      refine lv_iconst (v := nI (1)) hx hb dX0_badToken_10 (by decide) ?_
      refine lv_goto (tgt := 15) hx hb dX0_badToken_11 (by decide) ?_
      exact st_zret (v := nI (1)) () rfl hx hb hr hlocks hK hP hD hS dX0_badToken_15 (bl_t (fun h => c_7 h.2))

set_option maxHeartbeats 4000000 in
set_option maxRecDepth 100000 in
/-- within(x, N) -/
theorem mX_within (l : Launch) (D : va_G) (z : Nat → Nat) (d0 d1 : ClassId) (x : Int32) (N : Nat) : ct_I l yX0_within cX0_within 2 (some .int) ({ frames := 0, cells := 0, slots := 0, locals := 0 } : Room) ([.int (x), .int (nI (N))] : List Value) D (tyA d0 d1) [] (fun r (_ : Unit) => r = wi x N) (fun (_ : Unit) => []) := by
  intro sz
  refine st_of (QA := (st_I D (tyA d0 d1) (fun r (_ : Unit) => r = wi x N) (fun (_ : Unit) => []))) (by decide) (Nat.le_of_ble_eq_true rfl) ?_
  intro p e s m below meth c A ls hx hb hr hml hlocks hown hts hname hK hP hD hS hA hl
  have hl : lv_has ls 2 [(0, .int (x)), (1, .int (nI (N)))] := hl
  have hown : s.vm.findClass RX0 = some m.cls := hown
  refine lv_iload_n hx hb dX0_within_0 rfl (lv_at hl 0 rfl) ?_
  refine lv_iload_n hx hb dX0_within_1 rfl (lv_at hl 1 rfl) ?_
  refine lv_icmp_le (tgt := 9) hx hb dX0_within_2 (by decide) (fun c_2 => ?_) (fun c_2 => ?_)
  · skip
    refine lv_iload_n hx hb dX0_within_9 rfl (lv_at hl 0 rfl) ?_
    exact st_iret (v := (x)) () hx hb hr hlocks hK hP hD hS dX0_within_10 (wi_of c_2).symm
  · skip
    refine lv_iconst (v := nI (0)) hx hb dX0_within_5 (by decide) ?_
    refine lv_goto (tgt := 10) hx hb dX0_within_6 (by decide) ?_
    exact st_iret (v := nI (0)) () hx hb hr hlocks hK hP hD hS dX0_within_10 (wi_out (Int32.not_le.mp c_2)).symm

set_option maxHeartbeats 4000000 in
set_option maxRecDepth 100000 in
/-- distance(i) -/
theorem mX_distance (l : Launch) (D : va_G) (z : Nat → Nat) (d0 d1 : ClassId) (tl pl : Nat) (fo lo fi se : Int32) (tk bk wn wb fl fa rp : Nat → Int32) (htl : tl ≤ 48) (hpl : pl ≤ 12) (i : Nat) (hi : i < 48) : ct_I l yX0_distance cX0_distance 3 (some .int) ({ frames := 0, cells := 0, slots := 0, locals := 0 } : Room) ([.ref (z 0), .int (nI (i))] : List Value) D (tyA d0 d1) (wX z d0 d1 (nI (tl)) (nI (pl)) ((fo)) ((lo)) ((fi)) ((se)) (tk) (bk) (wn) (wb) (fl) (fa) (rp)) (fun r (_ : Unit) => isD tk i r) (fun (_ : Unit) => (wX z d0 d1 (nI (tl)) (nI (pl)) ((fo)) ((lo)) ((fi)) ((se)) (tk) (bk) (wn) (wb) (fl) (fa) (rp))) := by
  intro sz
  refine st_of (QA := (st_I D (tyA d0 d1) (fun r (_ : Unit) => isD tk i r) (fun (_ : Unit) => (wX z d0 d1 (nI (tl)) (nI (pl)) ((fo)) ((lo)) ((fi)) ((se)) (tk) (bk) (wn) (wb) (fl) (fa) (rp))))) (by decide) (Nat.le_of_ble_eq_true rfl) ?_
  intro p e s m below meth c A ls hx hb hr hml hlocks hown hts hname hK hP hD hS hA hl
  have hl : lv_has ls 3 [(0, .ref (z 0)), (1, .int (nI (i)))] := hl
  have hown : s.vm.findClass RX0 = some m.cls := hown
  refine lv_aload_n hx hb dX0_distance_0 rfl (lv_at hl 0 rfl) ?_
  refine va_get (D := D) (ci := 0) (v := .ref (z 1)) (C := RX0) (T := TX0) (N := 13) hx hb hts in_X0 hown hK hP 0 rfl rfl 1 (by decide) (hts _ q26) (fun _ h9 => h9) rfl dX0_distance_1 ?_
  refine lv_iload_n hx hb dX0_distance_4 rfl (lv_at hl 1 rfl) ?_
  refine ni_ald hx hb hK hP 1 0 rfl rfl (by decide) dX0_distance_5 (by omega) ?_
  refine lv_bipush (v := nI (16)) hx hb dX0_distance_6 (by decide) ?_
  refine lv_icmp_ge (tgt := 20) hx hb dX0_distance_8 (by decide) (fun c_8 => ?_) (fun c_8 => ?_)
  · skip
    refine lv_iconst (v := nI (1)) hx hb dX0_distance_20 (by decide) ?_
    refine lv_istore_n (lv' := [(2, .int (nI (1))), (0, .ref (z 0)), (1, .int (nI (i)))]) hx hb dX0_distance_21 rfl hl (by decide) rfl (fun ls hl => ?_)
    have loop : ∀ (fu : Nat) (d : Nat), i + 1 < d + fu → 1 ≤ d → d ≤ i + 1 → (∀ q, q < d → 1 ≤ q → ¬ tk (i - q) = tk i) → ∀ (H : Heap) (locs : List Loc) (ls : Array Slot), va_P D vwCl (wX z d0 d1 (nI (tl)) (nI (pl)) ((fo)) ((lo)) ((fi)) ((se)) (tk) (bk) (wn) (wb) (fl) (fa) (rp)) H → va_D A (wX z d0 d1 (nI (tl)) (nI (pl)) ((fo)) ((lo)) ((fi)) ((se)) (tk) (bk) (wn) (wb) (fl) (fa) (rp)) → va_S A s.heap H locs → lv_has ls 3 [(2, .int (nI (d))), (0, .ref (z 0)), (1, .int (nI (i)))] → W p l e ({ frames := 0, cells := 0, slots := 0, locals := 0 } : Room) s m ([.ref (z 0), .int (nI (i))] : List Value).toArray below meth c H locs 0 0 (MQ below ((st_I D (tyA d0 d1) (fun r (_ : Unit) => isD tk i r) (fun (_ : Unit) => (wX z d0 d1 (nI (tl)) (nI (pl)) ((fo)) ((lo)) ((fi)) ((se)) (tk) (bk) (wn) (wb) (fl) (fa) (rp)))) A) ([.ref (z 0), .int (nI (i))] : List Value).toArray s 0 0 A) (F0 m 22 ls []) := by
      intro fu
      induction fu with
      | zero => intro d hf h1 h2 hn; exfalso; omega
      | succ fu ihloop =>
        intro d hf h1 h2 hn H locs ls hP hD hS hl
        refine lv_iload_n hx hb dX0_distance_22 rfl (lv_at hl 0 rfl) ?_
        refine lv_iload_n hx hb dX0_distance_23 rfl (lv_at hl 2 rfl) ?_
        refine ni_icmp_gt (tgt := 52) hx hb dX0_distance_24 (by decide) (by omega) (by omega) (fun c_24 => ?_) (fun c_24 => ?_)
        · skip
          refine lv_iconst (v := nI (0)) hx hb dX0_distance_52 (by decide) ?_
          exact st_iret (v := nI (0)) () hx hb hr hlocks hK hP hD hS dX0_distance_53 (Or.inr ⟨Int32.not_lt.mpr c_8, Or.inr ⟨rfl, fun q hq => hn q (by omega)⟩⟩)
        · skip
          refine lv_aload_n hx hb dX0_distance_27 rfl (lv_at hl 1 rfl) ?_
          refine va_get (D := D) (ci := 0) (v := .ref (z 1)) (C := RX0) (T := TX0) (N := 13) hx hb hts in_X0 hown hK hP 0 rfl rfl 1 (by decide) (hts _ q26) (fun _ h9 => h9) rfl dX0_distance_28 ?_
          refine lv_iload_n hx hb dX0_distance_31 rfl (lv_at hl 2 rfl) ?_
          refine lv_iload_n hx hb dX0_distance_32 rfl (lv_at hl 0 rfl) ?_
          refine ni_sub (by omega) hx hb dX0_distance_33 ?_
          refine ni_ald hx hb hK hP 1 0 rfl rfl (by decide) dX0_distance_34 (by omega) ?_
          refine lv_aload_n hx hb dX0_distance_35 rfl (lv_at hl 1 rfl) ?_
          refine va_get (D := D) (ci := 0) (v := .ref (z 1)) (C := RX0) (T := TX0) (N := 13) hx hb hts in_X0 hown hK hP 0 rfl rfl 1 (by decide) (hts _ q26) (fun _ h9 => h9) rfl dX0_distance_36 ?_
          refine lv_iload_n hx hb dX0_distance_39 rfl (lv_at hl 2 rfl) ?_
          refine ni_ald hx hb hK hP 1 0 rfl rfl (by decide) dX0_distance_40 (by omega) ?_
          refine lv_icmp_ne (tgt := 46) hx hb dX0_distance_41 (by decide) (fun c_41 => ?_) (fun c_41 => ?_)
          · skip
            refine lv_iinc (v := nI (d + 1)) (lv' := [(2, .int (nI (d + 1))), (0, .ref (z 0)), (1, .int (nI (i)))]) hx hb dX0_distance_46 hl (k := 0) rfl (ni_inc _) (by decide) rfl (fun ls hl => ?_)
            refine lv_goto (tgt := 22) hx hb dX0_distance_49 (by decide) ?_
            exact ihloop (d + 1) (by omega) (by omega) (by omega) (lt_s hn (fun _ => c_41)) _ _ _ hP hD hS (lv_sub hl [0, 1, 2] rfl)
          · skip
            refine lv_iload_n hx hb dX0_distance_44 rfl (lv_at hl 0 rfl) ?_
            exact st_iret (v := nI (d)) () hx hb hr hlocks hK hP hD hS dX0_distance_45 (Or.inr ⟨Int32.not_lt.mpr c_8, Or.inl ⟨d, h1, c_24, rfl, c_41, hn⟩⟩)
    exact loop (i + 2) 1 (by omega) (by omega) (by omega) (fun q h1 h2 => absurd h1 (by omega)) _ _ _ hP hD hS (lv_sub hl [0, 1, 2] rfl)
  · skip
    refine lv_iconst (v := (-1)) hx hb dX0_distance_11 (by decide) ?_
    refine lv_aload_n hx hb dX0_distance_12 rfl (lv_at hl 0 rfl) ?_
    refine va_get (D := D) (ci := 0) (v := .ref (z 1)) (C := RX0) (T := TX0) (N := 13) hx hb hts in_X0 hown hK hP 0 rfl rfl 1 (by decide) (hts _ q26) (fun _ h9 => h9) rfl dX0_distance_13 ?_
    refine lv_iload_n hx hb dX0_distance_16 rfl (lv_at hl 1 rfl) ?_
    refine ni_ald hx hb hK hP 1 0 rfl rfl (by decide) dX0_distance_17 (by omega) ?_
    refine lv_isub hx hb dX0_distance_18 ?_
    exact st_iret (v := ((-1) - (tk i))) () hx hb hr hlocks hK hP hD hS dX0_distance_19 (Or.inl ⟨Int32.not_le.mp c_8, rfl⟩)

set_option maxHeartbeats 4000000 in
set_option maxRecDepth 100000 in
/-- wantedDistance(i) -/
theorem mX_wantedDistance (l : Launch) (D : va_G) (z : Nat → Nat) (d0 d1 : ClassId) (tl pl : Nat) (fo lo fi se : Int32) (tk bk wn wb fl fa rp : Nat → Int32) (htl : tl ≤ 48) (hpl : pl ≤ 12) (i : Nat) (hi : i < 12) : ct_I l yX0_wantedDistance cX0_wantedDistance 3 (some .int) ({ frames := 0, cells := 0, slots := 0, locals := 0 } : Room) ([.ref (z 0), .int (nI (i))] : List Value) D (tyA d0 d1) (wX z d0 d1 (nI (tl)) (nI (pl)) ((fo)) ((lo)) ((fi)) ((se)) (tk) (bk) (wn) (wb) (fl) (fa) (rp)) (fun r (_ : Unit) => isD wn i r) (fun (_ : Unit) => (wX z d0 d1 (nI (tl)) (nI (pl)) ((fo)) ((lo)) ((fi)) ((se)) (tk) (bk) (wn) (wb) (fl) (fa) (rp))) := by
  intro sz
  refine st_of (QA := (st_I D (tyA d0 d1) (fun r (_ : Unit) => isD wn i r) (fun (_ : Unit) => (wX z d0 d1 (nI (tl)) (nI (pl)) ((fo)) ((lo)) ((fi)) ((se)) (tk) (bk) (wn) (wb) (fl) (fa) (rp))))) (by decide) (Nat.le_of_ble_eq_true rfl) ?_
  intro p e s m below meth c A ls hx hb hr hml hlocks hown hts hname hK hP hD hS hA hl
  have hl : lv_has ls 3 [(0, .ref (z 0)), (1, .int (nI (i)))] := hl
  have hown : s.vm.findClass RX0 = some m.cls := hown
  refine lv_aload_n hx hb dX0_wantedDistance_0 rfl (lv_at hl 0 rfl) ?_
  refine va_get (D := D) (ci := 0) (v := .ref (z 3)) (C := RX0) (T := TX0) (N := 13) hx hb hts in_X0 hown hK hP 0 rfl rfl 4 (by decide) (hts _ q29) (fun _ h9 => h9) rfl dX0_wantedDistance_1 ?_
  refine lv_iload_n hx hb dX0_wantedDistance_4 rfl (lv_at hl 1 rfl) ?_
  refine ni_ald hx hb hK hP 3 0 rfl rfl (by decide) dX0_wantedDistance_5 (by omega) ?_
  refine lv_bipush (v := nI (16)) hx hb dX0_wantedDistance_6 (by decide) ?_
  refine lv_icmp_ge (tgt := 20) hx hb dX0_wantedDistance_8 (by decide) (fun c_8 => ?_) (fun c_8 => ?_)
  · skip
    refine lv_iconst (v := nI (1)) hx hb dX0_wantedDistance_20 (by decide) ?_
    refine lv_istore_n (lv' := [(2, .int (nI (1))), (0, .ref (z 0)), (1, .int (nI (i)))]) hx hb dX0_wantedDistance_21 rfl hl (by decide) rfl (fun ls hl => ?_)
    have loop : ∀ (fu : Nat) (d : Nat), i + 1 < d + fu → 1 ≤ d → d ≤ i + 1 → (∀ q, q < d → 1 ≤ q → ¬ wn (i - q) = wn i) → ∀ (H : Heap) (locs : List Loc) (ls : Array Slot), va_P D vwCl (wX z d0 d1 (nI (tl)) (nI (pl)) ((fo)) ((lo)) ((fi)) ((se)) (tk) (bk) (wn) (wb) (fl) (fa) (rp)) H → va_D A (wX z d0 d1 (nI (tl)) (nI (pl)) ((fo)) ((lo)) ((fi)) ((se)) (tk) (bk) (wn) (wb) (fl) (fa) (rp)) → va_S A s.heap H locs → lv_has ls 3 [(2, .int (nI (d))), (0, .ref (z 0)), (1, .int (nI (i)))] → W p l e ({ frames := 0, cells := 0, slots := 0, locals := 0 } : Room) s m ([.ref (z 0), .int (nI (i))] : List Value).toArray below meth c H locs 0 0 (MQ below ((st_I D (tyA d0 d1) (fun r (_ : Unit) => isD wn i r) (fun (_ : Unit) => (wX z d0 d1 (nI (tl)) (nI (pl)) ((fo)) ((lo)) ((fi)) ((se)) (tk) (bk) (wn) (wb) (fl) (fa) (rp)))) A) ([.ref (z 0), .int (nI (i))] : List Value).toArray s 0 0 A) (F0 m 22 ls []) := by
      intro fu
      induction fu with
      | zero => intro d hf h1 h2 hn; exfalso; omega
      | succ fu ihloop =>
        intro d hf h1 h2 hn H locs ls hP hD hS hl
        refine lv_iload_n hx hb dX0_wantedDistance_22 rfl (lv_at hl 0 rfl) ?_
        refine lv_iload_n hx hb dX0_wantedDistance_23 rfl (lv_at hl 2 rfl) ?_
        refine ni_icmp_gt (tgt := 52) hx hb dX0_wantedDistance_24 (by decide) (by omega) (by omega) (fun c_24 => ?_) (fun c_24 => ?_)
        · skip
          refine lv_iconst (v := nI (0)) hx hb dX0_wantedDistance_52 (by decide) ?_
          exact st_iret (v := nI (0)) () hx hb hr hlocks hK hP hD hS dX0_wantedDistance_53 (Or.inr ⟨Int32.not_lt.mpr c_8, Or.inr ⟨rfl, fun q hq => hn q (by omega)⟩⟩)
        · skip
          refine lv_aload_n hx hb dX0_wantedDistance_27 rfl (lv_at hl 1 rfl) ?_
          refine va_get (D := D) (ci := 0) (v := .ref (z 3)) (C := RX0) (T := TX0) (N := 13) hx hb hts in_X0 hown hK hP 0 rfl rfl 4 (by decide) (hts _ q29) (fun _ h9 => h9) rfl dX0_wantedDistance_28 ?_
          refine lv_iload_n hx hb dX0_wantedDistance_31 rfl (lv_at hl 2 rfl) ?_
          refine lv_iload_n hx hb dX0_wantedDistance_32 rfl (lv_at hl 0 rfl) ?_
          refine ni_sub (by omega) hx hb dX0_wantedDistance_33 ?_
          refine ni_ald hx hb hK hP 3 0 rfl rfl (by decide) dX0_wantedDistance_34 (by omega) ?_
          refine lv_aload_n hx hb dX0_wantedDistance_35 rfl (lv_at hl 1 rfl) ?_
          refine va_get (D := D) (ci := 0) (v := .ref (z 3)) (C := RX0) (T := TX0) (N := 13) hx hb hts in_X0 hown hK hP 0 rfl rfl 4 (by decide) (hts _ q29) (fun _ h9 => h9) rfl dX0_wantedDistance_36 ?_
          refine lv_iload_n hx hb dX0_wantedDistance_39 rfl (lv_at hl 2 rfl) ?_
          refine ni_ald hx hb hK hP 3 0 rfl rfl (by decide) dX0_wantedDistance_40 (by omega) ?_
          refine lv_icmp_ne (tgt := 46) hx hb dX0_wantedDistance_41 (by decide) (fun c_41 => ?_) (fun c_41 => ?_)
          · skip
            refine lv_iinc (v := nI (d + 1)) (lv' := [(2, .int (nI (d + 1))), (0, .ref (z 0)), (1, .int (nI (i)))]) hx hb dX0_wantedDistance_46 hl (k := 0) rfl (ni_inc _) (by decide) rfl (fun ls hl => ?_)
            refine lv_goto (tgt := 22) hx hb dX0_wantedDistance_49 (by decide) ?_
            exact ihloop (d + 1) (by omega) (by omega) (by omega) (lt_s hn (fun _ => c_41)) _ _ _ hP hD hS (lv_sub hl [0, 1, 2] rfl)
          · skip
            refine lv_iload_n hx hb dX0_wantedDistance_44 rfl (lv_at hl 0 rfl) ?_
            exact st_iret (v := nI (d)) () hx hb hr hlocks hK hP hD hS dX0_wantedDistance_45 (Or.inr ⟨Int32.not_lt.mpr c_8, Or.inl ⟨d, h1, c_24, rfl, c_41, hn⟩⟩)
    exact loop (i + 2) 1 (by omega) (by omega) (by omega) (fun q h1 h2 => absurd h1 (by omega)) _ _ _ hP hD hS (lv_sub hl [0, 1, 2] rfl)
  · skip
    refine lv_iconst (v := (-1)) hx hb dX0_wantedDistance_11 (by decide) ?_
    refine lv_aload_n hx hb dX0_wantedDistance_12 rfl (lv_at hl 0 rfl) ?_
    refine va_get (D := D) (ci := 0) (v := .ref (z 3)) (C := RX0) (T := TX0) (N := 13) hx hb hts in_X0 hown hK hP 0 rfl rfl 4 (by decide) (hts _ q29) (fun _ h9 => h9) rfl dX0_wantedDistance_13 ?_
    refine lv_iload_n hx hb dX0_wantedDistance_16 rfl (lv_at hl 1 rfl) ?_
    refine ni_ald hx hb hK hP 3 0 rfl rfl (by decide) dX0_wantedDistance_17 (by omega) ?_
    refine lv_isub hx hb dX0_wantedDistance_18 ?_
    exact st_iret (v := ((-1) - (wn i))) () hx hb hr hlocks hK hP hD hS dX0_wantedDistance_19 (Or.inl ⟨Int32.not_le.mp c_8, rfl⟩)

set_option maxHeartbeats 4000000 in
set_option maxRecDepth 100000 in
/-- text(x) -/
theorem mX_text (l : Launch) (D : va_G) (z : Nat → Nat) (d0 d1 : ClassId) (tl pl : Nat) (fo lo fi se : Int32) (tk bk wn wb fl fa rp : Nat → Int32) (htl : tl ≤ 48) (hpl : pl ≤ 12) (x : Int32) : ct_I l yX0_text cX0_text 2 (some .int) ({ frames := 1, cells := 0, slots := 0, locals := 22 } : Room) ([.ref (z 0), .int (x)] : List Value) D (tyA d0 d1) (wX z d0 d1 (nI (tl)) (nI (pl)) ((fo)) ((lo)) ((fi)) ((se)) (tk) (bk) (wn) (wb) (fl) (fa) (rp)) (fun r (u : Nat × (Nat → Int32) × (Nat → Int32)) => (¬ okQ x ∧ r = -1 ∧ u = (tl, tk, bk)) ∨ (okQ x ∧ tl = 48 ∧ r = -2 ∧ u = (tl, tk, bk)) ∨ (okQ x ∧ tl < 48 ∧ r = nI (tl + 1) ∧ ∃ v, isD (upd tk tl x) tl v ∧ u = (tl + 1, upd tk tl x, upd bk tl v))) (fun (u : Nat × (Nat → Int32) × (Nat → Int32)) => (wX z d0 d1 (nI (u.1)) (nI (pl)) ((fo)) ((lo)) ((fi)) ((se)) (u.2.1) (u.2.2) (wn) (wb) (fl) (fa) (rp))) := by
  intro sz
  refine st_of (QA := (st_I D (tyA d0 d1) (fun r (u : Nat × (Nat → Int32) × (Nat → Int32)) => (¬ okQ x ∧ r = -1 ∧ u = (tl, tk, bk)) ∨ (okQ x ∧ tl = 48 ∧ r = -2 ∧ u = (tl, tk, bk)) ∨ (okQ x ∧ tl < 48 ∧ r = nI (tl + 1) ∧ ∃ v, isD (upd tk tl x) tl v ∧ u = (tl + 1, upd tk tl x, upd bk tl v))) (fun (u : Nat × (Nat → Int32) × (Nat → Int32)) => (wX z d0 d1 (nI (u.1)) (nI (pl)) ((fo)) ((lo)) ((fi)) ((se)) (u.2.1) (u.2.2) (wn) (wb) (fl) (fa) (rp))))) (by decide) (Nat.le_of_ble_eq_true rfl) ?_
  intro p e s m below meth c A ls hx hb hr hml hlocks hown hts hname hK hP hD hS hA hl
  have hl : lv_has ls 2 [(0, .ref (z 0)), (1, .int (x))] := hl
  have hown : s.vm.findClass RX0 = some m.cls := hown
  refine lv_iload_n hx hb dX0_text_0 rfl (lv_at hl 1 rfl) ?_
  refine st_cSi (As := [.int (x)]) (rest := []) 1 ⟨hx, hb, hml, hown, hts⟩ (mX_badToken l D z d0 d1 x) (lw_S q71 q72 q15 q73) (by decide +kernel) ⟨Nat.le_of_ble_eq_true rfl, Nat.le_of_ble_eq_true rfl⟩ rfl rfl ⟨Nat.zero_le _, Nat.zero_le _⟩ hK hP hD hS hA rfl hl.1 rfl (Nat.le_of_ble_eq_true rfl) dX0_text_1 (fun r_1 H locs hq_1 hP hD hS => ?_)
  rcases hq_1 with ⟨rfl, hq_1⟩ | ⟨rfl, hq_1⟩
  · skip
    refine ni_if_eq (tgt := 9) hx hb dX0_text_4 (by decide) (by omega) (fun c_4 => absurd c_4 (by decide)) (fun c_4 => ?_)
    refine lv_iconst (v := (-1)) hx hb dX0_text_7 (by decide) ?_
    exact st_iret (v := (-1)) (tl, tk, bk) hx hb hr hlocks hK hP hD hS dX0_text_8 (Or.inl ⟨hq_1, rfl, rfl⟩)
  · skip
    refine ni_if_eq (tgt := 9) hx hb dX0_text_4 (by decide) (by omega) (fun c_4 => ?_) (fun c_4 => absurd c_4 (by decide))
    refine lv_aload_n hx hb dX0_text_9 rfl (lv_at hl 0 rfl) ?_
    refine va_get (D := D) (ci := 0) (v := .int (nI (tl))) (C := RX0) (T := TX0) (N := 13) hx hb hts in_X0 hown hK hP 0 rfl rfl 0 (by decide) (hts _ q25) (fun _ h9 => h9) rfl dX0_text_10 ?_
    refine lv_bipush (v := nI (48)) hx hb dX0_text_13 (by decide) ?_
    refine ni_icmp_lt (tgt := 21) hx hb dX0_text_15 (by decide) (by omega) (by omega) (fun c_15 => ?_) (fun c_15 => ?_)
    · skip
      refine lv_aload_n hx hb dX0_text_21 rfl (lv_at hl 0 rfl) ?_
      refine va_get (D := D) (ci := 0) (v := .ref (z 1)) (C := RX0) (T := TX0) (N := 13) hx hb hts in_X0 hown hK hP 0 rfl rfl 1 (by decide) (hts _ q26) (fun _ h9 => h9) rfl dX0_text_22 ?_
      refine lv_aload_n hx hb dX0_text_25 rfl (lv_at hl 0 rfl) ?_
      refine va_get (D := D) (ci := 0) (v := .int (nI (tl))) (C := RX0) (T := TX0) (N := 13) hx hb hts in_X0 hown hK hP 0 rfl rfl 0 (by decide) (hts _ q25) (fun _ h9 => h9) rfl dX0_text_26 ?_
      refine lv_iload_n hx hb dX0_text_29 rfl (lv_at hl 1 rfl) ?_
      refine ni_ast (ws2 := (wX z d0 d1 (nI (tl)) (nI (pl)) ((fo)) ((lo)) ((fi)) ((se)) (upd tk tl ((x))) (bk) (wn) (wb) (fl) (fa) (rp))) hx hb hK hP hD hS 1 0 rfl rfl rfl (by decide) dX0_text_30 (by omega) (fun H locs hP hD hS => ?_)
      refine lv_aload_n hx hb dX0_text_31 rfl (lv_at hl 0 rfl) ?_
      refine va_get (D := D) (ci := 0) (v := .ref (z 2)) (C := RX0) (T := TX0) (N := 13) hx hb hts in_X0 hown hK hP 0 rfl rfl 2 (by decide) (hts _ q27) (fun _ h9 => h9) rfl dX0_text_32 ?_
      refine lv_aload_n hx hb dX0_text_35 rfl (lv_at hl 0 rfl) ?_
      refine va_get (D := D) (ci := 0) (v := .int (nI (tl))) (C := RX0) (T := TX0) (N := 13) hx hb hts in_X0 hown hK hP 0 rfl rfl 0 (by decide) (hts _ q25) (fun _ h9 => h9) rfl dX0_text_36 ?_
      refine lv_aload_n hx hb dX0_text_39 rfl (lv_at hl 0 rfl) ?_
      refine lv_aload_n hx hb dX0_text_40 rfl (lv_at hl 0 rfl) ?_
      refine va_get (D := D) (ci := 0) (v := .int (nI (tl))) (C := RX0) (T := TX0) (N := 13) hx hb hts in_X0 hown hK hP 0 rfl rfl 0 (by decide) (hts _ q25) (fun _ h9 => h9) rfl dX0_text_41 ?_
      refine st_cVi0 (ci := 0) (qc := (RX0, TX0, 13)) (As := [.int (nI (tl))]) (rest := [.int (nI (tl)), .ref (z 2)]) 1 ⟨hx, hb, hml, hown, hts⟩ (mX_distance l D z d0 d1 tl pl (fo) (lo) (fi) (se) (upd tk tl ((x))) bk wn wb fl fa rp (by omega) (by omega) tl (by omega)) (lw_V q74 q76 qs0 q15 q77) (by decide +kernel) ⟨Nat.le_of_ble_eq_true rfl, Nat.le_of_ble_eq_true rfl⟩ rfl rfl ⟨Nat.zero_le _, Nat.zero_le _⟩ hK hP hD hS hA rfl rfl rfl hl.1 rfl (Nat.le_of_ble_eq_true rfl) dX0_text_44 (fun r_44 u H locs hq_44 hP hD hS => ?_)
      have hP : va_P D vwCl (wX z d0 d1 (nI (tl)) (nI (pl)) ((fo)) ((lo)) ((fi)) ((se)) (upd tk tl ((x))) (bk) (wn) (wb) (fl) (fa) (rp)) H := hP
      have hD : va_D A (wX z d0 d1 (nI (tl)) (nI (pl)) ((fo)) ((lo)) ((fi)) ((se)) (upd tk tl ((x))) (bk) (wn) (wb) (fl) (fa) (rp)) := hD
      refine ni_ast (ws2 := (wX z d0 d1 (nI (tl)) (nI (pl)) ((fo)) ((lo)) ((fi)) ((se)) (upd tk tl ((x))) (upd bk tl ((r_44))) (wn) (wb) (fl) (fa) (rp))) hx hb hK hP hD hS 2 0 rfl rfl rfl (by decide) dX0_text_47 (by omega) (fun H locs hP hD hS => ?_)
      refine lv_aload_n hx hb dX0_text_48 rfl (lv_at hl 0 rfl) ?_
      refine lv_dup hx hb dX0_text_49 rfl ?_
      refine va_get (D := D) (ci := 0) (v := .int (nI (tl))) (C := RX0) (T := TX0) (N := 13) hx hb hts in_X0 hown hK hP 0 rfl rfl 0 (by decide) (hts _ q25) (fun _ h9 => h9) rfl dX0_text_50 ?_
      refine lv_iconst (v := nI (1)) hx hb dX0_text_53 (by decide) ?_
      refine ni_add hx hb dX0_text_54 ?_
      refine va_put (D := D) (ci := 0) (v := .int (nI (tl + 1))) (ty := .int) (C := RX0) (T := TX0) (N := 13) hx hb hts in_X0 tyX0 tyX0_ok nmX0 hown hK hP hD hS 0 rfl rfl 0 (by decide) (hts _ q25) (fun _ h9 => h9) rfl (by decide +kernel) rfl rfl (Nat.le_of_ble_eq_true rfl) dX0_text_55 (fun H locs hP hD hS => ?_)
      have hP : va_P D vwCl (wX z d0 d1 (nI (tl + 1)) (nI (pl)) ((fo)) ((lo)) ((fi)) ((se)) (upd tk tl ((x))) (upd bk tl ((r_44))) (wn) (wb) (fl) (fa) (rp)) H := hP
      have hD : va_D A (wX z d0 d1 (nI (tl + 1)) (nI (pl)) ((fo)) ((lo)) ((fi)) ((se)) (upd tk tl ((x))) (upd bk tl ((r_44))) (wn) (wb) (fl) (fa) (rp)) := hD
      refine lv_aload_n hx hb dX0_text_58 rfl (lv_at hl 0 rfl) ?_
      refine va_get (D := D) (ci := 0) (v := .int (nI (tl + 1))) (C := RX0) (T := TX0) (N := 13) hx hb hts in_X0 hown hK hP 0 rfl rfl 0 (by decide) (hts _ q25) (fun _ h9 => h9) rfl dX0_text_59 ?_
      exact st_iret (v := nI (tl + 1)) (tl + 1, upd tk tl x, upd bk tl r_44) hx hb hr hlocks hK hP hD hS dX0_text_62 (Or.inr (Or.inr ⟨Classical.not_not.mp hq_1, by omega, rfl, r_44, hq_44, rfl⟩))
    · skip
      refine lv_bipush (v := (-2)) hx hb dX0_text_18 (by decide) ?_
      exact st_iret (v := (-2)) (tl, tk, bk) hx hb hr hlocks hK hP hD hS dX0_text_20 (Or.inr (Or.inl ⟨Classical.not_not.mp hq_1, by omega, rfl, rfl⟩))

set_option maxHeartbeats 4000000 in
set_option maxRecDepth 100000 in
/-- change(x, y) -/
theorem mX_change (l : Launch) (D : va_G) (z : Nat → Nat) (d0 d1 : ClassId) (tl pl : Nat) (fo lo fi se : Int32) (tk bk wn wb fl fa rp : Nat → Int32) (htl : tl ≤ 48) (hpl : pl ≤ 12) (x y : Int32) : ct_I l yX0_change cX0_change 5 (some .int) ({ frames := 1, cells := 0, slots := 0, locals := 22 } : Room) ([.ref (z 0), .int (x), .int (y)] : List Value) D (tyA d0 d1) (wX z d0 d1 (nI (tl)) (nI (pl)) ((fo)) ((lo)) ((fi)) ((se)) (tk) (bk) (wn) (wb) (fl) (fa) (rp)) (fun r (u : (Nat → Int32) × (Nat → Int32)) => (¬ inQ tl x ∧ r = -3 ∧ u = (tk, bk)) ∨ (inQ tl x ∧ ¬ okQ y ∧ r = -1 ∧ u = (tk, bk)) ∨ (okQ y ∧ ∃ i, i < tl ∧ x = nI i ∧ r = tk i ∧ u.1 = upd tk i y ∧ (∀ q, q < i → u.2 q = bk q) ∧ (∀ q, q < tl → i ≤ q → isD (upd tk i y) q (u.2 q)))) (fun (u : (Nat → Int32) × (Nat → Int32)) => (wX z d0 d1 (nI (tl)) (nI (pl)) ((fo)) ((lo)) ((fi)) ((se)) (u.1) (u.2) (wn) (wb) (fl) (fa) (rp))) := by
  intro sz
  refine st_of (QA := (st_I D (tyA d0 d1) (fun r (u : (Nat → Int32) × (Nat → Int32)) => (¬ inQ tl x ∧ r = -3 ∧ u = (tk, bk)) ∨ (inQ tl x ∧ ¬ okQ y ∧ r = -1 ∧ u = (tk, bk)) ∨ (okQ y ∧ ∃ i, i < tl ∧ x = nI i ∧ r = tk i ∧ u.1 = upd tk i y ∧ (∀ q, q < i → u.2 q = bk q) ∧ (∀ q, q < tl → i ≤ q → isD (upd tk i y) q (u.2 q)))) (fun (u : (Nat → Int32) × (Nat → Int32)) => (wX z d0 d1 (nI (tl)) (nI (pl)) ((fo)) ((lo)) ((fi)) ((se)) (u.1) (u.2) (wn) (wb) (fl) (fa) (rp))))) (by decide) (Nat.le_of_ble_eq_true rfl) ?_
  intro p e s m below meth c A ls hx hb hr hml hlocks hown hts hname hK hP hD hS hA hl
  have hl : lv_has ls 5 [(0, .ref (z 0)), (1, .int (x)), (2, .int (y))] := hl
  have hown : s.vm.findClass RX0 = some m.cls := hown
  refine lv_iload_n hx hb dX0_change_0 rfl (lv_at hl 1 rfl) ?_
  refine lv_if_lt (tgt := 12) hx hb dX0_change_1 (by decide) (fun c_1 => ?_) (fun c_1 => ?_)
  · skip
    refine lv_bipush (v := (-3)) hx hb dX0_change_12 (by decide) ?_
    exact st_iret (v := (-3)) (tk, bk) hx hb hr hlocks hK hP hD hS dX0_change_14 (Or.inl ⟨fun h => h.1 c_1, rfl, rfl⟩)
  · skip
    refine lv_iload_n hx hb dX0_change_4 rfl (lv_at hl 1 rfl) ?_
    refine lv_aload_n hx hb dX0_change_5 rfl (lv_at hl 0 rfl) ?_
    refine va_get (D := D) (ci := 0) (v := .int (nI (tl))) (C := RX0) (T := TX0) (N := 13) hx hb hts in_X0 hown hK hP 0 rfl rfl 0 (by decide) (hts _ q25) (fun _ h9 => h9) rfl dX0_change_6 ?_
    refine lv_icmp_lt (tgt := 15) hx hb dX0_change_9 (by decide) (fun c_9 => ?_) (fun c_9 => ?_)
    · skip
      have hinx : inQ tl x := ⟨c_1, c_9⟩
      obtain ⟨i1, hi, rfl⟩ := in_of (by omega) hinx
      refine lv_iload_n hx hb dX0_change_15 rfl (lv_at hl 2 rfl) ?_
      refine st_cSi (As := [.int (y)]) (rest := []) 1 ⟨hx, hb, hml, hown, hts⟩ (mX_badToken l D z d0 d1 y) (lw_S q71 q72 q15 q73) (by decide +kernel) ⟨Nat.le_of_ble_eq_true rfl, Nat.le_of_ble_eq_true rfl⟩ rfl rfl ⟨Nat.zero_le _, Nat.zero_le _⟩ hK hP hD hS hA rfl hl.1 rfl (Nat.le_of_ble_eq_true rfl) dX0_change_16 (fun r_16 H locs hq_16 hP hD hS => ?_)
      rcases hq_16 with ⟨rfl, hq_16⟩ | ⟨rfl, hq_16⟩
      · skip
        refine ni_if_eq (tgt := 24) hx hb dX0_change_19 (by decide) (by omega) (fun c_19 => absurd c_19 (by decide)) (fun c_19 => ?_)
        refine lv_iconst (v := (-1)) hx hb dX0_change_22 (by decide) ?_
        exact st_iret (v := (-1)) (tk, bk) hx hb hr hlocks hK hP hD hS dX0_change_23 (Or.inr (Or.inl ⟨hinx, hq_16, rfl, rfl⟩))
      · skip
        refine ni_if_eq (tgt := 24) hx hb dX0_change_19 (by decide) (by omega) (fun c_19 => ?_) (fun c_19 => absurd c_19 (by decide))
        refine lv_aload_n hx hb dX0_change_24 rfl (lv_at hl 0 rfl) ?_
        refine va_get (D := D) (ci := 0) (v := .ref (z 1)) (C := RX0) (T := TX0) (N := 13) hx hb hts in_X0 hown hK hP 0 rfl rfl 1 (by decide) (hts _ q26) (fun _ h9 => h9) rfl dX0_change_25 ?_
        refine lv_iload_n hx hb dX0_change_28 rfl (lv_at hl 1 rfl) ?_
        refine ni_ald hx hb hK hP 1 0 rfl rfl (by decide) dX0_change_29 (by omega) ?_
        refine lv_istore_n (lv' := [(3, .int (tk i1)), (0, .ref (z 0)), (1, .int (nI (i1))), (2, .int (y))]) hx hb dX0_change_30 rfl hl (by decide) rfl (fun ls hl => ?_)
        refine lv_aload_n hx hb dX0_change_31 rfl (lv_at hl 1 rfl) ?_
        refine va_get (D := D) (ci := 0) (v := .ref (z 1)) (C := RX0) (T := TX0) (N := 13) hx hb hts in_X0 hown hK hP 0 rfl rfl 1 (by decide) (hts _ q26) (fun _ h9 => h9) rfl dX0_change_32 ?_
        refine lv_iload_n hx hb dX0_change_35 rfl (lv_at hl 2 rfl) ?_
        refine lv_iload_n hx hb dX0_change_36 rfl (lv_at hl 3 rfl) ?_
        refine ni_ast (ws2 := (wX z d0 d1 (nI (tl)) (nI (pl)) ((fo)) ((lo)) ((fi)) ((se)) (upd tk i1 ((y))) (bk) (wn) (wb) (fl) (fa) (rp))) hx hb hK hP hD hS 1 0 rfl rfl rfl (by decide) dX0_change_37 (by omega) (fun H locs hP hD hS => ?_)
        refine lv_iload_n hx hb dX0_change_38 rfl (lv_at hl 2 rfl) ?_
        refine lv_istore (lv' := [(4, .int (nI (i1))), (3, .int (tk i1)), (0, .ref (z 0)), (1, .int (nI (i1))), (2, .int (y))]) hx hb dX0_change_39 hl (by decide) rfl (fun ls hl => ?_)
        have loop : ∀ (fu : Nat) (j : Nat) (b2 : (Nat → Int32)), tl < j + fu → j ≤ tl → i1 ≤ j → (∀ q, q < i1 → b2 q = bk q) → (∀ q, q < j → i1 ≤ q → isD (upd tk i1 y) q (b2 q)) → ∀ (H : Heap) (locs : List Loc) (ls : Array Slot), va_P D vwCl (wX z d0 d1 (nI (tl)) (nI (pl)) ((fo)) ((lo)) ((fi)) ((se)) (upd tk i1 y) (b2) (wn) (wb) (fl) (fa) (rp)) H → va_D A (wX z d0 d1 (nI (tl)) (nI (pl)) ((fo)) ((lo)) ((fi)) ((se)) (upd tk i1 y) (b2) (wn) (wb) (fl) (fa) (rp)) → va_S A s.heap H locs → lv_has ls 5 [(4, .int (nI (j))), (3, .int (tk i1)), (0, .ref (z 0)), (1, .int (nI (i1))), (2, .int (y))] → W p l e ({ frames := 1, cells := 0, slots := 0, locals := 22 } : Room) s m ([.ref (z 0), .int (nI (i1)), .int (y)] : List Value).toArray below meth c H locs 0 0 (MQ below ((st_I D (tyA d0 d1) (fun r (u : (Nat → Int32) × (Nat → Int32)) => (¬ inQ tl (nI (i1)) ∧ r = -3 ∧ u = (tk, bk)) ∨ (inQ tl (nI (i1)) ∧ ¬ okQ y ∧ r = -1 ∧ u = (tk, bk)) ∨ (okQ y ∧ ∃ i, i < tl ∧ (nI (i1)) = nI i ∧ r = tk i ∧ u.1 = upd tk i y ∧ (∀ q, q < i → u.2 q = bk q) ∧ (∀ q, q < tl → i ≤ q → isD (upd tk i y) q (u.2 q)))) (fun (u : (Nat → Int32) × (Nat → Int32)) => (wX z d0 d1 (nI (tl)) (nI (pl)) ((fo)) ((lo)) ((fi)) ((se)) (u.1) (u.2) (wn) (wb) (fl) (fa) (rp)))) A) ([.ref (z 0), .int (nI (i1)), .int (y)] : List Value).toArray s 0 0 A) (F0 m 41 ls []) := by
          intro fu
          induction fu with
          | zero => intro j b2 hf hj hij h1 h2; exfalso; omega
          | succ fu ihloop =>
            intro j b2 hf hj hij h1 h2 H locs ls hP hD hS hl
            refine lv_iload hx hb dX0_change_41 (lv_at hl 0 rfl) ?_
            refine lv_aload_n hx hb dX0_change_43 rfl (lv_at hl 2 rfl) ?_
            refine va_get (D := D) (ci := 0) (v := .int (nI (tl))) (C := RX0) (T := TX0) (N := 13) hx hb hts in_X0 hown hK hP 0 rfl rfl 0 (by decide) (hts _ q25) (fun _ h9 => h9) rfl dX0_change_44 ?_
            refine ni_icmp_ge (tgt := 69) hx hb dX0_change_47 (by decide) (by omega) (by omega) (fun c_47 => ?_) (fun c_47 => ?_)
            · skip
              refine lv_iload_n hx hb dX0_change_69 rfl (lv_at hl 1 rfl) ?_
              exact st_iret (v := (tk i1)) (upd tk i1 y, b2) hx hb hr hlocks hK hP hD hS dX0_change_70 (Or.inr (Or.inr ⟨Classical.not_not.mp hq_16, i1, hi, rfl, rfl, rfl, h1, fun q hq hq2 => h2 q (by omega) hq2⟩))
            · skip
              refine lv_aload_n hx hb dX0_change_50 rfl (lv_at hl 2 rfl) ?_
              refine va_get (D := D) (ci := 0) (v := .ref (z 2)) (C := RX0) (T := TX0) (N := 13) hx hb hts in_X0 hown hK hP 0 rfl rfl 2 (by decide) (hts _ q27) (fun _ h9 => h9) rfl dX0_change_51 ?_
              refine lv_iload hx hb dX0_change_54 (lv_at hl 0 rfl) ?_
              refine lv_aload_n hx hb dX0_change_56 rfl (lv_at hl 2 rfl) ?_
              refine lv_iload hx hb dX0_change_57 (lv_at hl 0 rfl) ?_
              refine st_cVi0 (ci := 0) (qc := (RX0, TX0, 13)) (As := [.int (nI (j))]) (rest := [.int (nI (j)), .ref (z 2)]) 1 ⟨hx, hb, hml, hown, hts⟩ (mX_distance l D z d0 d1 tl pl (fo) (lo) (fi) (se) (upd tk i1 y) b2 wn wb fl fa rp (by omega) (by omega) j (by omega)) (lw_V q74 q76 qs0 q15 q77) (by decide +kernel) ⟨Nat.le_of_ble_eq_true rfl, Nat.le_of_ble_eq_true rfl⟩ rfl rfl ⟨Nat.zero_le _, Nat.zero_le _⟩ hK hP hD hS hA rfl rfl rfl hl.1 rfl (Nat.le_of_ble_eq_true rfl) dX0_change_59 (fun r_59 u H locs hq_59 hP hD hS => ?_)
              have hP : va_P D vwCl (wX z d0 d1 (nI (tl)) (nI (pl)) ((fo)) ((lo)) ((fi)) ((se)) (upd tk i1 y) (b2) (wn) (wb) (fl) (fa) (rp)) H := hP
              have hD : va_D A (wX z d0 d1 (nI (tl)) (nI (pl)) ((fo)) ((lo)) ((fi)) ((se)) (upd tk i1 y) (b2) (wn) (wb) (fl) (fa) (rp)) := hD
              refine ni_ast (ws2 := (wX z d0 d1 (nI (tl)) (nI (pl)) ((fo)) ((lo)) ((fi)) ((se)) (upd tk i1 y) (upd b2 j ((r_59))) (wn) (wb) (fl) (fa) (rp))) hx hb hK hP hD hS 2 0 rfl rfl rfl (by decide) dX0_change_62 (by omega) (fun H locs hP hD hS => ?_)
              refine lv_iinc (v := nI (j + 1)) (lv' := [(4, .int (nI (j + 1))), (3, .int (tk i1)), (0, .ref (z 0)), (1, .int (nI (i1))), (2, .int (y))]) hx hb dX0_change_63 hl (k := 0) rfl (ni_inc _) (by decide) rfl (fun ls hl => ?_)
              refine lv_goto (tgt := 41) hx hb dX0_change_66 (by decide) ?_
              exact ihloop (j + 1) _ (by omega) (by omega) (by omega) (fun q hq => (pk_un (by omega)).trans (h1 q hq)) (lt_s (fun q hq hq2 => by rw [pk_un (by omega)]; exact h2 q hq hq2) (fun _ => by rw [pk_us]; exact hq_59)) _ _ _ hP hD hS (lv_sub hl [0, 1, 2, 3, 4] rfl)
        exact loop (tl + 1) i1 bk (by omega) (by omega) (by omega) (fun _ _ => rfl) (fun q h1 h2 => absurd h1 (by omega)) _ _ _ hP hD hS (lv_sub hl [0, 1, 2, 3, 4] rfl)
    · skip
      refine lv_bipush (v := (-3)) hx hb dX0_change_12 (by decide) ?_
      exact st_iret (v := (-3)) (tk, bk) hx hb hr hlocks hK hP hD hS dX0_change_14 (Or.inl ⟨fun h => c_9 h.2, rfl, rfl⟩)

set_option maxHeartbeats 4000000 in
set_option maxRecDepth 100000 in
/-- extendFailure(j) -/
theorem mX_extendFailure (l : Launch) (D : va_G) (z : Nat → Nat) (d0 d1 : ClassId) (tl pl : Nat) (fo lo fi se : Int32) (tk bk wn wb fl fa rp : Nat → Int32) (htl : tl ≤ 48) (hpl : pl ≤ 12) (j : Nat) (hj : j < 12) (hw : ∀ q, q < j + 1 → wi (wb q) q = wb q) (hF : ∀ q, q < j → isF wb q (fl q)) : ct_V l yX0_extendFailure cX0_extendFailure 3 none ({ frames := 1, cells := 0, slots := 0, locals := 21 } : Room) ([.ref (z 0), .int (nI (j))] : List Value) D (tyA d0 d1) (wX z d0 d1 (nI (tl)) (nI (pl)) ((fo)) ((lo)) ((fi)) ((se)) (tk) (bk) (wn) (wb) (fl) (fa) (rp)) (fun (u : (Nat → Int32)) => (∀ q, q < j → u q = fl q) ∧ isF wb j (u j)) (fun (u : (Nat → Int32)) => (wX z d0 d1 (nI (tl)) (nI (pl)) ((fo)) ((lo)) ((fi)) ((se)) (tk) (bk) (wn) (wb) (u) (fa) (rp))) := by
  intro sz
  refine st_of (QA := (st_V D (tyA d0 d1) (fun (u : (Nat → Int32)) => (∀ q, q < j → u q = fl q) ∧ isF wb j (u j)) (fun (u : (Nat → Int32)) => (wX z d0 d1 (nI (tl)) (nI (pl)) ((fo)) ((lo)) ((fi)) ((se)) (tk) (bk) (wn) (wb) (u) (fa) (rp))))) (by decide) (Nat.le_of_ble_eq_true rfl) ?_
  intro p e s m below meth c A ls hx hb hr hml hlocks hown hts hname hK hP hD hS hA hl
  have hl : lv_has ls 3 [(0, .ref (z 0)), (1, .int (nI (j)))] := hl
  have hown : s.vm.findClass RX0 = some m.cls := hown
  have hG : ∀ q, 0 < q → q ≤ j → ∃ k, (upd fl j (nI 0)) (q - 1) = nI k ∧ bd wb q k ∧ ∀ y, bd wb q y → y ≤ k := fun q h1 h2 => by
    have h3 := hF (q - 1) (by omega)
    unfold isF at h3
    rw [Nat.sub_add_cancel h1] at h3
    rw [pk_un (by omega)]
    exact h3
  refine lv_aload_n hx hb dX0_extendFailure_0 rfl (lv_at hl 0 rfl) ?_
  refine va_get (D := D) (ci := 0) (v := .ref (z 5)) (C := RX0) (T := TX0) (N := 13) hx hb hts in_X0 hown hK hP 0 rfl rfl 6 (by decide) (hts _ q31) (fun _ h9 => h9) rfl dX0_extendFailure_1 ?_
  refine lv_iload_n hx hb dX0_extendFailure_4 rfl (lv_at hl 1 rfl) ?_
  refine lv_iconst (v := nI (0)) hx hb dX0_extendFailure_5 (by decide) ?_
  refine ni_ast (ws2 := (wX z d0 d1 (nI (tl)) (nI (pl)) ((fo)) ((lo)) ((fi)) ((se)) (tk) (bk) (wn) (wb) (upd fl j (nI (0))) (fa) (rp))) hx hb hK hP hD hS 5 0 rfl rfl rfl (by decide) dX0_extendFailure_6 (by omega) (fun H locs hP hD hS => ?_)
  refine lv_iload_n hx hb dX0_extendFailure_7 rfl (lv_at hl 1 rfl) ?_
  refine ni_if_ne (tgt := 12) hx hb dX0_extendFailure_8 (by decide) (by omega) (fun c_8 => ?_) (fun c_8 => ?_)
  · skip
    refine lv_aload_n hx hb dX0_extendFailure_12 rfl (lv_at hl 0 rfl) ?_
    refine va_get (D := D) (ci := 0) (v := .ref (z 5)) (C := RX0) (T := TX0) (N := 13) hx hb hts in_X0 hown hK hP 0 rfl rfl 6 (by decide) (hts _ q31) (fun _ h9 => h9) rfl dX0_extendFailure_13 ?_
    refine lv_iload_n hx hb dX0_extendFailure_16 rfl (lv_at hl 1 rfl) ?_
    refine lv_iconst (v := nI (1)) hx hb dX0_extendFailure_17 (by decide) ?_
    refine ni_sub (by omega) hx hb dX0_extendFailure_18 ?_
    refine ni_ald hx hb hK hP 5 0 rfl rfl (by decide) dX0_extendFailure_19 (by omega) ?_
    obtain ⟨k0, hk0, hk1, hk2⟩ := hG j c_8 (Nat.le_refl _)
    refine st_topi hk0 ?_
    refine lv_istore_n (lv' := [(2, .int (nI (k0))), (0, .ref (z 0)), (1, .int (nI (j)))]) hx hb dX0_extendFailure_20 rfl hl (by decide) rfl (fun ls hl => ?_)
    have loop : ∀ (fu : Nat) (k : Nat), k < fu → kI wb wb j j k → ∀ (H : Heap) (locs : List Loc) (ls : Array Slot), va_P D vwCl (wX z d0 d1 (nI (tl)) (nI (pl)) ((fo)) ((lo)) ((fi)) ((se)) (tk) (bk) (wn) (wb) (upd fl j (nI (0))) (fa) (rp)) H → va_D A (wX z d0 d1 (nI (tl)) (nI (pl)) ((fo)) ((lo)) ((fi)) ((se)) (tk) (bk) (wn) (wb) (upd fl j (nI (0))) (fa) (rp)) → va_S A s.heap H locs → lv_has ls 3 [(2, .int (nI (k))), (0, .ref (z 0)), (1, .int (nI (j)))] → W p l e ({ frames := 1, cells := 0, slots := 0, locals := 21 } : Room) s m ([.ref (z 0), .int (nI (j))] : List Value).toArray below meth c H locs 0 0 (MQ below ((st_V D (tyA d0 d1) (fun (u : (Nat → Int32)) => (∀ q, q < j → u q = fl q) ∧ isF wb j (u j)) (fun (u : (Nat → Int32)) => (wX z d0 d1 (nI (tl)) (nI (pl)) ((fo)) ((lo)) ((fi)) ((se)) (tk) (bk) (wn) (wb) (u) (fa) (rp)))) A) ([.ref (z 0), .int (nI (j))] : List Value).toArray s 0 0 A) (F0 m 21 ls []) := by
      intro fu
      induction fu with
      | zero => intro k hf hk; exfalso; omega
      | succ fu ihloop =>
        intro k hf hk H locs ls hP hD hS hl
        have hkj := hk.1
        refine lv_iload_n hx hb dX0_extendFailure_21 rfl (lv_at hl 0 rfl) ?_
        refine ni_if_le (tgt := 56) hx hb dX0_extendFailure_22 (by decide) (by omega) (fun c_22 => ?_) (fun c_22 => ?_)
        · skip
          refine lv_aload_n hx hb dX0_extendFailure_56 rfl (lv_at hl 1 rfl) ?_
          refine va_get (D := D) (ci := 0) (v := .ref (z 4)) (C := RX0) (T := TX0) (N := 13) hx hb hts in_X0 hown hK hP 0 rfl rfl 5 (by decide) (hts _ q30) (fun _ h9 => h9) rfl dX0_extendFailure_57 ?_
          refine lv_iload_n hx hb dX0_extendFailure_60 rfl (lv_at hl 2 rfl) ?_
          refine ni_ald hx hb hK hP 4 0 rfl rfl (by decide) dX0_extendFailure_61 (by omega) ?_
          refine lv_iload_n hx hb dX0_extendFailure_62 rfl (lv_at hl 0 rfl) ?_
          refine st_cSi (As := [.int (wb j), .int (nI (k))]) (rest := []) 2 ⟨hx, hb, hml, hown, hts⟩ (mX_within l D z d0 d1 (wb j) k) (lw_S q94 q95 q15 q96) (by decide +kernel) ⟨Nat.le_of_ble_eq_true rfl, Nat.le_of_ble_eq_true rfl⟩ rfl rfl ⟨Nat.zero_le _, Nat.zero_le _⟩ hK hP hD hS hA rfl hl.1 rfl (Nat.le_of_ble_eq_true rfl) dX0_extendFailure_63 (fun r_63 H locs hq_63 hP hD hS => ?_)
          refine lv_aload_n hx hb dX0_extendFailure_66 rfl (lv_at hl 1 rfl) ?_
          refine va_get (D := D) (ci := 0) (v := .ref (z 4)) (C := RX0) (T := TX0) (N := 13) hx hb hts in_X0 hown hK hP 0 rfl rfl 5 (by decide) (hts _ q30) (fun _ h9 => h9) rfl dX0_extendFailure_67 ?_
          refine lv_iload_n hx hb dX0_extendFailure_70 rfl (lv_at hl 0 rfl) ?_
          refine ni_ald hx hb hK hP 4 0 rfl rfl (by decide) dX0_extendFailure_71 (by omega) ?_
          refine lv_icmp_ne (tgt := 78) hx hb dX0_extendFailure_72 (by decide) (fun c_72 => ?_) (fun c_72 => ?_)
          · skip
            refine lv_aload_n hx hb dX0_extendFailure_78 rfl (lv_at hl 1 rfl) ?_
            refine va_get (D := D) (ci := 0) (v := .ref (z 5)) (C := RX0) (T := TX0) (N := 13) hx hb hts in_X0 hown hK hP 0 rfl rfl 6 (by decide) (hts _ q31) (fun _ h9 => h9) rfl dX0_extendFailure_79 ?_
            refine lv_iload_n hx hb dX0_extendFailure_82 rfl (lv_at hl 2 rfl) ?_
            refine lv_iload_n hx hb dX0_extendFailure_83 rfl (lv_at hl 0 rfl) ?_
            refine ni_ast (ws2 := (wX z d0 d1 (nI (tl)) (nI (pl)) ((fo)) ((lo)) ((fi)) ((se)) (tk) (bk) (wn) (wb) (upd (upd fl j (nI (0))) j (nI (k))) (fa) (rp))) hx hb hK hP hD hS 5 0 rfl rfl rfl (by decide) dX0_extendFailure_84 (by omega) (fun H locs hP hD hS => ?_)
            exact st_vret (upd (upd fl j (nI (0))) j (nI (k))) hx hb hr hlocks hK hP hD hS dX0_extendFailure_85 ⟨fun q hq => (pk_un (by omega)).trans (pk_un (by omega)), by rw [pk_us]; have h0 := c_22; subst h0; exact isF_none hk (fun h => c_72 (hq_63.trans h)) (hw 0 (by omega))⟩
          · skip
            refine lv_iinc (v := nI (k + 1)) (lv' := [(2, .int (nI (k + 1))), (0, .ref (z 0)), (1, .int (nI (j)))]) hx hb dX0_extendFailure_75 hl (k := 0) rfl (ni_inc _) (by decide) rfl (fun ls hl => ?_)
            refine lv_aload_n hx hb dX0_extendFailure_78 rfl (lv_at hl 1 rfl) ?_
            refine va_get (D := D) (ci := 0) (v := .ref (z 5)) (C := RX0) (T := TX0) (N := 13) hx hb hts in_X0 hown hK hP 0 rfl rfl 6 (by decide) (hts _ q31) (fun _ h9 => h9) rfl dX0_extendFailure_79 ?_
            refine lv_iload_n hx hb dX0_extendFailure_82 rfl (lv_at hl 2 rfl) ?_
            refine lv_iload_n hx hb dX0_extendFailure_83 rfl (lv_at hl 0 rfl) ?_
            refine ni_ast (ws2 := (wX z d0 d1 (nI (tl)) (nI (pl)) ((fo)) ((lo)) ((fi)) ((se)) (tk) (bk) (wn) (wb) (upd (upd fl j (nI (0))) j (nI (k + 1))) (fa) (rp))) hx hb hK hP hD hS 5 0 rfl rfl rfl (by decide) dX0_extendFailure_84 (by omega) (fun H locs hP hD hS => ?_)
            exact st_vret (upd (upd fl j (nI (0))) j (nI (k + 1))) hx hb hr hlocks hK hP hD hS dX0_extendFailure_85 ⟨fun q hq => (pk_un (by omega)).trans (pk_un (by omega)), by rw [pk_us]; exact isF_found hk (hq_63.symm.trans c_72) (hw k (by omega))⟩
        · skip
          refine lv_aload_n hx hb dX0_extendFailure_25 rfl (lv_at hl 1 rfl) ?_
          refine va_get (D := D) (ci := 0) (v := .ref (z 4)) (C := RX0) (T := TX0) (N := 13) hx hb hts in_X0 hown hK hP 0 rfl rfl 5 (by decide) (hts _ q30) (fun _ h9 => h9) rfl dX0_extendFailure_26 ?_
          refine lv_iload_n hx hb dX0_extendFailure_29 rfl (lv_at hl 2 rfl) ?_
          refine ni_ald hx hb hK hP 4 0 rfl rfl (by decide) dX0_extendFailure_30 (by omega) ?_
          refine lv_iload_n hx hb dX0_extendFailure_31 rfl (lv_at hl 0 rfl) ?_
          refine st_cSi (As := [.int (wb j), .int (nI (k))]) (rest := []) 2 ⟨hx, hb, hml, hown, hts⟩ (mX_within l D z d0 d1 (wb j) k) (lw_S q94 q95 q15 q96) (by decide +kernel) ⟨Nat.le_of_ble_eq_true rfl, Nat.le_of_ble_eq_true rfl⟩ rfl rfl ⟨Nat.zero_le _, Nat.zero_le _⟩ hK hP hD hS hA rfl hl.1 rfl (Nat.le_of_ble_eq_true rfl) dX0_extendFailure_32 (fun r_32 H locs hq_32 hP hD hS => ?_)
          refine lv_aload_n hx hb dX0_extendFailure_35 rfl (lv_at hl 1 rfl) ?_
          refine va_get (D := D) (ci := 0) (v := .ref (z 4)) (C := RX0) (T := TX0) (N := 13) hx hb hts in_X0 hown hK hP 0 rfl rfl 5 (by decide) (hts _ q30) (fun _ h9 => h9) rfl dX0_extendFailure_36 ?_
          refine lv_iload_n hx hb dX0_extendFailure_39 rfl (lv_at hl 0 rfl) ?_
          refine ni_ald hx hb hK hP 4 0 rfl rfl (by decide) dX0_extendFailure_40 (by omega) ?_
          refine lv_icmp_eq (tgt := 56) hx hb dX0_extendFailure_41 (by decide) (fun c_41 => ?_) (fun c_41 => ?_)
          · skip
            refine lv_aload_n hx hb dX0_extendFailure_56 rfl (lv_at hl 1 rfl) ?_
            refine va_get (D := D) (ci := 0) (v := .ref (z 4)) (C := RX0) (T := TX0) (N := 13) hx hb hts in_X0 hown hK hP 0 rfl rfl 5 (by decide) (hts _ q30) (fun _ h9 => h9) rfl dX0_extendFailure_57 ?_
            refine lv_iload_n hx hb dX0_extendFailure_60 rfl (lv_at hl 2 rfl) ?_
            refine ni_ald hx hb hK hP 4 0 rfl rfl (by decide) dX0_extendFailure_61 (by omega) ?_
            refine lv_iload_n hx hb dX0_extendFailure_62 rfl (lv_at hl 0 rfl) ?_
            refine st_cSi (As := [.int (wb j), .int (nI (k))]) (rest := []) 2 ⟨hx, hb, hml, hown, hts⟩ (mX_within l D z d0 d1 (wb j) k) (lw_S q94 q95 q15 q96) (by decide +kernel) ⟨Nat.le_of_ble_eq_true rfl, Nat.le_of_ble_eq_true rfl⟩ rfl rfl ⟨Nat.zero_le _, Nat.zero_le _⟩ hK hP hD hS hA rfl hl.1 rfl (Nat.le_of_ble_eq_true rfl) dX0_extendFailure_63 (fun r_63 H locs hq_63 hP hD hS => ?_)
            refine lv_aload_n hx hb dX0_extendFailure_66 rfl (lv_at hl 1 rfl) ?_
            refine va_get (D := D) (ci := 0) (v := .ref (z 4)) (C := RX0) (T := TX0) (N := 13) hx hb hts in_X0 hown hK hP 0 rfl rfl 5 (by decide) (hts _ q30) (fun _ h9 => h9) rfl dX0_extendFailure_67 ?_
            refine lv_iload_n hx hb dX0_extendFailure_70 rfl (lv_at hl 0 rfl) ?_
            refine ni_ald hx hb hK hP 4 0 rfl rfl (by decide) dX0_extendFailure_71 (by omega) ?_
            refine lv_icmp_ne (tgt := 78) hx hb dX0_extendFailure_72 (by decide) (fun c_72 => absurd c_72 (fun h => h (by rw [hq_63, ← hq_32]; exact c_41))) (fun c_72 => ?_)
            refine lv_iinc (v := nI (k + 1)) (lv' := [(2, .int (nI (k + 1))), (0, .ref (z 0)), (1, .int (nI (j)))]) hx hb dX0_extendFailure_75 hl (k := 0) rfl (ni_inc _) (by decide) rfl (fun ls hl => ?_)
            refine lv_aload_n hx hb dX0_extendFailure_78 rfl (lv_at hl 1 rfl) ?_
            refine va_get (D := D) (ci := 0) (v := .ref (z 5)) (C := RX0) (T := TX0) (N := 13) hx hb hts in_X0 hown hK hP 0 rfl rfl 6 (by decide) (hts _ q31) (fun _ h9 => h9) rfl dX0_extendFailure_79 ?_
            refine lv_iload_n hx hb dX0_extendFailure_82 rfl (lv_at hl 2 rfl) ?_
            refine lv_iload_n hx hb dX0_extendFailure_83 rfl (lv_at hl 0 rfl) ?_
            refine ni_ast (ws2 := (wX z d0 d1 (nI (tl)) (nI (pl)) ((fo)) ((lo)) ((fi)) ((se)) (tk) (bk) (wn) (wb) (upd (upd fl j (nI (0))) j (nI (k + 1))) (fa) (rp))) hx hb hK hP hD hS 5 0 rfl rfl rfl (by decide) dX0_extendFailure_84 (by omega) (fun H locs hP hD hS => ?_)
            exact st_vret (upd (upd fl j (nI (0))) j (nI (k + 1))) hx hb hr hlocks hK hP hD hS dX0_extendFailure_85 ⟨fun q hq => (pk_un (by omega)).trans (pk_un (by omega)), by rw [pk_us]; exact isF_found hk (hq_63.symm.trans c_72) (hw k (by omega))⟩
          · skip
            refine lv_aload_n hx hb dX0_extendFailure_44 rfl (lv_at hl 1 rfl) ?_
            refine va_get (D := D) (ci := 0) (v := .ref (z 5)) (C := RX0) (T := TX0) (N := 13) hx hb hts in_X0 hown hK hP 0 rfl rfl 6 (by decide) (hts _ q31) (fun _ h9 => h9) rfl dX0_extendFailure_45 ?_
            refine lv_iload_n hx hb dX0_extendFailure_48 rfl (lv_at hl 0 rfl) ?_
            refine lv_iconst (v := nI (1)) hx hb dX0_extendFailure_49 (by decide) ?_
            refine ni_sub (by omega) hx hb dX0_extendFailure_50 ?_
            refine ni_ald hx hb hK hP 5 0 rfl rfl (by decide) dX0_extendFailure_51 (by omega) ?_
            obtain ⟨k2, hk3, hk4, hk5⟩ := hG k c_22 (by omega)
            refine st_topi hk3 ?_
            refine lv_istore_n (lv' := [(2, .int (nI (k2))), (0, .ref (z 0)), (1, .int (nI (j)))]) hx hb dX0_extendFailure_52 rfl hl (by decide) rfl (fun ls hl => ?_)
            refine lv_goto (tgt := 21) hx hb dX0_extendFailure_53 (by decide) ?_
            exact ihloop k2 (by have := hk4.1; omega) (kI_step (by omega) hk (fun h => c_41 (hq_32.trans h)) (hw k (by omega)) hk4 hk5) _ _ _ hP hD hS (lv_sub hl [0, 1, 2] rfl)
    exact loop (k0 + 1) k0 (by omega) (kI_first hk1 hk2) _ _ _ hP hD hS (lv_sub hl [0, 1, 2] rfl)
  · skip
    exact st_vret (upd fl j (nI 0)) hx hb hr hlocks hK hP hD hS dX0_extendFailure_11 ⟨fun q hq => pk_un (by omega), by rw [pk_us, c_8]; exact isF_zero⟩

set_option maxHeartbeats 4000000 in
set_option maxRecDepth 100000 in
/-- pattern(x) -/
theorem mX_pattern (l : Launch) (D : va_G) (z : Nat → Nat) (d0 d1 : ClassId) (tl pl : Nat) (fo lo fi se : Int32) (tk bk wn wb fl fa rp : Nat → Int32) (htl : tl ≤ 48) (hpl : pl ≤ 12) (hPI : PI pl wn wb fl) (x : Int32) : ct_I l yX0_pattern cX0_pattern 3 (some .int) ({ frames := 2, cells := 0, slots := 0, locals := 43 } : Room) ([.ref (z 0), .int (x)] : List Value) D (tyA d0 d1) (wX z d0 d1 (nI (tl)) (nI (pl)) ((fo)) ((lo)) ((fi)) ((se)) (tk) (bk) (wn) (wb) (fl) (fa) (rp)) (fun r (u : Nat × (Nat → Int32) × (Nat → Int32) × (Nat → Int32)) => (¬ okQ x ∧ r = -1 ∧ u = (pl, wn, wb, fl)) ∨ (okQ x ∧ pl = 12 ∧ r = -2 ∧ u = (pl, wn, wb, fl)) ∨ (okQ x ∧ pl < 12 ∧ r = nI (pl + 1) ∧ u.1 = pl + 1 ∧ u.2.1 = upd wn pl x ∧ PI (pl + 1) u.2.1 u.2.2.1 u.2.2.2)) (fun (u : Nat × (Nat → Int32) × (Nat → Int32) × (Nat → Int32)) => (wX z d0 d1 (nI (tl)) (nI (u.1)) ((fo)) ((lo)) ((fi)) ((se)) (tk) (bk) (u.2.1) (u.2.2.1) (u.2.2.2) (fa) (rp))) := by
  intro sz
  refine st_of (QA := (st_I D (tyA d0 d1) (fun r (u : Nat × (Nat → Int32) × (Nat → Int32) × (Nat → Int32)) => (¬ okQ x ∧ r = -1 ∧ u = (pl, wn, wb, fl)) ∨ (okQ x ∧ pl = 12 ∧ r = -2 ∧ u = (pl, wn, wb, fl)) ∨ (okQ x ∧ pl < 12 ∧ r = nI (pl + 1) ∧ u.1 = pl + 1 ∧ u.2.1 = upd wn pl x ∧ PI (pl + 1) u.2.1 u.2.2.1 u.2.2.2)) (fun (u : Nat × (Nat → Int32) × (Nat → Int32) × (Nat → Int32)) => (wX z d0 d1 (nI (tl)) (nI (u.1)) ((fo)) ((lo)) ((fi)) ((se)) (tk) (bk) (u.2.1) (u.2.2.1) (u.2.2.2) (fa) (rp))))) (by decide) (Nat.le_of_ble_eq_true rfl) ?_
  intro p e s m below meth c A ls hx hb hr hml hlocks hown hts hname hK hP hD hS hA hl
  have hl : lv_has ls 3 [(0, .ref (z 0)), (1, .int (x))] := hl
  have hown : s.vm.findClass RX0 = some m.cls := hown
  refine lv_iload_n hx hb dX0_pattern_0 rfl (lv_at hl 1 rfl) ?_
  refine st_cSi (As := [.int (x)]) (rest := []) 1 ⟨hx, hb, hml, hown, hts⟩ (mX_badToken l D z d0 d1 x) (lw_S q71 q72 q15 q73) (by decide +kernel) ⟨Nat.le_of_ble_eq_true rfl, Nat.le_of_ble_eq_true rfl⟩ rfl rfl ⟨Nat.zero_le _, Nat.zero_le _⟩ hK hP hD hS hA rfl hl.1 rfl (Nat.le_of_ble_eq_true rfl) dX0_pattern_1 (fun r_1 H locs hq_1 hP hD hS => ?_)
  rcases hq_1 with ⟨rfl, hq_1⟩ | ⟨rfl, hq_1⟩
  · skip
    refine ni_if_eq (tgt := 9) hx hb dX0_pattern_4 (by decide) (by omega) (fun c_4 => absurd c_4 (by decide)) (fun c_4 => ?_)
    refine lv_iconst (v := (-1)) hx hb dX0_pattern_7 (by decide) ?_
    exact st_iret (v := (-1)) (pl, wn, wb, fl) hx hb hr hlocks hK hP hD hS dX0_pattern_8 (Or.inl ⟨hq_1, rfl, rfl⟩)
  · skip
    refine ni_if_eq (tgt := 9) hx hb dX0_pattern_4 (by decide) (by omega) (fun c_4 => ?_) (fun c_4 => absurd c_4 (by decide))
    refine lv_aload_n hx hb dX0_pattern_9 rfl (lv_at hl 0 rfl) ?_
    refine va_get (D := D) (ci := 0) (v := .int (nI (pl))) (C := RX0) (T := TX0) (N := 13) hx hb hts in_X0 hown hK hP 0 rfl rfl 3 (by decide) (hts _ q28) (fun _ h9 => h9) rfl dX0_pattern_10 ?_
    refine lv_bipush (v := nI (12)) hx hb dX0_pattern_13 (by decide) ?_
    refine ni_icmp_lt (tgt := 21) hx hb dX0_pattern_15 (by decide) (by omega) (by omega) (fun c_15 => ?_) (fun c_15 => ?_)
    · skip
      refine lv_aload_n hx hb dX0_pattern_21 rfl (lv_at hl 0 rfl) ?_
      refine va_get (D := D) (ci := 0) (v := .int (nI (pl))) (C := RX0) (T := TX0) (N := 13) hx hb hts in_X0 hown hK hP 0 rfl rfl 3 (by decide) (hts _ q28) (fun _ h9 => h9) rfl dX0_pattern_22 ?_
      refine lv_istore_n (lv' := [(2, .int (nI (pl))), (0, .ref (z 0)), (1, .int (x))]) hx hb dX0_pattern_25 rfl hl (by decide) rfl (fun ls hl => ?_)
      refine lv_aload_n hx hb dX0_pattern_26 rfl (lv_at hl 1 rfl) ?_
      refine va_get (D := D) (ci := 0) (v := .ref (z 3)) (C := RX0) (T := TX0) (N := 13) hx hb hts in_X0 hown hK hP 0 rfl rfl 4 (by decide) (hts _ q29) (fun _ h9 => h9) rfl dX0_pattern_27 ?_
      refine lv_iload_n hx hb dX0_pattern_30 rfl (lv_at hl 0 rfl) ?_
      refine lv_iload_n hx hb dX0_pattern_31 rfl (lv_at hl 2 rfl) ?_
      refine ni_ast (ws2 := (wX z d0 d1 (nI (tl)) (nI (pl)) ((fo)) ((lo)) ((fi)) ((se)) (tk) (bk) (upd wn pl ((x))) (wb) (fl) (fa) (rp))) hx hb hK hP hD hS 3 0 rfl rfl rfl (by decide) dX0_pattern_32 (by omega) (fun H locs hP hD hS => ?_)
      refine lv_aload_n hx hb dX0_pattern_33 rfl (lv_at hl 1 rfl) ?_
      refine va_get (D := D) (ci := 0) (v := .ref (z 4)) (C := RX0) (T := TX0) (N := 13) hx hb hts in_X0 hown hK hP 0 rfl rfl 5 (by decide) (hts _ q30) (fun _ h9 => h9) rfl dX0_pattern_34 ?_
      refine lv_iload_n hx hb dX0_pattern_37 rfl (lv_at hl 0 rfl) ?_
      refine lv_aload_n hx hb dX0_pattern_38 rfl (lv_at hl 1 rfl) ?_
      refine lv_iload_n hx hb dX0_pattern_39 rfl (lv_at hl 0 rfl) ?_
      refine st_cVi0 (ci := 0) (qc := (RX0, TX0, 13)) (As := [.int (nI (pl))]) (rest := [.int (nI (pl)), .ref (z 4)]) 1 ⟨hx, hb, hml, hown, hts⟩ (mX_wantedDistance l D z d0 d1 tl pl (fo) (lo) (fi) (se) tk bk (upd wn pl ((x))) wb fl fa rp (by omega) (by omega) pl (by omega)) (lw_V q86 q88 qs1 q15 q89) (by decide +kernel) ⟨Nat.le_of_ble_eq_true rfl, Nat.le_of_ble_eq_true rfl⟩ rfl rfl ⟨Nat.zero_le _, Nat.zero_le _⟩ hK hP hD hS hA rfl rfl rfl hl.1 rfl (Nat.le_of_ble_eq_true rfl) dX0_pattern_40 (fun r_40 u H locs hq_40 hP hD hS => ?_)
      have hP : va_P D vwCl (wX z d0 d1 (nI (tl)) (nI (pl)) ((fo)) ((lo)) ((fi)) ((se)) (tk) (bk) (upd wn pl ((x))) (wb) (fl) (fa) (rp)) H := hP
      have hD : va_D A (wX z d0 d1 (nI (tl)) (nI (pl)) ((fo)) ((lo)) ((fi)) ((se)) (tk) (bk) (upd wn pl ((x))) (wb) (fl) (fa) (rp)) := hD
      refine ni_ast (ws2 := (wX z d0 d1 (nI (tl)) (nI (pl)) ((fo)) ((lo)) ((fi)) ((se)) (tk) (bk) (upd wn pl ((x))) (upd wb pl ((r_40))) (fl) (fa) (rp))) hx hb hK hP hD hS 4 0 rfl rfl rfl (by decide) dX0_pattern_43 (by omega) (fun H locs hP hD hS => ?_)
      refine lv_aload_n hx hb dX0_pattern_44 rfl (lv_at hl 1 rfl) ?_
      refine lv_dup hx hb dX0_pattern_45 rfl ?_
      refine va_get (D := D) (ci := 0) (v := .int (nI (pl))) (C := RX0) (T := TX0) (N := 13) hx hb hts in_X0 hown hK hP 0 rfl rfl 3 (by decide) (hts _ q28) (fun _ h9 => h9) rfl dX0_pattern_46 ?_
      refine lv_iconst (v := nI (1)) hx hb dX0_pattern_49 (by decide) ?_
      refine ni_add hx hb dX0_pattern_50 ?_
      refine va_put (D := D) (ci := 0) (v := .int (nI (pl + 1))) (ty := .int) (C := RX0) (T := TX0) (N := 13) hx hb hts in_X0 tyX0 tyX0_ok nmX0 hown hK hP hD hS 0 rfl rfl 3 (by decide) (hts _ q28) (fun _ h9 => h9) rfl (by decide +kernel) rfl rfl (Nat.le_of_ble_eq_true rfl) dX0_pattern_51 (fun H locs hP hD hS => ?_)
      have hP : va_P D vwCl (wX z d0 d1 (nI (tl)) (nI (pl + 1)) ((fo)) ((lo)) ((fi)) ((se)) (tk) (bk) (upd wn pl ((x))) (upd wb pl ((r_40))) (fl) (fa) (rp)) H := hP
      have hD : va_D A (wX z d0 d1 (nI (tl)) (nI (pl + 1)) ((fo)) ((lo)) ((fi)) ((se)) (tk) (bk) (upd wn pl ((x))) (upd wb pl ((r_40))) (fl) (fa) (rp)) := hD
      refine lv_aload_n hx hb dX0_pattern_54 rfl (lv_at hl 1 rfl) ?_
      refine lv_iload_n hx hb dX0_pattern_55 rfl (lv_at hl 0 rfl) ?_
      have hok := Classical.not_not.mp hq_1
      have hw : ∀ q, q < pl + 1 → wi ((upd wb pl r_40) q) q = (upd wb pl r_40) q := by
        intro q hq
        by_cases e : q = pl
        · subst e; rw [pk_us]; exact isD_wi (by omega) (by rw [pk_us]; exact hok) hq_40
        · rw [pk_un e]; exact PI_wi hpl hPI (by omega)
      have hF : ∀ q, q < pl → isF (upd wb pl r_40) q (fl q) := fun q hq => isF_congr (fun k hk => (pk_un (by omega)).symm) (hPI q hq).2.2
      refine st_cVv0 (ci := 0) (qc := (RX0, TX0, 13)) (As := [.int (nI (pl))]) (rest := []) 1 ⟨hx, hb, hml, hown, hts⟩ (mX_extendFailure l D z d0 d1 tl (pl + 1) (fo) (lo) (fi) (se) tk bk (upd wn pl ((x))) (upd wb pl ((r_40))) fl fa rp (by omega) (by omega) pl (by omega) hw hF) (lw_V q90 q92 qs2 q15 q93) (by decide +kernel) ⟨Nat.le_of_ble_eq_true rfl, Nat.le_of_ble_eq_true rfl⟩ rfl rfl ⟨Nat.zero_le _, Nat.zero_le _⟩ hK hP hD hS hA rfl rfl rfl hl.1 rfl (Nat.le_of_ble_eq_true rfl) dX0_pattern_56 (fun u_56 H locs hq_56 hP hD hS => ?_)
      have hP : va_P D vwCl (wX z d0 d1 (nI (tl)) (nI (pl + 1)) ((fo)) ((lo)) ((fi)) ((se)) (tk) (bk) (upd wn pl ((x))) (upd wb pl ((r_40))) (u_56) (fa) (rp)) H := hP
      have hD : va_D A (wX z d0 d1 (nI (tl)) (nI (pl + 1)) ((fo)) ((lo)) ((fi)) ((se)) (tk) (bk) (upd wn pl ((x))) (upd wb pl ((r_40))) (u_56) (fa) (rp)) := hD
      refine lv_aload_n hx hb dX0_pattern_59 rfl (lv_at hl 1 rfl) ?_
      refine va_get (D := D) (ci := 0) (v := .int (nI (pl + 1))) (C := RX0) (T := TX0) (N := 13) hx hb hts in_X0 hown hK hP 0 rfl rfl 3 (by decide) (hts _ q28) (fun _ h9 => h9) rfl dX0_pattern_60 ?_
      exact st_iret (v := nI (pl + 1)) (pl + 1, upd wn pl x, upd wb pl r_40, u_56) hx hb hr hlocks hK hP hD hS dX0_pattern_63 (Or.inr (Or.inr ⟨hok, by omega, rfl, rfl, rfl, PI_push hPI hok hq_40 hq_56.1 hq_56.2⟩))
    · skip
      refine lv_bipush (v := (-2)) hx hb dX0_pattern_18 (by decide) ?_
      exact st_iret (v := (-2)) (pl, wn, wb, fl) hx hb hr hlocks hK hP hD hS dX0_pattern_20 (Or.inr (Or.inl ⟨Classical.not_not.mp hq_1, by omega, rfl, rfl⟩))

set_option maxHeartbeats 4000000 in
set_option maxRecDepth 100000 in
/-- patternFrom(x, y) -/
theorem mX_patternFrom (l : Launch) (D : va_G) (z : Nat → Nat) (d0 d1 : ClassId) (tl pl : Nat) (fo lo fi se : Int32) (tk bk wn wb fl fa rp : Nat → Int32) (htl : tl ≤ 48) (hpl : pl ≤ 12) (hTI : TI tl tk bk) (x y : Int32) : ct_I l yX0_patternFrom cX0_patternFrom 4 (some .int) ({ frames := 3, cells := 0, slots := 0, locals := 65 } : Room) ([.ref (z 0), .int (x), .int (y)] : List Value) D (tyA d0 d1) (wX z d0 d1 (nI (tl)) (nI (pl)) ((fo)) ((lo)) ((fi)) ((se)) (tk) (bk) (wn) (wb) (fl) (fa) (rp)) (fun r (u : Nat × (Nat → Int32) × (Nat → Int32) × (Nat → Int32)) => (∃ i k, pfQ tl x y i k ∧ r = nI k ∧ u.1 = k ∧ (∀ q, q < k → u.2.1 q = tk (i + q)) ∧ PI k u.2.1 u.2.2.1 u.2.2.2) ∨ ((∀ i k, ¬ pfQ tl x y i k) ∧ r = -3 ∧ u = (pl, wn, wb, fl))) (fun (u : Nat × (Nat → Int32) × (Nat → Int32) × (Nat → Int32)) => (wX z d0 d1 (nI (tl)) (nI (u.1)) ((fo)) ((lo)) ((fi)) ((se)) (tk) (bk) (u.2.1) (u.2.2.1) (u.2.2.2) (fa) (rp))) := by
  intro sz
  refine st_of (QA := (st_I D (tyA d0 d1) (fun r (u : Nat × (Nat → Int32) × (Nat → Int32) × (Nat → Int32)) => (∃ i k, pfQ tl x y i k ∧ r = nI k ∧ u.1 = k ∧ (∀ q, q < k → u.2.1 q = tk (i + q)) ∧ PI k u.2.1 u.2.2.1 u.2.2.2) ∨ ((∀ i k, ¬ pfQ tl x y i k) ∧ r = -3 ∧ u = (pl, wn, wb, fl))) (fun (u : Nat × (Nat → Int32) × (Nat → Int32) × (Nat → Int32)) => (wX z d0 d1 (nI (tl)) (nI (u.1)) ((fo)) ((lo)) ((fi)) ((se)) (tk) (bk) (u.2.1) (u.2.2.1) (u.2.2.2) (fa) (rp))))) (by decide) (Nat.le_of_ble_eq_true rfl) ?_
  intro p e s m below meth c A ls hx hb hr hml hlocks hown hts hname hK hP hD hS hA hl
  have hl : lv_has ls 4 [(0, .ref (z 0)), (1, .int (x)), (2, .int (y))] := hl
  have hown : s.vm.findClass RX0 = some m.cls := hown
  refine lv_iload_n hx hb dX0_patternFrom_0 rfl (lv_at hl 2 rfl) ?_
  refine lv_iconst (v := nI (1)) hx hb dX0_patternFrom_1 (by decide) ?_
  refine lv_icmp_lt (tgt := 25) hx hb dX0_patternFrom_2 (by decide) (fun c_2 => ?_) (fun c_2 => ?_)
  · skip
    refine lv_bipush (v := (-3)) hx hb dX0_patternFrom_25 (by decide) ?_
    exact st_iret (v := (-3)) (pl, wn, wb, fl) hx hb hr hlocks hK hP hD hS dX0_patternFrom_27 (Or.inr ⟨fun i k h => absurd (h.2.1 ▸ c_2 : nI k < nI 1) (nI_nlt h.2.2.1 (by have := h.2.2.2.1; omega)), rfl, rfl⟩)
  · skip
    refine lv_iload_n hx hb dX0_patternFrom_5 rfl (lv_at hl 2 rfl) ?_
    refine lv_bipush (v := nI (12)) hx hb dX0_patternFrom_6 (by decide) ?_
    refine lv_icmp_gt (tgt := 25) hx hb dX0_patternFrom_8 (by decide) (fun c_8 => ?_) (fun c_8 => ?_)
    · skip
      refine lv_bipush (v := (-3)) hx hb dX0_patternFrom_25 (by decide) ?_
      exact st_iret (v := (-3)) (pl, wn, wb, fl) hx hb hr hlocks hK hP hD hS dX0_patternFrom_27 (Or.inr ⟨fun i k h => absurd (h.2.1 ▸ c_8 : nI 12 < nI k) (nI_nlt h.2.2.2.1 (by decide)), rfl, rfl⟩)
    · skip
      obtain ⟨k0, hk1, hk2, rfl⟩ := one_of (by decide) c_2 (Int32.not_lt.mp c_8)
      refine lv_iload_n hx hb dX0_patternFrom_11 rfl (lv_at hl 1 rfl) ?_
      refine lv_if_lt (tgt := 25) hx hb dX0_patternFrom_12 (by decide) (fun c_12 => ?_) (fun c_12 => ?_)
      · skip
        refine lv_bipush (v := (-3)) hx hb dX0_patternFrom_25 (by decide) ?_
        exact st_iret (v := (-3)) (pl, wn, wb, fl) hx hb hr hlocks hK hP hD hS dX0_patternFrom_27 (Or.inr ⟨fun i k h => absurd (h.1 ▸ c_12 : nI i < 0) (nI_pos (by have := h.2.2.2.2; omega)), rfl, rfl⟩)
      · skip
        obtain ⟨i0, hi0, rfl⟩ := nI_of c_12
        refine lv_iload_n hx hb dX0_patternFrom_15 rfl (lv_at hl 1 rfl) ?_
        refine lv_aload_n hx hb dX0_patternFrom_16 rfl (lv_at hl 0 rfl) ?_
        refine va_get (D := D) (ci := 0) (v := .int (nI (tl))) (C := RX0) (T := TX0) (N := 13) hx hb hts in_X0 hown hK hP 0 rfl rfl 0 (by decide) (hts _ q25) (fun _ h9 => h9) rfl dX0_patternFrom_17 ?_
        refine lv_iload_n hx hb dX0_patternFrom_20 rfl (lv_at hl 2 rfl) ?_
        refine lv_isub hx hb dX0_patternFrom_21 ?_
        refine lv_icmp_le (tgt := 28) hx hb dX0_patternFrom_22 (by decide) (fun c_22 => ?_) (fun c_22 => ?_)
        · skip
          have hik := (sub_le hi0 htl hk2).mp c_22
          refine lv_aload_n hx hb dX0_patternFrom_28 rfl (lv_at hl 0 rfl) ?_
          refine lv_iconst (v := nI (0)) hx hb dX0_patternFrom_29 (by decide) ?_
          refine va_put (D := D) (ci := 0) (v := .int (nI (0))) (ty := .int) (C := RX0) (T := TX0) (N := 13) hx hb hts in_X0 tyX0 tyX0_ok nmX0 hown hK hP hD hS 0 rfl rfl 3 (by decide) (hts _ q28) (fun _ h9 => h9) rfl (by decide +kernel) rfl rfl (Nat.le_of_ble_eq_true rfl) dX0_patternFrom_30 (fun H locs hP hD hS => ?_)
          have hP : va_P D vwCl (wX z d0 d1 (nI (tl)) (nI (0)) ((fo)) ((lo)) ((fi)) ((se)) (tk) (bk) (wn) (wb) (fl) (fa) (rp)) H := hP
          have hD : va_D A (wX z d0 d1 (nI (tl)) (nI (0)) ((fo)) ((lo)) ((fi)) ((se)) (tk) (bk) (wn) (wb) (fl) (fa) (rp)) := hD
          refine lv_iconst (v := nI (0)) hx hb dX0_patternFrom_33 (by decide) ?_
          refine lv_istore_n (lv' := [(3, .int (nI (0))), (0, .ref (z 0)), (1, .int (nI (i0))), (2, .int (nI (k0)))]) hx hb dX0_patternFrom_34 rfl hl (by decide) rfl (fun ls hl => ?_)
          have loop : ∀ (fu : Nat) (j : Nat) (w2 w3 w4 : (Nat → Int32)), k0 < j + fu → j ≤ k0 → (∀ q, q < j → w2 q = tk (i0 + q)) → PI j w2 w3 w4 → ∀ (H : Heap) (locs : List Loc) (ls : Array Slot), va_P D vwCl (wX z d0 d1 (nI (tl)) (nI (j)) ((fo)) ((lo)) ((fi)) ((se)) (tk) (bk) (w2) (w3) (w4) (fa) (rp)) H → va_D A (wX z d0 d1 (nI (tl)) (nI (j)) ((fo)) ((lo)) ((fi)) ((se)) (tk) (bk) (w2) (w3) (w4) (fa) (rp)) → va_S A s.heap H locs → lv_has ls 4 [(3, .int (nI (j))), (0, .ref (z 0)), (1, .int (nI (i0))), (2, .int (nI (k0)))] → W p l e ({ frames := 3, cells := 0, slots := 0, locals := 65 } : Room) s m ([.ref (z 0), .int (nI (i0)), .int (nI (k0))] : List Value).toArray below meth c H locs 0 0 (MQ below ((st_I D (tyA d0 d1) (fun r (u : Nat × (Nat → Int32) × (Nat → Int32) × (Nat → Int32)) => (∃ i k, pfQ tl (nI (i0)) (nI (k0)) i k ∧ r = nI k ∧ u.1 = k ∧ (∀ q, q < k → u.2.1 q = tk (i + q)) ∧ PI k u.2.1 u.2.2.1 u.2.2.2) ∨ ((∀ i k, ¬ pfQ tl (nI (i0)) (nI (k0)) i k) ∧ r = -3 ∧ u = (pl, wn, wb, fl))) (fun (u : Nat × (Nat → Int32) × (Nat → Int32) × (Nat → Int32)) => (wX z d0 d1 (nI (tl)) (nI (u.1)) ((fo)) ((lo)) ((fi)) ((se)) (tk) (bk) (u.2.1) (u.2.2.1) (u.2.2.2) (fa) (rp)))) A) ([.ref (z 0), .int (nI (i0)), .int (nI (k0))] : List Value).toArray s 0 0 A) (F0 m 35 ls []) := by
            intro fu
            induction fu with
            | zero => intro j w2 w3 w4 hf hj h1 h2; exfalso; omega
            | succ fu ihloop =>
              intro j w2 w3 w4 hf hj h1 h2 H locs ls hP hD hS hl
              refine lv_iload_n hx hb dX0_patternFrom_35 rfl (lv_at hl 0 rfl) ?_
              refine lv_iload_n hx hb dX0_patternFrom_36 rfl (lv_at hl 3 rfl) ?_
              refine ni_icmp_ge (tgt := 59) hx hb dX0_patternFrom_37 (by decide) (by omega) (by omega) (fun c_37 => ?_) (fun c_37 => ?_)
              · skip
                refine lv_iload_n hx hb dX0_patternFrom_59 rfl (lv_at hl 3 rfl) ?_
                exact st_iret (v := nI (k0)) (j, w2, w3, w4) hx hb hr hlocks hK hP hD hS dX0_patternFrom_60 (Or.inl ⟨i0, k0, ⟨rfl, rfl, hk1, hk2, hik⟩, rfl, (by show j = k0; omega), fun q hq => h1 q (by omega), fun q hq => h2 q (by omega)⟩)
              · skip
                refine lv_aload_n hx hb dX0_patternFrom_40 rfl (lv_at hl 1 rfl) ?_
                refine lv_aload_n hx hb dX0_patternFrom_41 rfl (lv_at hl 1 rfl) ?_
                refine va_get (D := D) (ci := 0) (v := .ref (z 1)) (C := RX0) (T := TX0) (N := 13) hx hb hts in_X0 hown hK hP 0 rfl rfl 1 (by decide) (hts _ q26) (fun _ h9 => h9) rfl dX0_patternFrom_42 ?_
                refine lv_iload_n hx hb dX0_patternFrom_45 rfl (lv_at hl 2 rfl) ?_
                refine lv_iload_n hx hb dX0_patternFrom_46 rfl (lv_at hl 0 rfl) ?_
                refine ni_add hx hb dX0_patternFrom_47 ?_
                refine ni_ald hx hb hK hP 1 0 rfl rfl (by decide) dX0_patternFrom_48 (by omega) ?_
                refine st_cVi0 (ci := 0) (qc := (RX0, TX0, 13)) (As := [.int (tk (i0 + j))]) (rest := []) 1 ⟨hx, hb, hml, hown, hts⟩ (mX_pattern l D z d0 d1 tl j (fo) (lo) (fi) (se) tk bk w2 w3 w4 fa rp (by omega) (by omega) h2 (tk (i0 + j))) (lw_V q101 q83 q84 q15 q85) (by decide +kernel) ⟨Nat.le_of_ble_eq_true rfl, Nat.le_of_ble_eq_true rfl⟩ rfl rfl ⟨Nat.zero_le _, Nat.zero_le _⟩ hK hP hD hS hA rfl rfl rfl hl.1 rfl (Nat.le_of_ble_eq_true rfl) dX0_patternFrom_49 (fun r_49 u_49 H locs hq_49 hP hD hS => ?_)
                have hP : va_P D vwCl (wX z d0 d1 (nI (tl)) (nI (u_49.1)) ((fo)) ((lo)) ((fi)) ((se)) (tk) (bk) (u_49.2.1) (u_49.2.2.1) (u_49.2.2.2) (fa) (rp)) H := hP
                have hD : va_D A (wX z d0 d1 (nI (tl)) (nI (u_49.1)) ((fo)) ((lo)) ((fi)) ((se)) (tk) (bk) (u_49.2.1) (u_49.2.2.1) (u_49.2.2.2) (fa) (rp)) := hD
                obtain ⟨a1, a2, a3, a4⟩ := u_49
                rcases hq_49 with ⟨h3, _⟩ | ⟨_, h3, _⟩ | ⟨_, _, _, h4, h5, h6⟩
                · skip
                  exact absurd (hTI (i0 + j) (by omega)).1 h3
                · skip
                  exact absurd h3 (by omega)
                · skip
                  have h4 : a1 = j + 1 := h4
                  have h5 : a2 = upd w2 j (tk (i0 + j)) := h5
                  have h6 : PI (j + 1) a2 a3 a4 := h6
                  subst h4
                  subst h5
                  have hP : va_P D vwCl (wX z d0 d1 (nI (tl)) (nI (j + 1)) ((fo)) ((lo)) ((fi)) ((se)) (tk) (bk) (upd w2 j (tk (i0 + j))) (a3) (a4) (fa) (rp)) H := hP
                  have hD : va_D A (wX z d0 d1 (nI (tl)) (nI (j + 1)) ((fo)) ((lo)) ((fi)) ((se)) (tk) (bk) (upd w2 j (tk (i0 + j))) (a3) (a4) (fa) (rp)) := hD
                  refine lv_pop hx hb dX0_patternFrom_52 rfl ?_
                  refine lv_iinc (v := nI (j + 1)) (lv' := [(3, .int (nI (j + 1))), (0, .ref (z 0)), (1, .int (nI (i0))), (2, .int (nI (k0)))]) hx hb dX0_patternFrom_53 hl (k := 0) rfl (ni_inc _) (by decide) rfl (fun ls hl => ?_)
                  refine lv_goto (tgt := 35) hx hb dX0_patternFrom_56 (by decide) ?_
                  exact ihloop (j + 1) _ _ _ (by omega) (by omega) (lt_s (fun q hq => (pk_un (by omega)).trans (h1 q hq)) pk_us) h6 _ _ _ hP hD hS (lv_sub hl [0, 1, 2, 3] rfl)
          exact loop (k0 + 1) 0 _ _ _ (by omega) (by omega) (fun q h => absurd h (by omega)) (fun q h => absurd h (by omega)) _ _ _ hP hD hS (lv_sub hl [0, 1, 2, 3] rfl)
        · skip
          refine lv_bipush (v := (-3)) hx hb dX0_patternFrom_25 (by decide) ?_
          exact st_iret (v := (-3)) (pl, wn, wb, fl) hx hb hr hlocks hK hP hD hS dX0_patternFrom_27 (Or.inr ⟨fun i k h => by obtain ⟨h1, h2, h3, h4, h5⟩ := h; have e1 := (nI_eq (by omega) (by omega)).mp h1; have e2 := (nI_eq (by omega) (by omega)).mp h2; subst e1; subst e2; exact c_22 ((sub_le (by omega) (by omega) (by omega)).mpr h5), rfl, rfl⟩)

set_option maxHeartbeats 4000000 in
set_option maxRecDepth 100000 in
/-- clearPattern -/
theorem mX_clearPattern (l : Launch) (D : va_G) (z : Nat → Nat) (d0 d1 : ClassId) (tl pl : Nat) (fo lo fi se : Int32) (tk bk wn wb fl fa rp : Nat → Int32) (htl : tl ≤ 48) (hpl : pl ≤ 12) : ct_V l yX0_clearPattern cX0_clearPattern 1 none ({ frames := 0, cells := 0, slots := 0, locals := 0 } : Room) ([.ref (z 0)] : List Value) D (tyA d0 d1) (wX z d0 d1 (nI (tl)) (nI (pl)) ((fo)) ((lo)) ((fi)) ((se)) (tk) (bk) (wn) (wb) (fl) (fa) (rp)) (fun (_ : Unit) => True) (fun (_ : Unit) => (wX z d0 d1 (nI (tl)) (nI (0)) ((fo)) ((lo)) ((fi)) ((se)) (tk) (bk) (wn) (wb) (fl) (fa) (rp))) := by
  intro sz
  refine st_of (QA := (st_V D (tyA d0 d1) (fun (_ : Unit) => True) (fun (_ : Unit) => (wX z d0 d1 (nI (tl)) (nI (0)) ((fo)) ((lo)) ((fi)) ((se)) (tk) (bk) (wn) (wb) (fl) (fa) (rp))))) (by decide) (Nat.le_of_ble_eq_true rfl) ?_
  intro p e s m below meth c A ls hx hb hr hml hlocks hown hts hname hK hP hD hS hA hl
  have hl : lv_has ls 1 [(0, .ref (z 0))] := hl
  have hown : s.vm.findClass RX0 = some m.cls := hown
  refine lv_aload_n hx hb dX0_clearPattern_0 rfl (lv_at hl 0 rfl) ?_
  refine lv_iconst (v := nI (0)) hx hb dX0_clearPattern_1 (by decide) ?_
  refine va_put (D := D) (ci := 0) (v := .int (nI (0))) (ty := .int) (C := RX0) (T := TX0) (N := 13) hx hb hts in_X0 tyX0 tyX0_ok nmX0 hown hK hP hD hS 0 rfl rfl 3 (by decide) (hts _ q28) (fun _ h9 => h9) rfl (by decide +kernel) rfl rfl (Nat.le_of_ble_eq_true rfl) dX0_clearPattern_2 (fun H locs hP hD hS => ?_)
  have hP : va_P D vwCl (wX z d0 d1 (nI (tl)) (nI (0)) ((fo)) ((lo)) ((fi)) ((se)) (tk) (bk) (wn) (wb) (fl) (fa) (rp)) H := hP
  have hD : va_D A (wX z d0 d1 (nI (tl)) (nI (0)) ((fo)) ((lo)) ((fi)) ((se)) (tk) (bk) (wn) (wb) (fl) (fa) (rp)) := hD
  exact st_vret () hx hb hr hlocks hK hP hD hS dX0_clearPattern_5 trivial

set_option maxHeartbeats 4000000 in
set_option maxRecDepth 100000 in
/-- clearText -/
theorem mX_clearText (l : Launch) (D : va_G) (z : Nat → Nat) (d0 d1 : ClassId) (tl pl : Nat) (fo lo fi se : Int32) (tk bk wn wb fl fa rp : Nat → Int32) (htl : tl ≤ 48) (hpl : pl ≤ 12) : ct_V l yX0_clearText cX0_clearText 1 none ({ frames := 0, cells := 0, slots := 0, locals := 0 } : Room) ([.ref (z 0)] : List Value) D (tyA d0 d1) (wX z d0 d1 (nI (tl)) (nI (pl)) ((fo)) ((lo)) ((fi)) ((se)) (tk) (bk) (wn) (wb) (fl) (fa) (rp)) (fun (_ : Unit) => True) (fun (_ : Unit) => (wX z d0 d1 (nI (0)) (nI (pl)) ((fo)) ((lo)) ((fi)) ((se)) (tk) (bk) (wn) (wb) (fl) (fa) (rp))) := by
  intro sz
  refine st_of (QA := (st_V D (tyA d0 d1) (fun (_ : Unit) => True) (fun (_ : Unit) => (wX z d0 d1 (nI (0)) (nI (pl)) ((fo)) ((lo)) ((fi)) ((se)) (tk) (bk) (wn) (wb) (fl) (fa) (rp))))) (by decide) (Nat.le_of_ble_eq_true rfl) ?_
  intro p e s m below meth c A ls hx hb hr hml hlocks hown hts hname hK hP hD hS hA hl
  have hl : lv_has ls 1 [(0, .ref (z 0))] := hl
  have hown : s.vm.findClass RX0 = some m.cls := hown
  refine lv_aload_n hx hb dX0_clearText_0 rfl (lv_at hl 0 rfl) ?_
  refine lv_iconst (v := nI (0)) hx hb dX0_clearText_1 (by decide) ?_
  refine va_put (D := D) (ci := 0) (v := .int (nI (0))) (ty := .int) (C := RX0) (T := TX0) (N := 13) hx hb hts in_X0 tyX0 tyX0_ok nmX0 hown hK hP hD hS 0 rfl rfl 0 (by decide) (hts _ q25) (fun _ h9 => h9) rfl (by decide +kernel) rfl rfl (Nat.le_of_ble_eq_true rfl) dX0_clearText_2 (fun H locs hP hD hS => ?_)
  have hP : va_P D vwCl (wX z d0 d1 (nI (0)) (nI (pl)) ((fo)) ((lo)) ((fi)) ((se)) (tk) (bk) (wn) (wb) (fl) (fa) (rp)) H := hP
  have hD : va_D A (wX z d0 d1 (nI (0)) (nI (pl)) ((fo)) ((lo)) ((fi)) ((se)) (tk) (bk) (wn) (wb) (fl) (fa) (rp)) := hD
  exact st_vret () hx hb hr hlocks hK hP hD hS dX0_clearText_5 trivial
end
section
/-! the class: search -/
set_option maxHeartbeats 4000000 in
set_option maxRecDepth 100000 in
/-- search() -/
theorem mX_search (l : Launch) (D : va_G) (z : Nat → Nat) (d0 d1 : ClassId) (tl pl : Nat) (fo lo fi se : Int32) (tk bk wn wb fl fa rp : Nat → Int32) (htl : tl ≤ 48) (hpl : pl ≤ 12) (hPI : PI pl wn wb fl) : ct_V l yX0_search cX0_search 3 none ({ frames := 1, cells := 0, slots := 0, locals := 21 } : Room) ([.ref (z 0)] : List Value) D (tyA d0 d1) (wX z d0 d1 (nI (tl)) (nI (pl)) ((fo)) ((lo)) ((fi)) ((se)) (tk) (bk) (wn) (wb) (fl) (fa) (rp)) (fun (u : Nat × (Nat → Int32)) => (u.1 = cnt (mtX wb bk tl pl) tl ∧ ∀ q, q < tl → (mtX wb bk tl pl) q → u.2 (cnt (mtX wb bk tl pl) q) = nI q)) (fun (u : Nat × (Nat → Int32)) => (wX z d0 d1 (nI (tl)) (nI (pl)) (nI (u.1)) ((lo)) ((fi)) ((se)) (tk) (bk) (wn) (wb) (fl) (u.2) (rp))) := by
  intro sz
  refine st_of (QA := (st_V D (tyA d0 d1) (fun (u : Nat × (Nat → Int32)) => (u.1 = cnt (mtX wb bk tl pl) tl ∧ ∀ q, q < tl → (mtX wb bk tl pl) q → u.2 (cnt (mtX wb bk tl pl) q) = nI q)) (fun (u : Nat × (Nat → Int32)) => (wX z d0 d1 (nI (tl)) (nI (pl)) (nI (u.1)) ((lo)) ((fi)) ((se)) (tk) (bk) (wn) (wb) (fl) (u.2) (rp))))) (by decide) (Nat.le_of_ble_eq_true rfl) ?_
  intro p e s m below meth c A ls hx hb hr hml hlocks hown hts hname hK hP hD hS hA hl
  have hl : lv_has ls 3 [(0, .ref (z 0))] := hl
  have hown : s.vm.findClass RX0 = some m.cls := hown
  refine lv_aload_n hx hb dX0_search_0 rfl (lv_at hl 0 rfl) ?_
  refine lv_iconst (v := nI (0)) hx hb dX0_search_1 (by decide) ?_
  refine va_put (D := D) (ci := 0) (v := .int (nI (0))) (ty := .int) (C := RX0) (T := TX0) (N := 13) hx hb hts in_X0 tyX0 tyX0_ok nmX0 hown hK hP hD hS 0 rfl rfl 7 (by decide) (hts _ q32) (fun _ h9 => h9) rfl (by decide +kernel) rfl rfl (Nat.le_of_ble_eq_true rfl) dX0_search_2 (fun H locs hP hD hS => ?_)
  have hP : va_P D vwCl (wX z d0 d1 (nI (tl)) (nI (pl)) (nI (0)) ((lo)) ((fi)) ((se)) (tk) (bk) (wn) (wb) (fl) (fa) (rp)) H := hP
  have hD : va_D A (wX z d0 d1 (nI (tl)) (nI (pl)) (nI (0)) ((lo)) ((fi)) ((se)) (tk) (bk) (wn) (wb) (fl) (fa) (rp)) := hD
  refine lv_aload_n hx hb dX0_search_5 rfl (lv_at hl 0 rfl) ?_
  refine va_get (D := D) (ci := 0) (v := .int (nI (pl))) (C := RX0) (T := TX0) (N := 13) hx hb hts in_X0 hown hK hP 0 rfl rfl 3 (by decide) (hts _ q28) (fun _ h9 => h9) rfl dX0_search_6 ?_
  refine ni_if_ne (tgt := 13) hx hb dX0_search_9 (by decide) (by omega) (fun c_9 => ?_) (fun c_9 => ?_)
  · skip
    refine lv_iconst (v := nI (0)) hx hb dX0_search_13 (by decide) ?_
    refine lv_istore_n (lv' := [(1, .int (nI (0))), (0, .ref (z 0))]) hx hb dX0_search_14 rfl hl (by decide) rfl (fun ls hl => ?_)
    refine lv_iconst (v := nI (0)) hx hb dX0_search_15 (by decide) ?_
    refine lv_istore_n (lv' := [(2, .int (nI (0))), (1, .int (nI (0))), (0, .ref (z 0))]) hx hb dX0_search_16 rfl hl (by decide) rfl (fun ls hl => ?_)
    have loop : ∀ (fu : Nat) (i q f2 : Nat) (fa2 : (Nat → Int32)), tl < i + fu → i ≤ tl → oI wb bk i pl q → sI wb bk pl (i + 1 - pl) f2 fa2 → ∀ (H : Heap) (locs : List Loc) (ls : Array Slot), va_P D vwCl (wX z d0 d1 (nI (tl)) (nI (pl)) (nI (f2)) ((lo)) ((fi)) ((se)) (tk) (bk) (wn) (wb) (fl) (fa2) (rp)) H → va_D A (wX z d0 d1 (nI (tl)) (nI (pl)) (nI (f2)) ((lo)) ((fi)) ((se)) (tk) (bk) (wn) (wb) (fl) (fa2) (rp)) → va_S A s.heap H locs → lv_has ls 3 [(2, .int (nI (i))), (1, .int (nI (q))), (0, .ref (z 0))] → W p l e ({ frames := 1, cells := 0, slots := 0, locals := 21 } : Room) s m ([.ref (z 0)] : List Value).toArray below meth c H locs 0 0 (MQ below ((st_V D (tyA d0 d1) (fun (u : Nat × (Nat → Int32)) => (u.1 = cnt (mtX wb bk tl pl) tl ∧ ∀ q, q < tl → (mtX wb bk tl pl) q → u.2 (cnt (mtX wb bk tl pl) q) = nI q)) (fun (u : Nat × (Nat → Int32)) => (wX z d0 d1 (nI (tl)) (nI (pl)) (nI (u.1)) ((lo)) ((fi)) ((se)) (tk) (bk) (wn) (wb) (fl) (u.2) (rp)))) A) ([.ref (z 0)] : List Value).toArray s 0 0 A) (F0 m 17 ls []) := by
      intro fu
      induction fu with
      | zero => intro i q f2 fa2 hf hi ho hs; exfalso; omega
      | succ fu ihloop =>
        intro i q f2 fa2 hf hi ho hs H locs ls hP hD hS hl
        have hqm := ho.1
        have hqi := ho.2.1
        have hf2 := sI_le hs
        refine lv_iload_n hx hb dX0_search_17 rfl (lv_at hl 0 rfl) ?_
        refine lv_aload_n hx hb dX0_search_18 rfl (lv_at hl 2 rfl) ?_
        refine va_get (D := D) (ci := 0) (v := .int (nI (tl))) (C := RX0) (T := TX0) (N := 13) hx hb hts in_X0 hown hK hP 0 rfl rfl 0 (by decide) (hts _ q25) (fun _ h9 => h9) rfl dX0_search_19 ?_
        refine ni_icmp_ge (tgt := 140) hx hb dX0_search_22 (by decide) (by omega) (by omega) (fun c_22 => ?_) (fun c_22 => ?_)
        · skip
          have hit : i = tl := by omega
          rw [hit] at hs
          exact st_vret (f2, fa2) hx hb hr hlocks hK hP hD hS dX0_search_140 (sI_end c_9 hs)
        · skip
          refine lv_iload_n hx hb dX0_search_25 rfl (lv_at hl 1 rfl) ?_
          refine lv_aload_n hx hb dX0_search_26 rfl (lv_at hl 2 rfl) ?_
          refine va_get (D := D) (ci := 0) (v := .int (nI (pl))) (C := RX0) (T := TX0) (N := 13) hx hb hts in_X0 hown hK hP 0 rfl rfl 3 (by decide) (hts _ q28) (fun _ h9 => h9) rfl dX0_search_27 ?_
          refine ni_icmp_ne (tgt := 42) hx hb dX0_search_30 (by decide) (by omega) (by omega) (fun c_30 => ?_) (fun c_30 => ?_)
          · skip
            have inner : ∀ (fu : Nat) (q : Nat), q < fu → kI wb bk i pl q → ∀ (H : Heap) (locs : List Loc) (ls : Array Slot), va_P D vwCl (wX z d0 d1 (nI (tl)) (nI (pl)) (nI (f2)) ((lo)) ((fi)) ((se)) (tk) (bk) (wn) (wb) (fl) (fa2) (rp)) H → va_D A (wX z d0 d1 (nI (tl)) (nI (pl)) (nI (f2)) ((lo)) ((fi)) ((se)) (tk) (bk) (wn) (wb) (fl) (fa2) (rp)) → va_S A s.heap H locs → lv_has ls 3 [(2, .int (nI (i))), (1, .int (nI (q))), (0, .ref (z 0))] → W p l e ({ frames := 1, cells := 0, slots := 0, locals := 21 } : Room) s m ([.ref (z 0)] : List Value).toArray below meth c H locs 0 0 (MQ below ((st_V D (tyA d0 d1) (fun (u : Nat × (Nat → Int32)) => (u.1 = cnt (mtX wb bk tl pl) tl ∧ ∀ q, q < tl → (mtX wb bk tl pl) q → u.2 (cnt (mtX wb bk tl pl) q) = nI q)) (fun (u : Nat × (Nat → Int32)) => (wX z d0 d1 (nI (tl)) (nI (pl)) (nI (u.1)) ((lo)) ((fi)) ((se)) (tk) (bk) (wn) (wb) (fl) (u.2) (rp)))) A) ([.ref (z 0)] : List Value).toArray s 0 0 A) (F0 m 42 ls []) := by
              intro fu
              induction fu with
              | zero => intro q hf3 hk; exfalso; omega
              | succ fu ihinner =>
                intro q hf3 hk H locs ls hP hD hS hl
                have hqm := hk.1
                have hqi := hk.2.1
                refine lv_iload_n hx hb dX0_search_42 rfl (lv_at hl 1 rfl) ?_
                refine ni_if_le (tgt := 77) hx hb dX0_search_43 (by decide) (by omega) (fun c_43 => ?_) (fun c_43 => ?_)
                · skip
                  refine lv_aload_n hx hb dX0_search_77 rfl (lv_at hl 2 rfl) ?_
                  refine va_get (D := D) (ci := 0) (v := .ref (z 2)) (C := RX0) (T := TX0) (N := 13) hx hb hts in_X0 hown hK hP 0 rfl rfl 2 (by decide) (hts _ q27) (fun _ h9 => h9) rfl dX0_search_78 ?_
                  refine lv_iload_n hx hb dX0_search_81 rfl (lv_at hl 0 rfl) ?_
                  refine ni_ald hx hb hK hP 2 0 rfl rfl (by decide) dX0_search_82 (by omega) ?_
                  refine lv_iload_n hx hb dX0_search_83 rfl (lv_at hl 1 rfl) ?_
                  refine st_cSi (As := [.int (bk i), .int (nI (q))]) (rest := []) 2 ⟨hx, hb, hml, hown, hts⟩ (mX_within l D z d0 d1 (bk i) q) (lw_S q94 q95 q15 q96) (by decide +kernel) ⟨Nat.le_of_ble_eq_true rfl, Nat.le_of_ble_eq_true rfl⟩ rfl rfl ⟨Nat.zero_le _, Nat.zero_le _⟩ hK hP hD hS hA rfl hl.1 rfl (Nat.le_of_ble_eq_true rfl) dX0_search_84 (fun r_84 H locs hq_84 hP hD hS => ?_)
                  refine lv_aload_n hx hb dX0_search_87 rfl (lv_at hl 2 rfl) ?_
                  refine va_get (D := D) (ci := 0) (v := .ref (z 4)) (C := RX0) (T := TX0) (N := 13) hx hb hts in_X0 hown hK hP 0 rfl rfl 5 (by decide) (hts _ q30) (fun _ h9 => h9) rfl dX0_search_88 ?_
                  refine lv_iload_n hx hb dX0_search_91 rfl (lv_at hl 1 rfl) ?_
                  refine ni_ald hx hb hK hP 4 0 rfl rfl (by decide) dX0_search_92 (by omega) ?_
                  refine lv_icmp_ne (tgt := 99) hx hb dX0_search_93 (by decide) (fun c_93 => ?_) (fun c_93 => ?_)
                  · skip
                    have ho2 : oI wb bk (i + 1) pl q := by
                      subst c_43
                      exact kI_none hk (fun h => c_93 (hq_84.trans h)) (PI_wi hpl hPI hk.1)
                    refine lv_iload_n hx hb dX0_search_99 rfl (lv_at hl 1 rfl) ?_
                    refine lv_aload_n hx hb dX0_search_100 rfl (lv_at hl 2 rfl) ?_
                    refine va_get (D := D) (ci := 0) (v := .int (nI (pl))) (C := RX0) (T := TX0) (N := 13) hx hb hts in_X0 hown hK hP 0 rfl rfl 3 (by decide) (hts _ q28) (fun _ h9 => h9) rfl dX0_search_101 ?_
                    refine ni_icmp_ne (tgt := 134) hx hb dX0_search_104 (by decide) (by omega) (by omega) (fun c_104 => ?_) (fun c_104 => absurd c_104 (by omega))
                    refine lv_iinc (v := nI (i + 1)) (lv' := [(2, .int (nI (i + 1))), (1, .int (nI (q))), (0, .ref (z 0))]) hx hb dX0_search_134 hl (k := 0) rfl (ni_inc _) (by decide) rfl (fun ls hl => ?_)
                    refine lv_goto (tgt := 17) hx hb dX0_search_137 (by decide) ?_
                    exact ihloop (i + 1) q _ _ (by omega) (by omega) ho2 (sI_no hs ho2 c_104) _ _ _ hP hD hS (lv_sub hl [0, 1, 2] rfl)
                  · skip
                    refine lv_iinc (v := nI (q + 1)) (lv' := [(1, .int (nI (q + 1))), (2, .int (nI (i))), (0, .ref (z 0))]) hx hb dX0_search_96 hl (k := 1) rfl (ni_inc _) (by decide) rfl (fun ls hl => ?_)
                    have ho2 : oI wb bk (i + 1) pl (q + 1) := kI_found hk (hq_84.symm.trans c_93) (PI_wi hpl hPI hk.1)
                    refine lv_iload_n hx hb dX0_search_99 rfl (lv_at hl 0 rfl) ?_
                    refine lv_aload_n hx hb dX0_search_100 rfl (lv_at hl 2 rfl) ?_
                    refine va_get (D := D) (ci := 0) (v := .int (nI (pl))) (C := RX0) (T := TX0) (N := 13) hx hb hts in_X0 hown hK hP 0 rfl rfl 3 (by decide) (hts _ q28) (fun _ h9 => h9) rfl dX0_search_101 ?_
                    refine ni_icmp_ne (tgt := 134) hx hb dX0_search_104 (by decide) (by omega) (by omega) (fun c_104 => ?_) (fun c_104 => ?_)
                    · skip
                      refine lv_iinc (v := nI (i + 1)) (lv' := [(2, .int (nI (i + 1))), (1, .int (nI (q + 1))), (0, .ref (z 0))]) hx hb dX0_search_134 hl (k := 1) rfl (ni_inc _) (by decide) rfl (fun ls hl => ?_)
                      refine lv_goto (tgt := 17) hx hb dX0_search_137 (by decide) ?_
                      exact ihloop (i + 1) (q + 1) _ _ (by omega) (by omega) ho2 (sI_no hs ho2 c_104) _ _ _ hP hD hS (lv_sub hl [0, 1, 2] rfl)
                    · skip
                      refine lv_aload_n hx hb dX0_search_107 rfl (lv_at hl 2 rfl) ?_
                      refine va_get (D := D) (ci := 0) (v := .ref (z 6)) (C := RX0) (T := TX0) (N := 13) hx hb hts in_X0 hown hK hP 0 rfl rfl 8 (by decide) (hts _ q33) (fun _ h9 => h9) rfl dX0_search_108 ?_
                      refine lv_aload_n hx hb dX0_search_111 rfl (lv_at hl 2 rfl) ?_
                      refine va_get (D := D) (ci := 0) (v := .int (nI (f2))) (C := RX0) (T := TX0) (N := 13) hx hb hts in_X0 hown hK hP 0 rfl rfl 7 (by decide) (hts _ q32) (fun _ h9 => h9) rfl dX0_search_112 ?_
                      refine lv_iload_n hx hb dX0_search_115 rfl (lv_at hl 1 rfl) ?_
                      refine lv_iconst (v := nI (1)) hx hb dX0_search_116 (by decide) ?_
                      refine ni_add hx hb dX0_search_117 ?_
                      refine lv_aload_n hx hb dX0_search_118 rfl (lv_at hl 2 rfl) ?_
                      refine va_get (D := D) (ci := 0) (v := .int (nI (pl))) (C := RX0) (T := TX0) (N := 13) hx hb hts in_X0 hown hK hP 0 rfl rfl 3 (by decide) (hts _ q28) (fun _ h9 => h9) rfl dX0_search_119 ?_
                      refine ni_sub (by omega) hx hb dX0_search_122 ?_
                      refine ni_ast (ws2 := (wX z d0 d1 (nI (tl)) (nI (pl)) (nI (f2)) ((lo)) ((fi)) ((se)) (tk) (bk) (wn) (wb) (fl) (upd fa2 f2 (nI ((i + 1) - pl))) (rp))) hx hb hK hP hD hS 6 0 rfl rfl rfl (by decide) dX0_search_123 (by omega) (fun H locs hP hD hS => ?_)
                      refine lv_aload_n hx hb dX0_search_124 rfl (lv_at hl 2 rfl) ?_
                      refine lv_dup hx hb dX0_search_125 rfl ?_
                      refine va_get (D := D) (ci := 0) (v := .int (nI (f2))) (C := RX0) (T := TX0) (N := 13) hx hb hts in_X0 hown hK hP 0 rfl rfl 7 (by decide) (hts _ q32) (fun _ h9 => h9) rfl dX0_search_126 ?_
                      refine lv_iconst (v := nI (1)) hx hb dX0_search_129 (by decide) ?_
                      refine ni_add hx hb dX0_search_130 ?_
                      refine va_put (D := D) (ci := 0) (v := .int (nI (f2 + 1))) (ty := .int) (C := RX0) (T := TX0) (N := 13) hx hb hts in_X0 tyX0 tyX0_ok nmX0 hown hK hP hD hS 0 rfl rfl 7 (by decide) (hts _ q32) (fun _ h9 => h9) rfl (by decide +kernel) rfl rfl (Nat.le_of_ble_eq_true rfl) dX0_search_131 (fun H locs hP hD hS => ?_)
                      have hP : va_P D vwCl (wX z d0 d1 (nI (tl)) (nI (pl)) (nI (f2 + 1)) ((lo)) ((fi)) ((se)) (tk) (bk) (wn) (wb) (fl) (upd fa2 f2 (nI ((i + 1) - pl))) (rp)) H := hP
                      have hD : va_D A (wX z d0 d1 (nI (tl)) (nI (pl)) (nI (f2 + 1)) ((lo)) ((fi)) ((se)) (tk) (bk) (wn) (wb) (fl) (upd fa2 f2 (nI ((i + 1) - pl))) (rp)) := hD
                      refine lv_iinc (v := nI (i + 1)) (lv' := [(2, .int (nI (i + 1))), (1, .int (nI (q + 1))), (0, .ref (z 0))]) hx hb dX0_search_134 hl (k := 1) rfl (ni_inc _) (by decide) rfl (fun ls hl => ?_)
                      refine lv_goto (tgt := 17) hx hb dX0_search_137 (by decide) ?_
                      have ho3 : oI wb bk (i + 1) pl pl := by rw [c_104] at ho2; exact ho2
                      exact ihloop (i + 1) (q + 1) _ _ (by omega) (by omega) ho2 (sI_yes hs ho3) _ _ _ hP hD hS (lv_sub hl [0, 1, 2] rfl)
                · skip
                  refine lv_aload_n hx hb dX0_search_46 rfl (lv_at hl 2 rfl) ?_
                  refine va_get (D := D) (ci := 0) (v := .ref (z 2)) (C := RX0) (T := TX0) (N := 13) hx hb hts in_X0 hown hK hP 0 rfl rfl 2 (by decide) (hts _ q27) (fun _ h9 => h9) rfl dX0_search_47 ?_
                  refine lv_iload_n hx hb dX0_search_50 rfl (lv_at hl 0 rfl) ?_
                  refine ni_ald hx hb hK hP 2 0 rfl rfl (by decide) dX0_search_51 (by omega) ?_
                  refine lv_iload_n hx hb dX0_search_52 rfl (lv_at hl 1 rfl) ?_
                  refine st_cSi (As := [.int (bk i), .int (nI (q))]) (rest := []) 2 ⟨hx, hb, hml, hown, hts⟩ (mX_within l D z d0 d1 (bk i) q) (lw_S q94 q95 q15 q96) (by decide +kernel) ⟨Nat.le_of_ble_eq_true rfl, Nat.le_of_ble_eq_true rfl⟩ rfl rfl ⟨Nat.zero_le _, Nat.zero_le _⟩ hK hP hD hS hA rfl hl.1 rfl (Nat.le_of_ble_eq_true rfl) dX0_search_53 (fun r_53 H locs hq_53 hP hD hS => ?_)
                  refine lv_aload_n hx hb dX0_search_56 rfl (lv_at hl 2 rfl) ?_
                  refine va_get (D := D) (ci := 0) (v := .ref (z 4)) (C := RX0) (T := TX0) (N := 13) hx hb hts in_X0 hown hK hP 0 rfl rfl 5 (by decide) (hts _ q30) (fun _ h9 => h9) rfl dX0_search_57 ?_
                  refine lv_iload_n hx hb dX0_search_60 rfl (lv_at hl 1 rfl) ?_
                  refine ni_ald hx hb hK hP 4 0 rfl rfl (by decide) dX0_search_61 (by omega) ?_
                  refine lv_icmp_eq (tgt := 77) hx hb dX0_search_62 (by decide) (fun c_62 => ?_) (fun c_62 => ?_)
                  · skip
                    refine lv_aload_n hx hb dX0_search_77 rfl (lv_at hl 2 rfl) ?_
                    refine va_get (D := D) (ci := 0) (v := .ref (z 2)) (C := RX0) (T := TX0) (N := 13) hx hb hts in_X0 hown hK hP 0 rfl rfl 2 (by decide) (hts _ q27) (fun _ h9 => h9) rfl dX0_search_78 ?_
                    refine lv_iload_n hx hb dX0_search_81 rfl (lv_at hl 0 rfl) ?_
                    refine ni_ald hx hb hK hP 2 0 rfl rfl (by decide) dX0_search_82 (by omega) ?_
                    refine lv_iload_n hx hb dX0_search_83 rfl (lv_at hl 1 rfl) ?_
                    refine st_cSi (As := [.int (bk i), .int (nI (q))]) (rest := []) 2 ⟨hx, hb, hml, hown, hts⟩ (mX_within l D z d0 d1 (bk i) q) (lw_S q94 q95 q15 q96) (by decide +kernel) ⟨Nat.le_of_ble_eq_true rfl, Nat.le_of_ble_eq_true rfl⟩ rfl rfl ⟨Nat.zero_le _, Nat.zero_le _⟩ hK hP hD hS hA rfl hl.1 rfl (Nat.le_of_ble_eq_true rfl) dX0_search_84 (fun r_84 H locs hq_84 hP hD hS => ?_)
                    refine lv_aload_n hx hb dX0_search_87 rfl (lv_at hl 2 rfl) ?_
                    refine va_get (D := D) (ci := 0) (v := .ref (z 4)) (C := RX0) (T := TX0) (N := 13) hx hb hts in_X0 hown hK hP 0 rfl rfl 5 (by decide) (hts _ q30) (fun _ h9 => h9) rfl dX0_search_88 ?_
                    refine lv_iload_n hx hb dX0_search_91 rfl (lv_at hl 1 rfl) ?_
                    refine ni_ald hx hb hK hP 4 0 rfl rfl (by decide) dX0_search_92 (by omega) ?_
                    refine lv_icmp_ne (tgt := 99) hx hb dX0_search_93 (by decide) (fun c_93 => absurd c_93 (fun h => h (by rw [hq_84, ← hq_53]; exact c_62))) (fun c_93 => ?_)
                    refine lv_iinc (v := nI (q + 1)) (lv' := [(1, .int (nI (q + 1))), (2, .int (nI (i))), (0, .ref (z 0))]) hx hb dX0_search_96 hl (k := 1) rfl (ni_inc _) (by decide) rfl (fun ls hl => ?_)
                    have ho2 : oI wb bk (i + 1) pl (q + 1) := kI_found hk (hq_84.symm.trans c_93) (PI_wi hpl hPI hk.1)
                    refine lv_iload_n hx hb dX0_search_99 rfl (lv_at hl 0 rfl) ?_
                    refine lv_aload_n hx hb dX0_search_100 rfl (lv_at hl 2 rfl) ?_
                    refine va_get (D := D) (ci := 0) (v := .int (nI (pl))) (C := RX0) (T := TX0) (N := 13) hx hb hts in_X0 hown hK hP 0 rfl rfl 3 (by decide) (hts _ q28) (fun _ h9 => h9) rfl dX0_search_101 ?_
                    refine ni_icmp_ne (tgt := 134) hx hb dX0_search_104 (by decide) (by omega) (by omega) (fun c_104 => ?_) (fun c_104 => ?_)
                    · skip
                      refine lv_iinc (v := nI (i + 1)) (lv' := [(2, .int (nI (i + 1))), (1, .int (nI (q + 1))), (0, .ref (z 0))]) hx hb dX0_search_134 hl (k := 1) rfl (ni_inc _) (by decide) rfl (fun ls hl => ?_)
                      refine lv_goto (tgt := 17) hx hb dX0_search_137 (by decide) ?_
                      exact ihloop (i + 1) (q + 1) _ _ (by omega) (by omega) ho2 (sI_no hs ho2 c_104) _ _ _ hP hD hS (lv_sub hl [0, 1, 2] rfl)
                    · skip
                      refine lv_aload_n hx hb dX0_search_107 rfl (lv_at hl 2 rfl) ?_
                      refine va_get (D := D) (ci := 0) (v := .ref (z 6)) (C := RX0) (T := TX0) (N := 13) hx hb hts in_X0 hown hK hP 0 rfl rfl 8 (by decide) (hts _ q33) (fun _ h9 => h9) rfl dX0_search_108 ?_
                      refine lv_aload_n hx hb dX0_search_111 rfl (lv_at hl 2 rfl) ?_
                      refine va_get (D := D) (ci := 0) (v := .int (nI (f2))) (C := RX0) (T := TX0) (N := 13) hx hb hts in_X0 hown hK hP 0 rfl rfl 7 (by decide) (hts _ q32) (fun _ h9 => h9) rfl dX0_search_112 ?_
                      refine lv_iload_n hx hb dX0_search_115 rfl (lv_at hl 1 rfl) ?_
                      refine lv_iconst (v := nI (1)) hx hb dX0_search_116 (by decide) ?_
                      refine ni_add hx hb dX0_search_117 ?_
                      refine lv_aload_n hx hb dX0_search_118 rfl (lv_at hl 2 rfl) ?_
                      refine va_get (D := D) (ci := 0) (v := .int (nI (pl))) (C := RX0) (T := TX0) (N := 13) hx hb hts in_X0 hown hK hP 0 rfl rfl 3 (by decide) (hts _ q28) (fun _ h9 => h9) rfl dX0_search_119 ?_
                      refine ni_sub (by omega) hx hb dX0_search_122 ?_
                      refine ni_ast (ws2 := (wX z d0 d1 (nI (tl)) (nI (pl)) (nI (f2)) ((lo)) ((fi)) ((se)) (tk) (bk) (wn) (wb) (fl) (upd fa2 f2 (nI ((i + 1) - pl))) (rp))) hx hb hK hP hD hS 6 0 rfl rfl rfl (by decide) dX0_search_123 (by omega) (fun H locs hP hD hS => ?_)
                      refine lv_aload_n hx hb dX0_search_124 rfl (lv_at hl 2 rfl) ?_
                      refine lv_dup hx hb dX0_search_125 rfl ?_
                      refine va_get (D := D) (ci := 0) (v := .int (nI (f2))) (C := RX0) (T := TX0) (N := 13) hx hb hts in_X0 hown hK hP 0 rfl rfl 7 (by decide) (hts _ q32) (fun _ h9 => h9) rfl dX0_search_126 ?_
                      refine lv_iconst (v := nI (1)) hx hb dX0_search_129 (by decide) ?_
                      refine ni_add hx hb dX0_search_130 ?_
                      refine va_put (D := D) (ci := 0) (v := .int (nI (f2 + 1))) (ty := .int) (C := RX0) (T := TX0) (N := 13) hx hb hts in_X0 tyX0 tyX0_ok nmX0 hown hK hP hD hS 0 rfl rfl 7 (by decide) (hts _ q32) (fun _ h9 => h9) rfl (by decide +kernel) rfl rfl (Nat.le_of_ble_eq_true rfl) dX0_search_131 (fun H locs hP hD hS => ?_)
                      have hP : va_P D vwCl (wX z d0 d1 (nI (tl)) (nI (pl)) (nI (f2 + 1)) ((lo)) ((fi)) ((se)) (tk) (bk) (wn) (wb) (fl) (upd fa2 f2 (nI ((i + 1) - pl))) (rp)) H := hP
                      have hD : va_D A (wX z d0 d1 (nI (tl)) (nI (pl)) (nI (f2 + 1)) ((lo)) ((fi)) ((se)) (tk) (bk) (wn) (wb) (fl) (upd fa2 f2 (nI ((i + 1) - pl))) (rp)) := hD
                      refine lv_iinc (v := nI (i + 1)) (lv' := [(2, .int (nI (i + 1))), (1, .int (nI (q + 1))), (0, .ref (z 0))]) hx hb dX0_search_134 hl (k := 1) rfl (ni_inc _) (by decide) rfl (fun ls hl => ?_)
                      refine lv_goto (tgt := 17) hx hb dX0_search_137 (by decide) ?_
                      have ho3 : oI wb bk (i + 1) pl pl := by rw [c_104] at ho2; exact ho2
                      exact ihloop (i + 1) (q + 1) _ _ (by omega) (by omega) ho2 (sI_yes hs ho3) _ _ _ hP hD hS (lv_sub hl [0, 1, 2] rfl)
                  · skip
                    refine lv_aload_n hx hb dX0_search_65 rfl (lv_at hl 2 rfl) ?_
                    refine va_get (D := D) (ci := 0) (v := .ref (z 5)) (C := RX0) (T := TX0) (N := 13) hx hb hts in_X0 hown hK hP 0 rfl rfl 6 (by decide) (hts _ q31) (fun _ h9 => h9) rfl dX0_search_66 ?_
                    refine lv_iload_n hx hb dX0_search_69 rfl (lv_at hl 1 rfl) ?_
                    refine lv_iconst (v := nI (1)) hx hb dX0_search_70 (by decide) ?_
                    refine ni_sub (by omega) hx hb dX0_search_71 ?_
                    refine ni_ald hx hb hK hP 5 0 rfl rfl (by decide) dX0_search_72 (by omega) ?_
                    obtain ⟨k2, hk3, hk4, hk5⟩ := PI_F hPI c_43 (by omega)
                    refine st_topi hk3 ?_
                    refine lv_istore_n (lv' := [(1, .int (nI (k2))), (2, .int (nI (i))), (0, .ref (z 0))]) hx hb dX0_search_73 rfl hl (by decide) rfl (fun ls hl => ?_)
                    refine lv_goto (tgt := 42) hx hb dX0_search_74 (by decide) ?_
                    exact ihinner k2 (by have := hk4.1; omega) (kI_step (by omega) hk (fun h => c_62 (hq_53.trans h)) (PI_wi hpl hPI hk.1) hk4 hk5) _ _ _ hP hD hS (lv_sub hl [1, 0, 2] rfl)
            exact inner (q + 1) q (by omega) (oI_start ho (by omega)) _ _ _ hP hD hS (lv_sub hl [0, 1, 2] rfl)
          · skip
            refine lv_aload_n hx hb dX0_search_33 rfl (lv_at hl 2 rfl) ?_
            refine va_get (D := D) (ci := 0) (v := .ref (z 5)) (C := RX0) (T := TX0) (N := 13) hx hb hts in_X0 hown hK hP 0 rfl rfl 6 (by decide) (hts _ q31) (fun _ h9 => h9) rfl dX0_search_34 ?_
            refine lv_iload_n hx hb dX0_search_37 rfl (lv_at hl 1 rfl) ?_
            refine lv_iconst (v := nI (1)) hx hb dX0_search_38 (by decide) ?_
            refine ni_sub (by omega) hx hb dX0_search_39 ?_
            refine ni_ald hx hb hK hP 5 0 rfl rfl (by decide) dX0_search_40 (by omega) ?_
            obtain ⟨k2, hk3, hk4, hk5⟩ := PI_F hPI (q := q) (by omega) (by omega)
            refine st_topi hk3 ?_
            rw [c_30] at hk4 hk5 ho
            refine lv_istore_n (lv' := [(1, .int (nI (k2))), (2, .int (nI (i))), (0, .ref (z 0))]) hx hb dX0_search_41 rfl hl (by decide) rfl (fun ls hl => ?_)
            have inner : ∀ (fu : Nat) (q : Nat), q < fu → kI wb bk i pl q → ∀ (H : Heap) (locs : List Loc) (ls : Array Slot), va_P D vwCl (wX z d0 d1 (nI (tl)) (nI (pl)) (nI (f2)) ((lo)) ((fi)) ((se)) (tk) (bk) (wn) (wb) (fl) (fa2) (rp)) H → va_D A (wX z d0 d1 (nI (tl)) (nI (pl)) (nI (f2)) ((lo)) ((fi)) ((se)) (tk) (bk) (wn) (wb) (fl) (fa2) (rp)) → va_S A s.heap H locs → lv_has ls 3 [(2, .int (nI (i))), (1, .int (nI (q))), (0, .ref (z 0))] → W p l e ({ frames := 1, cells := 0, slots := 0, locals := 21 } : Room) s m ([.ref (z 0)] : List Value).toArray below meth c H locs 0 0 (MQ below ((st_V D (tyA d0 d1) (fun (u : Nat × (Nat → Int32)) => (u.1 = cnt (mtX wb bk tl pl) tl ∧ ∀ q, q < tl → (mtX wb bk tl pl) q → u.2 (cnt (mtX wb bk tl pl) q) = nI q)) (fun (u : Nat × (Nat → Int32)) => (wX z d0 d1 (nI (tl)) (nI (pl)) (nI (u.1)) ((lo)) ((fi)) ((se)) (tk) (bk) (wn) (wb) (fl) (u.2) (rp)))) A) ([.ref (z 0)] : List Value).toArray s 0 0 A) (F0 m 42 ls []) := by
              intro fu
              induction fu with
              | zero => intro q hf3 hk; exfalso; omega
              | succ fu ihinner =>
                intro q hf3 hk H locs ls hP hD hS hl
                have hqm := hk.1
                have hqi := hk.2.1
                refine lv_iload_n hx hb dX0_search_42 rfl (lv_at hl 1 rfl) ?_
                refine ni_if_le (tgt := 77) hx hb dX0_search_43 (by decide) (by omega) (fun c_43 => ?_) (fun c_43 => ?_)
                · skip
                  refine lv_aload_n hx hb dX0_search_77 rfl (lv_at hl 2 rfl) ?_
                  refine va_get (D := D) (ci := 0) (v := .ref (z 2)) (C := RX0) (T := TX0) (N := 13) hx hb hts in_X0 hown hK hP 0 rfl rfl 2 (by decide) (hts _ q27) (fun _ h9 => h9) rfl dX0_search_78 ?_
                  refine lv_iload_n hx hb dX0_search_81 rfl (lv_at hl 0 rfl) ?_
                  refine ni_ald hx hb hK hP 2 0 rfl rfl (by decide) dX0_search_82 (by omega) ?_
                  refine lv_iload_n hx hb dX0_search_83 rfl (lv_at hl 1 rfl) ?_
                  refine st_cSi (As := [.int (bk i), .int (nI (q))]) (rest := []) 2 ⟨hx, hb, hml, hown, hts⟩ (mX_within l D z d0 d1 (bk i) q) (lw_S q94 q95 q15 q96) (by decide +kernel) ⟨Nat.le_of_ble_eq_true rfl, Nat.le_of_ble_eq_true rfl⟩ rfl rfl ⟨Nat.zero_le _, Nat.zero_le _⟩ hK hP hD hS hA rfl hl.1 rfl (Nat.le_of_ble_eq_true rfl) dX0_search_84 (fun r_84 H locs hq_84 hP hD hS => ?_)
                  refine lv_aload_n hx hb dX0_search_87 rfl (lv_at hl 2 rfl) ?_
                  refine va_get (D := D) (ci := 0) (v := .ref (z 4)) (C := RX0) (T := TX0) (N := 13) hx hb hts in_X0 hown hK hP 0 rfl rfl 5 (by decide) (hts _ q30) (fun _ h9 => h9) rfl dX0_search_88 ?_
                  refine lv_iload_n hx hb dX0_search_91 rfl (lv_at hl 1 rfl) ?_
                  refine ni_ald hx hb hK hP 4 0 rfl rfl (by decide) dX0_search_92 (by omega) ?_
                  refine lv_icmp_ne (tgt := 99) hx hb dX0_search_93 (by decide) (fun c_93 => ?_) (fun c_93 => ?_)
                  · skip
                    have ho2 : oI wb bk (i + 1) pl q := by
                      subst c_43
                      exact kI_none hk (fun h => c_93 (hq_84.trans h)) (PI_wi hpl hPI hk.1)
                    refine lv_iload_n hx hb dX0_search_99 rfl (lv_at hl 1 rfl) ?_
                    refine lv_aload_n hx hb dX0_search_100 rfl (lv_at hl 2 rfl) ?_
                    refine va_get (D := D) (ci := 0) (v := .int (nI (pl))) (C := RX0) (T := TX0) (N := 13) hx hb hts in_X0 hown hK hP 0 rfl rfl 3 (by decide) (hts _ q28) (fun _ h9 => h9) rfl dX0_search_101 ?_
                    refine ni_icmp_ne (tgt := 134) hx hb dX0_search_104 (by decide) (by omega) (by omega) (fun c_104 => ?_) (fun c_104 => absurd c_104 (by omega))
                    refine lv_iinc (v := nI (i + 1)) (lv' := [(2, .int (nI (i + 1))), (1, .int (nI (q))), (0, .ref (z 0))]) hx hb dX0_search_134 hl (k := 0) rfl (ni_inc _) (by decide) rfl (fun ls hl => ?_)
                    refine lv_goto (tgt := 17) hx hb dX0_search_137 (by decide) ?_
                    exact ihloop (i + 1) q _ _ (by omega) (by omega) ho2 (sI_no hs ho2 c_104) _ _ _ hP hD hS (lv_sub hl [0, 1, 2] rfl)
                  · skip
                    refine lv_iinc (v := nI (q + 1)) (lv' := [(1, .int (nI (q + 1))), (2, .int (nI (i))), (0, .ref (z 0))]) hx hb dX0_search_96 hl (k := 1) rfl (ni_inc _) (by decide) rfl (fun ls hl => ?_)
                    have ho2 : oI wb bk (i + 1) pl (q + 1) := kI_found hk (hq_84.symm.trans c_93) (PI_wi hpl hPI hk.1)
                    refine lv_iload_n hx hb dX0_search_99 rfl (lv_at hl 0 rfl) ?_
                    refine lv_aload_n hx hb dX0_search_100 rfl (lv_at hl 2 rfl) ?_
                    refine va_get (D := D) (ci := 0) (v := .int (nI (pl))) (C := RX0) (T := TX0) (N := 13) hx hb hts in_X0 hown hK hP 0 rfl rfl 3 (by decide) (hts _ q28) (fun _ h9 => h9) rfl dX0_search_101 ?_
                    refine ni_icmp_ne (tgt := 134) hx hb dX0_search_104 (by decide) (by omega) (by omega) (fun c_104 => ?_) (fun c_104 => ?_)
                    · skip
                      refine lv_iinc (v := nI (i + 1)) (lv' := [(2, .int (nI (i + 1))), (1, .int (nI (q + 1))), (0, .ref (z 0))]) hx hb dX0_search_134 hl (k := 1) rfl (ni_inc _) (by decide) rfl (fun ls hl => ?_)
                      refine lv_goto (tgt := 17) hx hb dX0_search_137 (by decide) ?_
                      exact ihloop (i + 1) (q + 1) _ _ (by omega) (by omega) ho2 (sI_no hs ho2 c_104) _ _ _ hP hD hS (lv_sub hl [0, 1, 2] rfl)
                    · skip
                      refine lv_aload_n hx hb dX0_search_107 rfl (lv_at hl 2 rfl) ?_
                      refine va_get (D := D) (ci := 0) (v := .ref (z 6)) (C := RX0) (T := TX0) (N := 13) hx hb hts in_X0 hown hK hP 0 rfl rfl 8 (by decide) (hts _ q33) (fun _ h9 => h9) rfl dX0_search_108 ?_
                      refine lv_aload_n hx hb dX0_search_111 rfl (lv_at hl 2 rfl) ?_
                      refine va_get (D := D) (ci := 0) (v := .int (nI (f2))) (C := RX0) (T := TX0) (N := 13) hx hb hts in_X0 hown hK hP 0 rfl rfl 7 (by decide) (hts _ q32) (fun _ h9 => h9) rfl dX0_search_112 ?_
                      refine lv_iload_n hx hb dX0_search_115 rfl (lv_at hl 1 rfl) ?_
                      refine lv_iconst (v := nI (1)) hx hb dX0_search_116 (by decide) ?_
                      refine ni_add hx hb dX0_search_117 ?_
                      refine lv_aload_n hx hb dX0_search_118 rfl (lv_at hl 2 rfl) ?_
                      refine va_get (D := D) (ci := 0) (v := .int (nI (pl))) (C := RX0) (T := TX0) (N := 13) hx hb hts in_X0 hown hK hP 0 rfl rfl 3 (by decide) (hts _ q28) (fun _ h9 => h9) rfl dX0_search_119 ?_
                      refine ni_sub (by omega) hx hb dX0_search_122 ?_
                      refine ni_ast (ws2 := (wX z d0 d1 (nI (tl)) (nI (pl)) (nI (f2)) ((lo)) ((fi)) ((se)) (tk) (bk) (wn) (wb) (fl) (upd fa2 f2 (nI ((i + 1) - pl))) (rp))) hx hb hK hP hD hS 6 0 rfl rfl rfl (by decide) dX0_search_123 (by omega) (fun H locs hP hD hS => ?_)
                      refine lv_aload_n hx hb dX0_search_124 rfl (lv_at hl 2 rfl) ?_
                      refine lv_dup hx hb dX0_search_125 rfl ?_
                      refine va_get (D := D) (ci := 0) (v := .int (nI (f2))) (C := RX0) (T := TX0) (N := 13) hx hb hts in_X0 hown hK hP 0 rfl rfl 7 (by decide) (hts _ q32) (fun _ h9 => h9) rfl dX0_search_126 ?_
                      refine lv_iconst (v := nI (1)) hx hb dX0_search_129 (by decide) ?_
                      refine ni_add hx hb dX0_search_130 ?_
                      refine va_put (D := D) (ci := 0) (v := .int (nI (f2 + 1))) (ty := .int) (C := RX0) (T := TX0) (N := 13) hx hb hts in_X0 tyX0 tyX0_ok nmX0 hown hK hP hD hS 0 rfl rfl 7 (by decide) (hts _ q32) (fun _ h9 => h9) rfl (by decide +kernel) rfl rfl (Nat.le_of_ble_eq_true rfl) dX0_search_131 (fun H locs hP hD hS => ?_)
                      have hP : va_P D vwCl (wX z d0 d1 (nI (tl)) (nI (pl)) (nI (f2 + 1)) ((lo)) ((fi)) ((se)) (tk) (bk) (wn) (wb) (fl) (upd fa2 f2 (nI ((i + 1) - pl))) (rp)) H := hP
                      have hD : va_D A (wX z d0 d1 (nI (tl)) (nI (pl)) (nI (f2 + 1)) ((lo)) ((fi)) ((se)) (tk) (bk) (wn) (wb) (fl) (upd fa2 f2 (nI ((i + 1) - pl))) (rp)) := hD
                      refine lv_iinc (v := nI (i + 1)) (lv' := [(2, .int (nI (i + 1))), (1, .int (nI (q + 1))), (0, .ref (z 0))]) hx hb dX0_search_134 hl (k := 1) rfl (ni_inc _) (by decide) rfl (fun ls hl => ?_)
                      refine lv_goto (tgt := 17) hx hb dX0_search_137 (by decide) ?_
                      have ho3 : oI wb bk (i + 1) pl pl := by rw [c_104] at ho2; exact ho2
                      exact ihloop (i + 1) (q + 1) _ _ (by omega) (by omega) ho2 (sI_yes hs ho3) _ _ _ hP hD hS (lv_sub hl [0, 1, 2] rfl)
                · skip
                  refine lv_aload_n hx hb dX0_search_46 rfl (lv_at hl 2 rfl) ?_
                  refine va_get (D := D) (ci := 0) (v := .ref (z 2)) (C := RX0) (T := TX0) (N := 13) hx hb hts in_X0 hown hK hP 0 rfl rfl 2 (by decide) (hts _ q27) (fun _ h9 => h9) rfl dX0_search_47 ?_
                  refine lv_iload_n hx hb dX0_search_50 rfl (lv_at hl 0 rfl) ?_
                  refine ni_ald hx hb hK hP 2 0 rfl rfl (by decide) dX0_search_51 (by omega) ?_
                  refine lv_iload_n hx hb dX0_search_52 rfl (lv_at hl 1 rfl) ?_
                  refine st_cSi (As := [.int (bk i), .int (nI (q))]) (rest := []) 2 ⟨hx, hb, hml, hown, hts⟩ (mX_within l D z d0 d1 (bk i) q) (lw_S q94 q95 q15 q96) (by decide +kernel) ⟨Nat.le_of_ble_eq_true rfl, Nat.le_of_ble_eq_true rfl⟩ rfl rfl ⟨Nat.zero_le _, Nat.zero_le _⟩ hK hP hD hS hA rfl hl.1 rfl (Nat.le_of_ble_eq_true rfl) dX0_search_53 (fun r_53 H locs hq_53 hP hD hS => ?_)
                  refine lv_aload_n hx hb dX0_search_56 rfl (lv_at hl 2 rfl) ?_
                  refine va_get (D := D) (ci := 0) (v := .ref (z 4)) (C := RX0) (T := TX0) (N := 13) hx hb hts in_X0 hown hK hP 0 rfl rfl 5 (by decide) (hts _ q30) (fun _ h9 => h9) rfl dX0_search_57 ?_
                  refine lv_iload_n hx hb dX0_search_60 rfl (lv_at hl 1 rfl) ?_
                  refine ni_ald hx hb hK hP 4 0 rfl rfl (by decide) dX0_search_61 (by omega) ?_
                  refine lv_icmp_eq (tgt := 77) hx hb dX0_search_62 (by decide) (fun c_62 => ?_) (fun c_62 => ?_)
                  · skip
                    refine lv_aload_n hx hb dX0_search_77 rfl (lv_at hl 2 rfl) ?_
                    refine va_get (D := D) (ci := 0) (v := .ref (z 2)) (C := RX0) (T := TX0) (N := 13) hx hb hts in_X0 hown hK hP 0 rfl rfl 2 (by decide) (hts _ q27) (fun _ h9 => h9) rfl dX0_search_78 ?_
                    refine lv_iload_n hx hb dX0_search_81 rfl (lv_at hl 0 rfl) ?_
                    refine ni_ald hx hb hK hP 2 0 rfl rfl (by decide) dX0_search_82 (by omega) ?_
                    refine lv_iload_n hx hb dX0_search_83 rfl (lv_at hl 1 rfl) ?_
                    refine st_cSi (As := [.int (bk i), .int (nI (q))]) (rest := []) 2 ⟨hx, hb, hml, hown, hts⟩ (mX_within l D z d0 d1 (bk i) q) (lw_S q94 q95 q15 q96) (by decide +kernel) ⟨Nat.le_of_ble_eq_true rfl, Nat.le_of_ble_eq_true rfl⟩ rfl rfl ⟨Nat.zero_le _, Nat.zero_le _⟩ hK hP hD hS hA rfl hl.1 rfl (Nat.le_of_ble_eq_true rfl) dX0_search_84 (fun r_84 H locs hq_84 hP hD hS => ?_)
                    refine lv_aload_n hx hb dX0_search_87 rfl (lv_at hl 2 rfl) ?_
                    refine va_get (D := D) (ci := 0) (v := .ref (z 4)) (C := RX0) (T := TX0) (N := 13) hx hb hts in_X0 hown hK hP 0 rfl rfl 5 (by decide) (hts _ q30) (fun _ h9 => h9) rfl dX0_search_88 ?_
                    refine lv_iload_n hx hb dX0_search_91 rfl (lv_at hl 1 rfl) ?_
                    refine ni_ald hx hb hK hP 4 0 rfl rfl (by decide) dX0_search_92 (by omega) ?_
                    refine lv_icmp_ne (tgt := 99) hx hb dX0_search_93 (by decide) (fun c_93 => absurd c_93 (fun h => h (by rw [hq_84, ← hq_53]; exact c_62))) (fun c_93 => ?_)
                    refine lv_iinc (v := nI (q + 1)) (lv' := [(1, .int (nI (q + 1))), (2, .int (nI (i))), (0, .ref (z 0))]) hx hb dX0_search_96 hl (k := 1) rfl (ni_inc _) (by decide) rfl (fun ls hl => ?_)
                    have ho2 : oI wb bk (i + 1) pl (q + 1) := kI_found hk (hq_84.symm.trans c_93) (PI_wi hpl hPI hk.1)
                    refine lv_iload_n hx hb dX0_search_99 rfl (lv_at hl 0 rfl) ?_
                    refine lv_aload_n hx hb dX0_search_100 rfl (lv_at hl 2 rfl) ?_
                    refine va_get (D := D) (ci := 0) (v := .int (nI (pl))) (C := RX0) (T := TX0) (N := 13) hx hb hts in_X0 hown hK hP 0 rfl rfl 3 (by decide) (hts _ q28) (fun _ h9 => h9) rfl dX0_search_101 ?_
                    refine ni_icmp_ne (tgt := 134) hx hb dX0_search_104 (by decide) (by omega) (by omega) (fun c_104 => ?_) (fun c_104 => ?_)
                    · skip
                      refine lv_iinc (v := nI (i + 1)) (lv' := [(2, .int (nI (i + 1))), (1, .int (nI (q + 1))), (0, .ref (z 0))]) hx hb dX0_search_134 hl (k := 1) rfl (ni_inc _) (by decide) rfl (fun ls hl => ?_)
                      refine lv_goto (tgt := 17) hx hb dX0_search_137 (by decide) ?_
                      exact ihloop (i + 1) (q + 1) _ _ (by omega) (by omega) ho2 (sI_no hs ho2 c_104) _ _ _ hP hD hS (lv_sub hl [0, 1, 2] rfl)
                    · skip
                      refine lv_aload_n hx hb dX0_search_107 rfl (lv_at hl 2 rfl) ?_
                      refine va_get (D := D) (ci := 0) (v := .ref (z 6)) (C := RX0) (T := TX0) (N := 13) hx hb hts in_X0 hown hK hP 0 rfl rfl 8 (by decide) (hts _ q33) (fun _ h9 => h9) rfl dX0_search_108 ?_
                      refine lv_aload_n hx hb dX0_search_111 rfl (lv_at hl 2 rfl) ?_
                      refine va_get (D := D) (ci := 0) (v := .int (nI (f2))) (C := RX0) (T := TX0) (N := 13) hx hb hts in_X0 hown hK hP 0 rfl rfl 7 (by decide) (hts _ q32) (fun _ h9 => h9) rfl dX0_search_112 ?_
                      refine lv_iload_n hx hb dX0_search_115 rfl (lv_at hl 1 rfl) ?_
                      refine lv_iconst (v := nI (1)) hx hb dX0_search_116 (by decide) ?_
                      refine ni_add hx hb dX0_search_117 ?_
                      refine lv_aload_n hx hb dX0_search_118 rfl (lv_at hl 2 rfl) ?_
                      refine va_get (D := D) (ci := 0) (v := .int (nI (pl))) (C := RX0) (T := TX0) (N := 13) hx hb hts in_X0 hown hK hP 0 rfl rfl 3 (by decide) (hts _ q28) (fun _ h9 => h9) rfl dX0_search_119 ?_
                      refine ni_sub (by omega) hx hb dX0_search_122 ?_
                      refine ni_ast (ws2 := (wX z d0 d1 (nI (tl)) (nI (pl)) (nI (f2)) ((lo)) ((fi)) ((se)) (tk) (bk) (wn) (wb) (fl) (upd fa2 f2 (nI ((i + 1) - pl))) (rp))) hx hb hK hP hD hS 6 0 rfl rfl rfl (by decide) dX0_search_123 (by omega) (fun H locs hP hD hS => ?_)
                      refine lv_aload_n hx hb dX0_search_124 rfl (lv_at hl 2 rfl) ?_
                      refine lv_dup hx hb dX0_search_125 rfl ?_
                      refine va_get (D := D) (ci := 0) (v := .int (nI (f2))) (C := RX0) (T := TX0) (N := 13) hx hb hts in_X0 hown hK hP 0 rfl rfl 7 (by decide) (hts _ q32) (fun _ h9 => h9) rfl dX0_search_126 ?_
                      refine lv_iconst (v := nI (1)) hx hb dX0_search_129 (by decide) ?_
                      refine ni_add hx hb dX0_search_130 ?_
                      refine va_put (D := D) (ci := 0) (v := .int (nI (f2 + 1))) (ty := .int) (C := RX0) (T := TX0) (N := 13) hx hb hts in_X0 tyX0 tyX0_ok nmX0 hown hK hP hD hS 0 rfl rfl 7 (by decide) (hts _ q32) (fun _ h9 => h9) rfl (by decide +kernel) rfl rfl (Nat.le_of_ble_eq_true rfl) dX0_search_131 (fun H locs hP hD hS => ?_)
                      have hP : va_P D vwCl (wX z d0 d1 (nI (tl)) (nI (pl)) (nI (f2 + 1)) ((lo)) ((fi)) ((se)) (tk) (bk) (wn) (wb) (fl) (upd fa2 f2 (nI ((i + 1) - pl))) (rp)) H := hP
                      have hD : va_D A (wX z d0 d1 (nI (tl)) (nI (pl)) (nI (f2 + 1)) ((lo)) ((fi)) ((se)) (tk) (bk) (wn) (wb) (fl) (upd fa2 f2 (nI ((i + 1) - pl))) (rp)) := hD
                      refine lv_iinc (v := nI (i + 1)) (lv' := [(2, .int (nI (i + 1))), (1, .int (nI (q + 1))), (0, .ref (z 0))]) hx hb dX0_search_134 hl (k := 1) rfl (ni_inc _) (by decide) rfl (fun ls hl => ?_)
                      refine lv_goto (tgt := 17) hx hb dX0_search_137 (by decide) ?_
                      have ho3 : oI wb bk (i + 1) pl pl := by rw [c_104] at ho2; exact ho2
                      exact ihloop (i + 1) (q + 1) _ _ (by omega) (by omega) ho2 (sI_yes hs ho3) _ _ _ hP hD hS (lv_sub hl [0, 1, 2] rfl)
                  · skip
                    refine lv_aload_n hx hb dX0_search_65 rfl (lv_at hl 2 rfl) ?_
                    refine va_get (D := D) (ci := 0) (v := .ref (z 5)) (C := RX0) (T := TX0) (N := 13) hx hb hts in_X0 hown hK hP 0 rfl rfl 6 (by decide) (hts _ q31) (fun _ h9 => h9) rfl dX0_search_66 ?_
                    refine lv_iload_n hx hb dX0_search_69 rfl (lv_at hl 1 rfl) ?_
                    refine lv_iconst (v := nI (1)) hx hb dX0_search_70 (by decide) ?_
                    refine ni_sub (by omega) hx hb dX0_search_71 ?_
                    refine ni_ald hx hb hK hP 5 0 rfl rfl (by decide) dX0_search_72 (by omega) ?_
                    obtain ⟨k2, hk3, hk4, hk5⟩ := PI_F hPI c_43 (by omega)
                    refine st_topi hk3 ?_
                    refine lv_istore_n (lv' := [(1, .int (nI (k2))), (2, .int (nI (i))), (0, .ref (z 0))]) hx hb dX0_search_73 rfl hl (by decide) rfl (fun ls hl => ?_)
                    refine lv_goto (tgt := 42) hx hb dX0_search_74 (by decide) ?_
                    exact ihinner k2 (by have := hk4.1; omega) (kI_step (by omega) hk (fun h => c_62 (hq_53.trans h)) (PI_wi hpl hPI hk.1) hk4 hk5) _ _ _ hP hD hS (lv_sub hl [1, 0, 2] rfl)
            exact inner (k2 + 1) k2 (by omega) (oI_full (by omega) ho hk4 hk5) _ _ _ hP hD hS (lv_sub hl [1, 0, 2] rfl)
    exact loop (tl + 1) 0 0 0 fa (by omega) (by omega) ⟨by omega, by omega, al_0, fun k h1 h2 h3 => h2⟩ (by rw [show 0 + 1 - pl = 0 by omega]; exact sI_0) _ _ _ hP hD hS (lv_sub hl [0, 1, 2] rfl)
  · skip
    exact st_vret (0, fa) hx hb hr hlocks hK hP hD hS dX0_search_12 ⟨mt_none c_9, fun q _ h => absurd h.1 (by omega)⟩

set_option maxHeartbeats 4000000 in
set_option maxRecDepth 100000 in
/-- matches() -/
theorem mX_matches (l : Launch) (D : va_G) (z : Nat → Nat) (d0 d1 : ClassId) (tl pl : Nat) (fo lo fi se : Int32) (tk bk wn wb fl fa rp : Nat → Int32) (htl : tl ≤ 48) (hpl : pl ≤ 12) (hPI : PI pl wn wb fl) : ct_I l yX0_matches cX0_matches 1 (some .int) ({ frames := 2, cells := 0, slots := 0, locals := 43 } : Room) ([.ref (z 0)] : List Value) D (tyA d0 d1) (wX z d0 d1 (nI (tl)) (nI (pl)) ((fo)) ((lo)) ((fi)) ((se)) (tk) (bk) (wn) (wb) (fl) (fa) (rp)) (fun r (_ : Nat × (Nat → Int32)) => r = nI (cnt (mtX wb bk tl pl) tl)) (fun (u : Nat × (Nat → Int32)) => (wX z d0 d1 (nI (tl)) (nI (pl)) (nI (u.1)) ((lo)) ((fi)) ((se)) (tk) (bk) (wn) (wb) (fl) (u.2) (rp))) := by
  intro sz
  refine st_of (QA := (st_I D (tyA d0 d1) (fun r (_ : Nat × (Nat → Int32)) => r = nI (cnt (mtX wb bk tl pl) tl)) (fun (u : Nat × (Nat → Int32)) => (wX z d0 d1 (nI (tl)) (nI (pl)) (nI (u.1)) ((lo)) ((fi)) ((se)) (tk) (bk) (wn) (wb) (fl) (u.2) (rp))))) (by decide) (Nat.le_of_ble_eq_true rfl) ?_
  intro p e s m below meth c A ls hx hb hr hml hlocks hown hts hname hK hP hD hS hA hl
  have hl : lv_has ls 1 [(0, .ref (z 0))] := hl
  have hown : s.vm.findClass RX0 = some m.cls := hown
  refine lv_aload_n hx hb dX0_matches_0 rfl (lv_at hl 0 rfl) ?_
  refine st_cVv0 (ci := 0) (qc := (RX0, TX0, 13)) (As := []) (rest := []) 0 ⟨hx, hb, hml, hown, hts⟩ (mX_search l D z d0 d1 tl pl (fo) (lo) (fi) (se) tk bk wn wb fl fa rp (by omega) (by omega) hPI) (lw_V q114 q116 qs3 q15 q117) (by decide +kernel) ⟨Nat.le_of_ble_eq_true rfl, Nat.le_of_ble_eq_true rfl⟩ rfl rfl ⟨Nat.zero_le _, Nat.zero_le _⟩ hK hP hD hS hA rfl rfl rfl hl.1 rfl (Nat.le_of_ble_eq_true rfl) dX0_matches_1 (fun u_1 H locs hq_1 hP hD hS => ?_)
  have hP : va_P D vwCl (wX z d0 d1 (nI (tl)) (nI (pl)) (nI (u_1.1)) ((lo)) ((fi)) ((se)) (tk) (bk) (wn) (wb) (fl) (u_1.2) (rp)) H := hP
  have hD : va_D A (wX z d0 d1 (nI (tl)) (nI (pl)) (nI (u_1.1)) ((lo)) ((fi)) ((se)) (tk) (bk) (wn) (wb) (fl) (u_1.2) (rp)) := hD
  obtain ⟨f2, fa2⟩ := u_1
  obtain ⟨hs1, hs2⟩ := hq_1
  have hs1 : f2 = cnt (mtX wb bk tl pl) tl := hs1
  have hs2 : ∀ q, q < tl → (mtX wb bk tl pl) q → fa2 (cnt (mtX wb bk tl pl) q) = nI q := hs2
  have hf2 : f2 ≤ tl := by rw [hs1]; exact cnt_le _ _
  have hP : va_P D vwCl (wX z d0 d1 (nI (tl)) (nI (pl)) (nI (f2)) ((lo)) ((fi)) ((se)) (tk) (bk) (wn) (wb) (fl) (fa2) (rp)) H := hP
  have hD : va_D A (wX z d0 d1 (nI (tl)) (nI (pl)) (nI (f2)) ((lo)) ((fi)) ((se)) (tk) (bk) (wn) (wb) (fl) (fa2) (rp)) := hD
  refine lv_aload_n hx hb dX0_matches_4 rfl (lv_at hl 0 rfl) ?_
  refine va_get (D := D) (ci := 0) (v := .int (nI (f2))) (C := RX0) (T := TX0) (N := 13) hx hb hts in_X0 hown hK hP 0 rfl rfl 7 (by decide) (hts _ q32) (fun _ h9 => h9) rfl dX0_matches_5 ?_
  exact st_iret (v := nI (f2)) (f2, fa2) hx hb hr hlocks hK hP hD hS dX0_matches_8 (by rw [hs1])

set_option maxHeartbeats 4000000 in
set_option maxRecDepth 100000 in
/-- matchAt(x) -/
theorem mX_matchAt (l : Launch) (D : va_G) (z : Nat → Nat) (d0 d1 : ClassId) (tl pl : Nat) (fo lo fi se : Int32) (tk bk wn wb fl fa rp : Nat → Int32) (htl : tl ≤ 48) (hpl : pl ≤ 12) (hPI : PI pl wn wb fl) (x : Int32) : ct_I l yX0_matchAt cX0_matchAt 2 (some .int) ({ frames := 2, cells := 0, slots := 0, locals := 43 } : Room) ([.ref (z 0), .int (x)] : List Value) D (tyA d0 d1) (wX z d0 d1 (nI (tl)) (nI (pl)) ((fo)) ((lo)) ((fi)) ((se)) (tk) (bk) (wn) (wb) (fl) (fa) (rp)) (fun r (_ : Nat × (Nat → Int32)) => mAt (mtX wb bk tl pl) tl x r) (fun (u : Nat × (Nat → Int32)) => (wX z d0 d1 (nI (tl)) (nI (pl)) (nI (u.1)) ((lo)) ((fi)) ((se)) (tk) (bk) (wn) (wb) (fl) (u.2) (rp))) := by
  intro sz
  refine st_of (QA := (st_I D (tyA d0 d1) (fun r (_ : Nat × (Nat → Int32)) => mAt (mtX wb bk tl pl) tl x r) (fun (u : Nat × (Nat → Int32)) => (wX z d0 d1 (nI (tl)) (nI (pl)) (nI (u.1)) ((lo)) ((fi)) ((se)) (tk) (bk) (wn) (wb) (fl) (u.2) (rp))))) (by decide) (Nat.le_of_ble_eq_true rfl) ?_
  intro p e s m below meth c A ls hx hb hr hml hlocks hown hts hname hK hP hD hS hA hl
  have hl : lv_has ls 2 [(0, .ref (z 0)), (1, .int (x))] := hl
  have hown : s.vm.findClass RX0 = some m.cls := hown
  refine lv_aload_n hx hb dX0_matchAt_0 rfl (lv_at hl 0 rfl) ?_
  refine st_cVv0 (ci := 0) (qc := (RX0, TX0, 13)) (As := []) (rest := []) 0 ⟨hx, hb, hml, hown, hts⟩ (mX_search l D z d0 d1 tl pl (fo) (lo) (fi) (se) tk bk wn wb fl fa rp (by omega) (by omega) hPI) (lw_V q114 q116 qs3 q15 q117) (by decide +kernel) ⟨Nat.le_of_ble_eq_true rfl, Nat.le_of_ble_eq_true rfl⟩ rfl rfl ⟨Nat.zero_le _, Nat.zero_le _⟩ hK hP hD hS hA rfl rfl rfl hl.1 rfl (Nat.le_of_ble_eq_true rfl) dX0_matchAt_1 (fun u_1 H locs hq_1 hP hD hS => ?_)
  have hP : va_P D vwCl (wX z d0 d1 (nI (tl)) (nI (pl)) (nI (u_1.1)) ((lo)) ((fi)) ((se)) (tk) (bk) (wn) (wb) (fl) (u_1.2) (rp)) H := hP
  have hD : va_D A (wX z d0 d1 (nI (tl)) (nI (pl)) (nI (u_1.1)) ((lo)) ((fi)) ((se)) (tk) (bk) (wn) (wb) (fl) (u_1.2) (rp)) := hD
  obtain ⟨f2, fa2⟩ := u_1
  obtain ⟨hs1, hs2⟩ := hq_1
  have hs1 : f2 = cnt (mtX wb bk tl pl) tl := hs1
  have hs2 : ∀ q, q < tl → (mtX wb bk tl pl) q → fa2 (cnt (mtX wb bk tl pl) q) = nI q := hs2
  have hf2 : f2 ≤ tl := by rw [hs1]; exact cnt_le _ _
  have hP : va_P D vwCl (wX z d0 d1 (nI (tl)) (nI (pl)) (nI (f2)) ((lo)) ((fi)) ((se)) (tk) (bk) (wn) (wb) (fl) (fa2) (rp)) H := hP
  have hD : va_D A (wX z d0 d1 (nI (tl)) (nI (pl)) (nI (f2)) ((lo)) ((fi)) ((se)) (tk) (bk) (wn) (wb) (fl) (fa2) (rp)) := hD
  refine lv_iload_n hx hb dX0_matchAt_4 rfl (lv_at hl 1 rfl) ?_
  refine lv_if_lt (tgt := 16) hx hb dX0_matchAt_5 (by decide) (fun c_5 => ?_) (fun c_5 => ?_)
  · skip
    refine lv_bipush (v := (-4)) hx hb dX0_matchAt_16 (by decide) ?_
    refine lv_goto (tgt := 27) hx hb dX0_matchAt_18 (by decide) ?_
    exact st_iret (v := (-4)) (f2, fa2) hx hb hr hlocks hK hP hD hS dX0_matchAt_27 (Or.inr ⟨rfl, fun q hq hm h => absurd (h ▸ c_5) (nI_pos (by have := cnt_le (mtX wb bk tl pl) q; omega))⟩)
  · skip
    refine lv_iload_n hx hb dX0_matchAt_8 rfl (lv_at hl 1 rfl) ?_
    refine lv_aload_n hx hb dX0_matchAt_9 rfl (lv_at hl 0 rfl) ?_
    refine va_get (D := D) (ci := 0) (v := .int (nI (f2))) (C := RX0) (T := TX0) (N := 13) hx hb hts in_X0 hown hK hP 0 rfl rfl 7 (by decide) (hts _ q32) (fun _ h9 => h9) rfl dX0_matchAt_10 ?_
    refine lv_icmp_lt (tgt := 21) hx hb dX0_matchAt_13 (by decide) (fun c_13 => ?_) (fun c_13 => ?_)
    · skip
      obtain ⟨j, hj, rfl⟩ := in_of (by omega) ⟨c_5, c_13⟩
      refine lv_aload_n hx hb dX0_matchAt_21 rfl (lv_at hl 0 rfl) ?_
      refine va_get (D := D) (ci := 0) (v := .ref (z 6)) (C := RX0) (T := TX0) (N := 13) hx hb hts in_X0 hown hK hP 0 rfl rfl 8 (by decide) (hts _ q33) (fun _ h9 => h9) rfl dX0_matchAt_22 ?_
      refine lv_iload_n hx hb dX0_matchAt_25 rfl (lv_at hl 1 rfl) ?_
      refine ni_ald hx hb hK hP 6 0 rfl rfl (by decide) dX0_matchAt_26 (by omega) ?_
      obtain ⟨q, hq, hm, hc⟩ := cnt_ex (P := (mtX wb bk tl pl)) (n := tl) (j := j) (by omega)
      exact st_iret (v := (fa2 j)) (f2, fa2) hx hb hr hlocks hK hP hD hS dX0_matchAt_27 (Or.inl ⟨q, hq, hm, by rw [hc], by rw [← hc]; exact hs2 q hq hm⟩)
    · skip
      refine lv_bipush (v := (-4)) hx hb dX0_matchAt_16 (by decide) ?_
      refine lv_goto (tgt := 27) hx hb dX0_matchAt_18 (by decide) ?_
      exact st_iret (v := (-4)) (f2, fa2) hx hb hr hlocks hK hP hD hS dX0_matchAt_27 (Or.inr ⟨rfl, fun q hq hm h => c_13 (by rw [h]; exact nI_lt (by rw [hs1]; exact cnt_lt hq hm) (by omega))⟩)

set_option maxHeartbeats 4000000 in
set_option maxRecDepth 100000 in
/-- renamed(x, y) -/
theorem mX_renamed (l : Launch) (D : va_G) (z : Nat → Nat) (d0 d1 : ClassId) (tl pl : Nat) (fo lo fi se : Int32) (tk bk wn wb fl fa rp : Nat → Int32) (htl : tl ≤ 48) (hpl : pl ≤ 12) (hPI : PI pl wn wb fl) (x y : Int32) : ct_I l yX0_renamed cX0_renamed 4 (some .int) ({ frames := 2, cells := 0, slots := 0, locals := 43 } : Room) ([.ref (z 0), .int (x), .int (y)] : List Value) D (tyA d0 d1) (wX z d0 d1 (nI (tl)) (nI (pl)) ((fo)) ((lo)) ((fi)) ((se)) (tk) (bk) (wn) (wb) (fl) (fa) (rp)) (fun r (_ : Nat × (Nat → Int32)) => rnm (mtX wb bk tl pl) tl pl wn tk x y r) (fun (u : Nat × (Nat → Int32)) => (wX z d0 d1 (nI (tl)) (nI (pl)) (nI (u.1)) ((lo)) ((fi)) ((se)) (tk) (bk) (wn) (wb) (fl) (u.2) (rp))) := by
  intro sz
  refine st_of (QA := (st_I D (tyA d0 d1) (fun r (_ : Nat × (Nat → Int32)) => rnm (mtX wb bk tl pl) tl pl wn tk x y r) (fun (u : Nat × (Nat → Int32)) => (wX z d0 d1 (nI (tl)) (nI (pl)) (nI (u.1)) ((lo)) ((fi)) ((se)) (tk) (bk) (wn) (wb) (fl) (u.2) (rp))))) (by decide) (Nat.le_of_ble_eq_true rfl) ?_
  intro p e s m below meth c A ls hx hb hr hml hlocks hown hts hname hK hP hD hS hA hl
  have hl : lv_has ls 4 [(0, .ref (z 0)), (1, .int (x)), (2, .int (y))] := hl
  have hown : s.vm.findClass RX0 = some m.cls := hown
  refine lv_aload_n hx hb dX0_renamed_0 rfl (lv_at hl 0 rfl) ?_
  refine st_cVv0 (ci := 0) (qc := (RX0, TX0, 13)) (As := []) (rest := []) 0 ⟨hx, hb, hml, hown, hts⟩ (mX_search l D z d0 d1 tl pl (fo) (lo) (fi) (se) tk bk wn wb fl fa rp (by omega) (by omega) hPI) (lw_V q114 q116 qs3 q15 q117) (by decide +kernel) ⟨Nat.le_of_ble_eq_true rfl, Nat.le_of_ble_eq_true rfl⟩ rfl rfl ⟨Nat.zero_le _, Nat.zero_le _⟩ hK hP hD hS hA rfl rfl rfl hl.1 rfl (Nat.le_of_ble_eq_true rfl) dX0_renamed_1 (fun u_1 H locs hq_1 hP hD hS => ?_)
  have hP : va_P D vwCl (wX z d0 d1 (nI (tl)) (nI (pl)) (nI (u_1.1)) ((lo)) ((fi)) ((se)) (tk) (bk) (wn) (wb) (fl) (u_1.2) (rp)) H := hP
  have hD : va_D A (wX z d0 d1 (nI (tl)) (nI (pl)) (nI (u_1.1)) ((lo)) ((fi)) ((se)) (tk) (bk) (wn) (wb) (fl) (u_1.2) (rp)) := hD
  obtain ⟨f2, fa2⟩ := u_1
  obtain ⟨hs1, hs2⟩ := hq_1
  have hs1 : f2 = cnt (mtX wb bk tl pl) tl := hs1
  have hs2 : ∀ q, q < tl → (mtX wb bk tl pl) q → fa2 (cnt (mtX wb bk tl pl) q) = nI q := hs2
  have hf2 : f2 ≤ tl := by rw [hs1]; exact cnt_le _ _
  have hP : va_P D vwCl (wX z d0 d1 (nI (tl)) (nI (pl)) (nI (f2)) ((lo)) ((fi)) ((se)) (tk) (bk) (wn) (wb) (fl) (fa2) (rp)) H := hP
  have hD : va_D A (wX z d0 d1 (nI (tl)) (nI (pl)) (nI (f2)) ((lo)) ((fi)) ((se)) (tk) (bk) (wn) (wb) (fl) (fa2) (rp)) := hD
  refine lv_iload_n hx hb dX0_renamed_4 rfl (lv_at hl 1 rfl) ?_
  refine lv_if_lt (tgt := 28) hx hb dX0_renamed_5 (by decide) (fun c_5 => ?_) (fun c_5 => ?_)
  · skip
    refine lv_bipush (v := (-4)) hx hb dX0_renamed_28 (by decide) ?_
    exact st_iret (v := (-4)) (f2, fa2) hx hb hr hlocks hK hP hD hS dX0_renamed_30 (Or.inr ⟨rfl, fun q k h => absurd (h.2.2.1 ▸ c_5) (nI_pos (by have := cnt_le (mtX wb bk tl pl) q; have := h.1; omega))⟩)
  · skip
    refine lv_iload_n hx hb dX0_renamed_8 rfl (lv_at hl 1 rfl) ?_
    refine lv_aload_n hx hb dX0_renamed_9 rfl (lv_at hl 0 rfl) ?_
    refine va_get (D := D) (ci := 0) (v := .int (nI (f2))) (C := RX0) (T := TX0) (N := 13) hx hb hts in_X0 hown hK hP 0 rfl rfl 7 (by decide) (hts _ q32) (fun _ h9 => h9) rfl dX0_renamed_10 ?_
    refine lv_icmp_ge (tgt := 28) hx hb dX0_renamed_13 (by decide) (fun c_13 => ?_) (fun c_13 => ?_)
    · skip
      refine lv_bipush (v := (-4)) hx hb dX0_renamed_28 (by decide) ?_
      exact st_iret (v := (-4)) (f2, fa2) hx hb hr hlocks hK hP hD hS dX0_renamed_30 (Or.inr ⟨rfl, fun q k h => absurd c_13 (Int32.not_le.mpr (by rw [h.2.2.1]; exact nI_lt (by rw [hs1]; exact cnt_lt h.1 h.2.1) (by omega)))⟩)
    · skip
      refine lv_iload_n hx hb dX0_renamed_16 rfl (lv_at hl 2 rfl) ?_
      refine lv_bipush (v := nI (16)) hx hb dX0_renamed_17 (by decide) ?_
      refine lv_icmp_lt (tgt := 28) hx hb dX0_renamed_19 (by decide) (fun c_19 => ?_) (fun c_19 => ?_)
      · skip
        refine lv_bipush (v := (-4)) hx hb dX0_renamed_28 (by decide) ?_
        exact st_iret (v := (-4)) (f2, fa2) hx hb hr hlocks hK hP hD hS dX0_renamed_30 (Or.inr ⟨rfl, fun q k h => h.2.2.2.1 c_19⟩)
      · skip
        refine lv_iload_n hx hb dX0_renamed_22 rfl (lv_at hl 2 rfl) ?_
        refine lv_bipush (v := nI (31)) hx hb dX0_renamed_23 (by decide) ?_
        refine lv_icmp_le (tgt := 31) hx hb dX0_renamed_25 (by decide) (fun c_25 => ?_) (fun c_25 => ?_)
        · skip
          obtain ⟨j, hj, rfl⟩ := in_of (by omega) ⟨c_5, Int32.not_le.mp c_13⟩
          obtain ⟨p0, hp0, hm0, hc0⟩ := cnt_ex (P := (mtX wb bk tl pl)) (n := tl) (j := j) (by omega)
          have hfj : fa2 j = nI p0 := by rw [← hc0]; exact hs2 p0 hp0 hm0
          refine lv_iconst (v := nI (0)) hx hb dX0_renamed_31 (by decide) ?_
          refine lv_istore_n (lv' := [(3, .int (nI (0))), (0, .ref (z 0)), (1, .int (nI (j))), (2, .int (y))]) hx hb dX0_renamed_32 rfl hl (by decide) rfl (fun ls hl => ?_)
          have loop : ∀ (fu : Nat) (i : Nat), pl < i + fu → i ≤ pl → (∀ q, q < i → ¬ wn q = y) → ∀ (H : Heap) (locs : List Loc) (ls : Array Slot), va_P D vwCl (wX z d0 d1 (nI (tl)) (nI (pl)) (nI (f2)) ((lo)) ((fi)) ((se)) (tk) (bk) (wn) (wb) (fl) (fa2) (rp)) H → va_D A (wX z d0 d1 (nI (tl)) (nI (pl)) (nI (f2)) ((lo)) ((fi)) ((se)) (tk) (bk) (wn) (wb) (fl) (fa2) (rp)) → va_S A s.heap H locs → lv_has ls 4 [(3, .int (nI (i))), (0, .ref (z 0)), (1, .int (nI (j))), (2, .int (y))] → W p l e ({ frames := 2, cells := 0, slots := 0, locals := 43 } : Room) s m ([.ref (z 0), .int (nI (j)), .int (y)] : List Value).toArray below meth c H locs 0 0 (MQ below ((st_I D (tyA d0 d1) (fun r (_ : Nat × (Nat → Int32)) => rnm (mtX wb bk tl pl) tl pl wn tk (nI (j)) y r) (fun (u : Nat × (Nat → Int32)) => (wX z d0 d1 (nI (tl)) (nI (pl)) (nI (u.1)) ((lo)) ((fi)) ((se)) (tk) (bk) (wn) (wb) (fl) (u.2) (rp)))) A) ([.ref (z 0), .int (nI (j)), .int (y)] : List Value).toArray s 0 0 A) (F0 m 33 ls []) := by
            intro fu
            induction fu with
            | zero => intro i hf hi hn; exfalso; omega
            | succ fu ihloop =>
              intro i hf hi hn H locs ls hP hD hS hl
              have hpp := hm0.2.1
              refine lv_iload_n hx hb dX0_renamed_33 rfl (lv_at hl 0 rfl) ?_
              refine lv_aload_n hx hb dX0_renamed_34 rfl (lv_at hl 1 rfl) ?_
              refine va_get (D := D) (ci := 0) (v := .int (nI (pl))) (C := RX0) (T := TX0) (N := 13) hx hb hts in_X0 hown hK hP 0 rfl rfl 3 (by decide) (hts _ q28) (fun _ h9 => h9) rfl dX0_renamed_35 ?_
              refine ni_icmp_ge (tgt := 71) hx hb dX0_renamed_38 (by decide) (by omega) (by omega) (fun c_38 => ?_) (fun c_38 => ?_)
              · skip
                refine lv_bipush (v := (-4)) hx hb dX0_renamed_71 (by decide) ?_
                exact st_iret (v := (-4)) (f2, fa2) hx hb hr hlocks hK hP hD hS dX0_renamed_73 (Or.inr ⟨rfl, fun q k h => hn k (Nat.lt_of_lt_of_le h.2.2.2.2.2.1 c_38) h.2.2.2.2.2.2⟩)
              · skip
                refine lv_aload_n hx hb dX0_renamed_41 rfl (lv_at hl 1 rfl) ?_
                refine va_get (D := D) (ci := 0) (v := .ref (z 3)) (C := RX0) (T := TX0) (N := 13) hx hb hts in_X0 hown hK hP 0 rfl rfl 4 (by decide) (hts _ q29) (fun _ h9 => h9) rfl dX0_renamed_42 ?_
                refine lv_iload_n hx hb dX0_renamed_45 rfl (lv_at hl 0 rfl) ?_
                refine ni_ald hx hb hK hP 3 0 rfl rfl (by decide) dX0_renamed_46 (by omega) ?_
                refine lv_iload_n hx hb dX0_renamed_47 rfl (lv_at hl 3 rfl) ?_
                refine lv_icmp_ne (tgt := 65) hx hb dX0_renamed_48 (by decide) (fun c_48 => ?_) (fun c_48 => ?_)
                · skip
                  refine lv_iinc (v := nI (i + 1)) (lv' := [(3, .int (nI (i + 1))), (0, .ref (z 0)), (1, .int (nI (j))), (2, .int (y))]) hx hb dX0_renamed_65 hl (k := 0) rfl (ni_inc _) (by decide) rfl (fun ls hl => ?_)
                  refine lv_goto (tgt := 33) hx hb dX0_renamed_68 (by decide) ?_
                  exact ihloop (i + 1) (by omega) (by omega) (lt_s hn c_48) _ _ _ hP hD hS (lv_sub hl [0, 1, 2, 3] rfl)
                · skip
                  refine lv_aload_n hx hb dX0_renamed_51 rfl (lv_at hl 1 rfl) ?_
                  refine va_get (D := D) (ci := 0) (v := .ref (z 1)) (C := RX0) (T := TX0) (N := 13) hx hb hts in_X0 hown hK hP 0 rfl rfl 1 (by decide) (hts _ q26) (fun _ h9 => h9) rfl dX0_renamed_52 ?_
                  refine lv_aload_n hx hb dX0_renamed_55 rfl (lv_at hl 1 rfl) ?_
                  refine va_get (D := D) (ci := 0) (v := .ref (z 6)) (C := RX0) (T := TX0) (N := 13) hx hb hts in_X0 hown hK hP 0 rfl rfl 8 (by decide) (hts _ q33) (fun _ h9 => h9) rfl dX0_renamed_56 ?_
                  refine lv_iload_n hx hb dX0_renamed_59 rfl (lv_at hl 2 rfl) ?_
                  refine ni_ald hx hb hK hP 6 0 rfl rfl (by decide) dX0_renamed_60 (by omega) ?_
                  refine st_topi hfj ?_
                  refine lv_iload_n hx hb dX0_renamed_61 rfl (lv_at hl 0 rfl) ?_
                  refine ni_add hx hb dX0_renamed_62 ?_
                  refine ni_ald hx hb hK hP 1 0 rfl rfl (by decide) dX0_renamed_63 (by omega) ?_
                  exact st_iret (v := (tk (p0 + i))) (f2, fa2) hx hb hr hlocks hK hP hD hS dX0_renamed_64 (Or.inl ⟨p0, i, ⟨hp0, hm0, by rw [hc0], c_19, c_25, c_38, c_48⟩, hn, rfl⟩)
          exact loop (pl + 1) 0 (by omega) (by omega) lt_0 _ _ _ hP hD hS (lv_sub hl [0, 1, 2, 3] rfl)
        · skip
          refine lv_bipush (v := (-4)) hx hb dX0_renamed_28 (by decide) ?_
          exact st_iret (v := (-4)) (f2, fa2) hx hb hr hlocks hK hP hD hS dX0_renamed_30 (Or.inr ⟨rfl, fun q k h => c_25 h.2.2.2.2.1⟩)

set_option maxHeartbeats 4000000 in
set_option maxRecDepth 100000 in
/-- reach(x, y) -/
theorem mX_reach (l : Launch) (D : va_G) (z : Nat → Nat) (d0 d1 : ClassId) (tl pl : Nat) (fo lo fi se : Int32) (tk bk wn wb fl fa rp : Nat → Int32) (htl : tl ≤ 48) (hpl : pl ≤ 12) (x y : Int32) : ct_I l yX0_reach cX0_reach 4 (some .int) ({ frames := 1, cells := 0, slots := 0, locals := 21 } : Room) ([.ref (z 0), .int (x), .int (y)] : List Value) D (tyA d0 d1) (wX z d0 d1 (nI (tl)) (nI (pl)) ((fo)) ((lo)) ((fi)) ((se)) (tk) (bk) (wn) (wb) (fl) (fa) (rp)) (fun r (_ : Unit) => rcQ (fun i j n => al bk i bk j n) tl x y r) (fun (_ : Unit) => (wX z d0 d1 (nI (tl)) (nI (pl)) ((fo)) ((lo)) ((fi)) ((se)) (tk) (bk) (wn) (wb) (fl) (fa) (rp))) := by
  intro sz
  refine st_of (QA := (st_I D (tyA d0 d1) (fun r (_ : Unit) => rcQ (fun i j n => al bk i bk j n) tl x y r) (fun (_ : Unit) => (wX z d0 d1 (nI (tl)) (nI (pl)) ((fo)) ((lo)) ((fi)) ((se)) (tk) (bk) (wn) (wb) (fl) (fa) (rp))))) (by decide) (Nat.le_of_ble_eq_true rfl) ?_
  intro p e s m below meth c A ls hx hb hr hml hlocks hown hts hname hK hP hD hS hA hl
  have hl : lv_has ls 4 [(0, .ref (z 0)), (1, .int (x)), (2, .int (y))] := hl
  have hown : s.vm.findClass RX0 = some m.cls := hown
  refine lv_iload_n hx hb dX0_reach_0 rfl (lv_at hl 1 rfl) ?_
  refine lv_if_lt (tgt := 24) hx hb dX0_reach_1 (by decide) (fun c_1 => ?_) (fun c_1 => ?_)
  · skip
    refine lv_bipush (v := (-3)) hx hb dX0_reach_24 (by decide) ?_
    exact st_iret (v := (-3)) () hx hb hr hlocks hK hP hD hS dX0_reach_26 (Or.inr ⟨fun h => h.1.1 c_1, rfl⟩)
  · skip
    refine lv_iload_n hx hb dX0_reach_4 rfl (lv_at hl 1 rfl) ?_
    refine lv_aload_n hx hb dX0_reach_5 rfl (lv_at hl 0 rfl) ?_
    refine va_get (D := D) (ci := 0) (v := .int (nI (tl))) (C := RX0) (T := TX0) (N := 13) hx hb hts in_X0 hown hK hP 0 rfl rfl 0 (by decide) (hts _ q25) (fun _ h9 => h9) rfl dX0_reach_6 ?_
    refine lv_icmp_ge (tgt := 24) hx hb dX0_reach_9 (by decide) (fun c_9 => ?_) (fun c_9 => ?_)
    · skip
      refine lv_bipush (v := (-3)) hx hb dX0_reach_24 (by decide) ?_
      exact st_iret (v := (-3)) () hx hb hr hlocks hK hP hD hS dX0_reach_26 (Or.inr ⟨fun h => absurd c_9 (Int32.not_le.mpr h.1.2), rfl⟩)
    · skip
      refine lv_iload_n hx hb dX0_reach_12 rfl (lv_at hl 2 rfl) ?_
      refine lv_if_lt (tgt := 24) hx hb dX0_reach_13 (by decide) (fun c_13 => ?_) (fun c_13 => ?_)
      · skip
        refine lv_bipush (v := (-3)) hx hb dX0_reach_24 (by decide) ?_
        exact st_iret (v := (-3)) () hx hb hr hlocks hK hP hD hS dX0_reach_26 (Or.inr ⟨fun h => h.2.1 c_13, rfl⟩)
      · skip
        refine lv_iload_n hx hb dX0_reach_16 rfl (lv_at hl 2 rfl) ?_
        refine lv_aload_n hx hb dX0_reach_17 rfl (lv_at hl 0 rfl) ?_
        refine va_get (D := D) (ci := 0) (v := .int (nI (tl))) (C := RX0) (T := TX0) (N := 13) hx hb hts in_X0 hown hK hP 0 rfl rfl 0 (by decide) (hts _ q25) (fun _ h9 => h9) rfl dX0_reach_18 ?_
        refine lv_icmp_lt (tgt := 27) hx hb dX0_reach_21 (by decide) (fun c_21 => ?_) (fun c_21 => ?_)
        · skip
          obtain ⟨i, hi, rfl⟩ := in_of (by omega) ⟨c_1, Int32.not_le.mp c_9⟩
          obtain ⟨j, hj, rfl⟩ := in_of (by omega) ⟨c_13, c_21⟩
          refine lv_iconst (v := nI (0)) hx hb dX0_reach_27 (by decide) ?_
          refine lv_istore_n (lv' := [(3, .int (nI (0))), (0, .ref (z 0)), (1, .int (nI (i))), (2, .int (nI (j)))]) hx hb dX0_reach_28 rfl hl (by decide) rfl (fun ls hl => ?_)
          have loop : ∀ (fu : Nat) (N : Nat), tl < N + fu → i + N ≤ tl → j + N ≤ tl → al bk i bk j N → ∀ (H : Heap) (locs : List Loc) (ls : Array Slot), va_P D vwCl (wX z d0 d1 (nI (tl)) (nI (pl)) ((fo)) ((lo)) ((fi)) ((se)) (tk) (bk) (wn) (wb) (fl) (fa) (rp)) H → va_D A (wX z d0 d1 (nI (tl)) (nI (pl)) ((fo)) ((lo)) ((fi)) ((se)) (tk) (bk) (wn) (wb) (fl) (fa) (rp)) → va_S A s.heap H locs → lv_has ls 4 [(3, .int (nI (N))), (0, .ref (z 0)), (1, .int (nI (i))), (2, .int (nI (j)))] → W p l e ({ frames := 1, cells := 0, slots := 0, locals := 21 } : Room) s m ([.ref (z 0), .int (nI (i)), .int (nI (j))] : List Value).toArray below meth c H locs 0 0 (MQ below ((st_I D (tyA d0 d1) (fun r (_ : Unit) => rcQ (fun i j n => al bk i bk j n) tl (nI (i)) (nI (j)) r) (fun (_ : Unit) => (wX z d0 d1 (nI (tl)) (nI (pl)) ((fo)) ((lo)) ((fi)) ((se)) (tk) (bk) (wn) (wb) (fl) (fa) (rp)))) A) ([.ref (z 0), .int (nI (i)), .int (nI (j))] : List Value).toArray s 0 0 A) (F0 m 29 ls []) := by
            intro fu
            induction fu with
            | zero => intro N hf h1 h2 ha; exfalso; omega
            | succ fu ihloop =>
              intro N hf h1 h2 ha H locs ls hP hD hS hl
              refine lv_iload_n hx hb dX0_reach_29 rfl (lv_at hl 2 rfl) ?_
              refine lv_iload_n hx hb dX0_reach_30 rfl (lv_at hl 0 rfl) ?_
              refine ni_add hx hb dX0_reach_31 ?_
              refine lv_aload_n hx hb dX0_reach_32 rfl (lv_at hl 1 rfl) ?_
              refine va_get (D := D) (ci := 0) (v := .int (nI (tl))) (C := RX0) (T := TX0) (N := 13) hx hb hts in_X0 hown hK hP 0 rfl rfl 0 (by decide) (hts _ q25) (fun _ h9 => h9) rfl dX0_reach_33 ?_
              refine ni_icmp_ge (tgt := 82) hx hb dX0_reach_36 (by decide) (by omega) (by omega) (fun c_36 => ?_) (fun c_36 => ?_)
              · skip
                refine lv_iload_n hx hb dX0_reach_82 rfl (lv_at hl 0 rfl) ?_
                exact st_iret (v := nI (N)) () hx hb hr hlocks hK hP hD hS dX0_reach_83 (Or.inl ⟨i, j, N, hi, hj, rfl, rfl, rfl, Or.inl ⟨h1, h2, ha⟩, fun q h => by have := h.1; omega⟩)
              · skip
                refine lv_iload_n hx hb dX0_reach_39 rfl (lv_at hl 3 rfl) ?_
                refine lv_iload_n hx hb dX0_reach_40 rfl (lv_at hl 0 rfl) ?_
                refine ni_add hx hb dX0_reach_41 ?_
                refine lv_aload_n hx hb dX0_reach_42 rfl (lv_at hl 1 rfl) ?_
                refine va_get (D := D) (ci := 0) (v := .int (nI (tl))) (C := RX0) (T := TX0) (N := 13) hx hb hts in_X0 hown hK hP 0 rfl rfl 0 (by decide) (hts _ q25) (fun _ h9 => h9) rfl dX0_reach_43 ?_
                refine ni_icmp_ge (tgt := 82) hx hb dX0_reach_46 (by decide) (by omega) (by omega) (fun c_46 => ?_) (fun c_46 => ?_)
                · skip
                  refine lv_iload_n hx hb dX0_reach_82 rfl (lv_at hl 0 rfl) ?_
                  exact st_iret (v := nI (N)) () hx hb hr hlocks hK hP hD hS dX0_reach_83 (Or.inl ⟨i, j, N, hi, hj, rfl, rfl, rfl, Or.inl ⟨h1, h2, ha⟩, fun q h => by have := h.2.1; omega⟩)
                · skip
                  refine lv_aload_n hx hb dX0_reach_49 rfl (lv_at hl 1 rfl) ?_
                  refine va_get (D := D) (ci := 0) (v := .ref (z 2)) (C := RX0) (T := TX0) (N := 13) hx hb hts in_X0 hown hK hP 0 rfl rfl 2 (by decide) (hts _ q27) (fun _ h9 => h9) rfl dX0_reach_50 ?_
                  refine lv_iload_n hx hb dX0_reach_53 rfl (lv_at hl 2 rfl) ?_
                  refine lv_iload_n hx hb dX0_reach_54 rfl (lv_at hl 0 rfl) ?_
                  refine ni_add hx hb dX0_reach_55 ?_
                  refine ni_ald hx hb hK hP 2 0 rfl rfl (by decide) dX0_reach_56 (by omega) ?_
                  refine lv_iload_n hx hb dX0_reach_57 rfl (lv_at hl 0 rfl) ?_
                  refine st_cSi (As := [.int (bk (i + N)), .int (nI (N))]) (rest := []) 2 ⟨hx, hb, hml, hown, hts⟩ (mX_within l D z d0 d1 (bk (i + N)) N) (lw_S q94 q95 q15 q96) (by decide +kernel) ⟨Nat.le_of_ble_eq_true rfl, Nat.le_of_ble_eq_true rfl⟩ rfl rfl ⟨Nat.zero_le _, Nat.zero_le _⟩ hK hP hD hS hA rfl hl.1 rfl (Nat.le_of_ble_eq_true rfl) dX0_reach_58 (fun r_58 H locs hq_58 hP hD hS => ?_)
                  refine lv_aload_n hx hb dX0_reach_61 rfl (lv_at hl 1 rfl) ?_
                  refine va_get (D := D) (ci := 0) (v := .ref (z 2)) (C := RX0) (T := TX0) (N := 13) hx hb hts in_X0 hown hK hP 0 rfl rfl 2 (by decide) (hts _ q27) (fun _ h9 => h9) rfl dX0_reach_62 ?_
                  refine lv_iload_n hx hb dX0_reach_65 rfl (lv_at hl 3 rfl) ?_
                  refine lv_iload_n hx hb dX0_reach_66 rfl (lv_at hl 0 rfl) ?_
                  refine ni_add hx hb dX0_reach_67 ?_
                  refine ni_ald hx hb hK hP 2 0 rfl rfl (by decide) dX0_reach_68 (by omega) ?_
                  refine lv_iload_n hx hb dX0_reach_69 rfl (lv_at hl 0 rfl) ?_
                  refine st_cSi (As := [.int (bk (j + N)), .int (nI (N))]) (rest := [.int (r_58)]) 2 ⟨hx, hb, hml, hown, hts⟩ (mX_within l D z d0 d1 (bk (j + N)) N) (lw_S q94 q95 q15 q96) (by decide +kernel) ⟨Nat.le_of_ble_eq_true rfl, Nat.le_of_ble_eq_true rfl⟩ rfl rfl ⟨Nat.zero_le _, Nat.zero_le _⟩ hK hP hD hS hA rfl hl.1 rfl (Nat.le_of_ble_eq_true rfl) dX0_reach_70 (fun r_70 H locs hq_70 hP hD hS => ?_)
                  refine lv_icmp_ne (tgt := 82) hx hb dX0_reach_73 (by decide) (fun c_73 => ?_) (fun c_73 => ?_)
                  · skip
                    refine lv_iload_n hx hb dX0_reach_82 rfl (lv_at hl 0 rfl) ?_
                    exact st_iret (v := nI (N)) () hx hb hr hlocks hK hP hD hS dX0_reach_83 (Or.inl ⟨i, j, N, hi, hj, rfl, rfl, rfl, Or.inl ⟨h1, h2, ha⟩, fun q h => Nat.le_of_not_lt (fun hl => c_73 (by rw [hq_58, hq_70]; exact h.2.2 N hl))⟩)
                  · skip
                    refine lv_iinc (v := nI (N + 1)) (lv' := [(3, .int (nI (N + 1))), (0, .ref (z 0)), (1, .int (nI (i))), (2, .int (nI (j)))]) hx hb dX0_reach_76 hl (k := 0) rfl (ni_inc _) (by decide) rfl (fun ls hl => ?_)
                    refine lv_goto (tgt := 29) hx hb dX0_reach_79 (by decide) ?_
                    exact ihloop (N + 1) (by omega) (by omega) (by omega) (lt_s ha (by rw [← hq_58, ← hq_70]; exact c_73)) _ _ _ hP hD hS (lv_sub hl [0, 1, 2, 3] rfl)
          exact loop (tl + 1) 0 (by omega) (by omega) (by omega) al_0 _ _ _ hP hD hS (lv_sub hl [0, 1, 2, 3] rfl)
        · skip
          refine lv_bipush (v := (-3)) hx hb dX0_reach_24 (by decide) ?_
          exact st_iret (v := (-3)) () hx hb hr hlocks hK hP hD hS dX0_reach_26 (Or.inr ⟨fun h => c_21 h.2.2, rfl⟩)
end
section
/-! the class: clones -/
set_option maxHeartbeats 4000000 in
set_option maxRecDepth 100000 in
/-- takeClone(a, b, N) -/
theorem mX_takeClone (l : Launch) (D : va_G) (z : Nat → Nat) (d0 d1 : ClassId) (tl pl : Nat) (fo fi se : Int32) (tk bk wn wb fl fa rp : Nat → Int32) (lo : Nat) (hlo : lo ≤ 48) (htl : tl ≤ 48) (hpl : pl ≤ 12) (a b N : Nat) (ha : a < 48) (hb0 : b < 48) (hN : N ≤ 48) : ct_V l yX0_takeClone cX0_takeClone 4 none ({ frames := 0, cells := 0, slots := 0, locals := 0 } : Room) ([.ref (z 0), .int (nI (a)), .int (nI (b)), .int (nI (N))] : List Value) D (tyA d0 d1) (wX z d0 d1 (nI (tl)) (nI (pl)) ((fo)) (nI (lo)) ((fi)) ((se)) (tk) (bk) (wn) (wb) (fl) (fa) (rp)) (fun (u : Nat × Int32 × Int32) => (tkC lo fi se a b N ∧ u = (N, nI a, nI b)) ∨ (¬ tkC lo fi se a b N ∧ u = (lo, fi, se))) (fun (u : Nat × Int32 × Int32) => (wX z d0 d1 (nI (tl)) (nI (pl)) ((fo)) (nI (u.1)) ((u.2.1)) ((u.2.2)) (tk) (bk) (wn) (wb) (fl) (fa) (rp))) := by
  intro sz
  refine st_of (QA := (st_V D (tyA d0 d1) (fun (u : Nat × Int32 × Int32) => (tkC lo fi se a b N ∧ u = (N, nI a, nI b)) ∨ (¬ tkC lo fi se a b N ∧ u = (lo, fi, se))) (fun (u : Nat × Int32 × Int32) => (wX z d0 d1 (nI (tl)) (nI (pl)) ((fo)) (nI (u.1)) ((u.2.1)) ((u.2.2)) (tk) (bk) (wn) (wb) (fl) (fa) (rp))))) (by decide) (Nat.le_of_ble_eq_true rfl) ?_
  intro p e s m below meth c A ls hx hb hr hml hlocks hown hts hname hK hP hD hS hA hl
  have hl : lv_has ls 4 [(0, .ref (z 0)), (1, .int (nI (a))), (2, .int (nI (b))), (3, .int (nI (N)))] := hl
  have hown : s.vm.findClass RX0 = some m.cls := hown
  refine lv_iload_n hx hb dX0_takeClone_0 rfl (lv_at hl 3 rfl) ?_
  refine ni_if_eq (tgt := 12) hx hb dX0_takeClone_1 (by decide) (by omega) (fun c_1 => ?_) (fun c_1 => ?_)
  · skip
    exact st_vret (lo, fi, se) hx hb hr hlocks hK hP hD hS dX0_takeClone_12 (Or.inr ⟨fun h => absurd h.1 (by omega), rfl⟩)
  · skip
    refine lv_iload_n hx hb dX0_takeClone_4 rfl (lv_at hl 3 rfl) ?_
    refine lv_aload_n hx hb dX0_takeClone_5 rfl (lv_at hl 0 rfl) ?_
    refine va_get (D := D) (ci := 0) (v := .int (nI (lo))) (C := RX0) (T := TX0) (N := 13) hx hb hts in_X0 hown hK hP 0 rfl rfl 9 (by decide) (hts _ q34) (fun _ h9 => h9) rfl dX0_takeClone_6 ?_
    refine ni_icmp_ge (tgt := 13) hx hb dX0_takeClone_9 (by decide) (by omega) (by omega) (fun c_9 => ?_) (fun c_9 => ?_)
    · skip
      refine lv_iload_n hx hb dX0_takeClone_13 rfl (lv_at hl 3 rfl) ?_
      refine lv_aload_n hx hb dX0_takeClone_14 rfl (lv_at hl 0 rfl) ?_
      refine va_get (D := D) (ci := 0) (v := .int (nI (lo))) (C := RX0) (T := TX0) (N := 13) hx hb hts in_X0 hown hK hP 0 rfl rfl 9 (by decide) (hts _ q34) (fun _ h9 => h9) rfl dX0_takeClone_15 ?_
      refine ni_icmp_gt (tgt := 45) hx hb dX0_takeClone_18 (by decide) (by omega) (by omega) (fun c_18 => ?_) (fun c_18 => ?_)
      · skip
        refine lv_aload_n hx hb dX0_takeClone_45 rfl (lv_at hl 0 rfl) ?_
        refine lv_iload_n hx hb dX0_takeClone_46 rfl (lv_at hl 3 rfl) ?_
        refine va_put (D := D) (ci := 0) (v := .int (nI (N))) (ty := .int) (C := RX0) (T := TX0) (N := 13) hx hb hts in_X0 tyX0 tyX0_ok nmX0 hown hK hP hD hS 0 rfl rfl 9 (by decide) (hts _ q34) (fun _ h9 => h9) rfl (by decide +kernel) rfl rfl (Nat.le_of_ble_eq_true rfl) dX0_takeClone_47 (fun H locs hP hD hS => ?_)
        have hP : va_P D vwCl (wX z d0 d1 (nI (tl)) (nI (pl)) ((fo)) (nI (N)) ((fi)) ((se)) (tk) (bk) (wn) (wb) (fl) (fa) (rp)) H := hP
        have hD : va_D A (wX z d0 d1 (nI (tl)) (nI (pl)) ((fo)) (nI (N)) ((fi)) ((se)) (tk) (bk) (wn) (wb) (fl) (fa) (rp)) := hD
        refine lv_aload_n hx hb dX0_takeClone_50 rfl (lv_at hl 0 rfl) ?_
        refine lv_iload_n hx hb dX0_takeClone_51 rfl (lv_at hl 1 rfl) ?_
        refine va_put (D := D) (ci := 0) (v := .int (nI (a))) (ty := .int) (C := RX0) (T := TX0) (N := 13) hx hb hts in_X0 tyX0 tyX0_ok nmX0 hown hK hP hD hS 0 rfl rfl 10 (by decide) (hts _ q35) (fun _ h9 => h9) rfl (by decide +kernel) rfl rfl (Nat.le_of_ble_eq_true rfl) dX0_takeClone_52 (fun H locs hP hD hS => ?_)
        have hP : va_P D vwCl (wX z d0 d1 (nI (tl)) (nI (pl)) ((fo)) (nI (N)) (nI (a)) ((se)) (tk) (bk) (wn) (wb) (fl) (fa) (rp)) H := hP
        have hD : va_D A (wX z d0 d1 (nI (tl)) (nI (pl)) ((fo)) (nI (N)) (nI (a)) ((se)) (tk) (bk) (wn) (wb) (fl) (fa) (rp)) := hD
        refine lv_aload_n hx hb dX0_takeClone_55 rfl (lv_at hl 0 rfl) ?_
        refine lv_iload_n hx hb dX0_takeClone_56 rfl (lv_at hl 2 rfl) ?_
        refine va_put (D := D) (ci := 0) (v := .int (nI (b))) (ty := .int) (C := RX0) (T := TX0) (N := 13) hx hb hts in_X0 tyX0 tyX0_ok nmX0 hown hK hP hD hS 0 rfl rfl 11 (by decide) (hts _ q36) (fun _ h9 => h9) rfl (by decide +kernel) rfl rfl (Nat.le_of_ble_eq_true rfl) dX0_takeClone_57 (fun H locs hP hD hS => ?_)
        have hP : va_P D vwCl (wX z d0 d1 (nI (tl)) (nI (pl)) ((fo)) (nI (N)) (nI (a)) (nI (b)) (tk) (bk) (wn) (wb) (fl) (fa) (rp)) H := hP
        have hD : va_D A (wX z d0 d1 (nI (tl)) (nI (pl)) ((fo)) (nI (N)) (nI (a)) (nI (b)) (tk) (bk) (wn) (wb) (fl) (fa) (rp)) := hD
        exact st_vret (N, nI a, nI b) hx hb hr hlocks hK hP hD hS dX0_takeClone_60 (Or.inl ⟨⟨c_1, c_9, Or.inl c_18⟩, rfl⟩)
      · skip
        refine lv_iload_n hx hb dX0_takeClone_21 rfl (lv_at hl 1 rfl) ?_
        refine lv_aload_n hx hb dX0_takeClone_22 rfl (lv_at hl 0 rfl) ?_
        refine va_get (D := D) (ci := 0) (v := .int (fi)) (C := RX0) (T := TX0) (N := 13) hx hb hts in_X0 hown hK hP 0 rfl rfl 10 (by decide) (hts _ q35) (fun _ h9 => h9) rfl dX0_takeClone_23 ?_
        refine lv_icmp_lt (tgt := 45) hx hb dX0_takeClone_26 (by decide) (fun c_26 => ?_) (fun c_26 => ?_)
        · skip
          refine lv_aload_n hx hb dX0_takeClone_45 rfl (lv_at hl 0 rfl) ?_
          refine lv_iload_n hx hb dX0_takeClone_46 rfl (lv_at hl 3 rfl) ?_
          refine va_put (D := D) (ci := 0) (v := .int (nI (N))) (ty := .int) (C := RX0) (T := TX0) (N := 13) hx hb hts in_X0 tyX0 tyX0_ok nmX0 hown hK hP hD hS 0 rfl rfl 9 (by decide) (hts _ q34) (fun _ h9 => h9) rfl (by decide +kernel) rfl rfl (Nat.le_of_ble_eq_true rfl) dX0_takeClone_47 (fun H locs hP hD hS => ?_)
          have hP : va_P D vwCl (wX z d0 d1 (nI (tl)) (nI (pl)) ((fo)) (nI (N)) ((fi)) ((se)) (tk) (bk) (wn) (wb) (fl) (fa) (rp)) H := hP
          have hD : va_D A (wX z d0 d1 (nI (tl)) (nI (pl)) ((fo)) (nI (N)) ((fi)) ((se)) (tk) (bk) (wn) (wb) (fl) (fa) (rp)) := hD
          refine lv_aload_n hx hb dX0_takeClone_50 rfl (lv_at hl 0 rfl) ?_
          refine lv_iload_n hx hb dX0_takeClone_51 rfl (lv_at hl 1 rfl) ?_
          refine va_put (D := D) (ci := 0) (v := .int (nI (a))) (ty := .int) (C := RX0) (T := TX0) (N := 13) hx hb hts in_X0 tyX0 tyX0_ok nmX0 hown hK hP hD hS 0 rfl rfl 10 (by decide) (hts _ q35) (fun _ h9 => h9) rfl (by decide +kernel) rfl rfl (Nat.le_of_ble_eq_true rfl) dX0_takeClone_52 (fun H locs hP hD hS => ?_)
          have hP : va_P D vwCl (wX z d0 d1 (nI (tl)) (nI (pl)) ((fo)) (nI (N)) (nI (a)) ((se)) (tk) (bk) (wn) (wb) (fl) (fa) (rp)) H := hP
          have hD : va_D A (wX z d0 d1 (nI (tl)) (nI (pl)) ((fo)) (nI (N)) (nI (a)) ((se)) (tk) (bk) (wn) (wb) (fl) (fa) (rp)) := hD
          refine lv_aload_n hx hb dX0_takeClone_55 rfl (lv_at hl 0 rfl) ?_
          refine lv_iload_n hx hb dX0_takeClone_56 rfl (lv_at hl 2 rfl) ?_
          refine va_put (D := D) (ci := 0) (v := .int (nI (b))) (ty := .int) (C := RX0) (T := TX0) (N := 13) hx hb hts in_X0 tyX0 tyX0_ok nmX0 hown hK hP hD hS 0 rfl rfl 11 (by decide) (hts _ q36) (fun _ h9 => h9) rfl (by decide +kernel) rfl rfl (Nat.le_of_ble_eq_true rfl) dX0_takeClone_57 (fun H locs hP hD hS => ?_)
          have hP : va_P D vwCl (wX z d0 d1 (nI (tl)) (nI (pl)) ((fo)) (nI (N)) (nI (a)) (nI (b)) (tk) (bk) (wn) (wb) (fl) (fa) (rp)) H := hP
          have hD : va_D A (wX z d0 d1 (nI (tl)) (nI (pl)) ((fo)) (nI (N)) (nI (a)) (nI (b)) (tk) (bk) (wn) (wb) (fl) (fa) (rp)) := hD
          exact st_vret (N, nI a, nI b) hx hb hr hlocks hK hP hD hS dX0_takeClone_60 (Or.inl ⟨⟨c_1, c_9, Or.inr (Or.inl c_26)⟩, rfl⟩)
        · skip
          refine lv_iload_n hx hb dX0_takeClone_29 rfl (lv_at hl 1 rfl) ?_
          refine lv_aload_n hx hb dX0_takeClone_30 rfl (lv_at hl 0 rfl) ?_
          refine va_get (D := D) (ci := 0) (v := .int (fi)) (C := RX0) (T := TX0) (N := 13) hx hb hts in_X0 hown hK hP 0 rfl rfl 10 (by decide) (hts _ q35) (fun _ h9 => h9) rfl dX0_takeClone_31 ?_
          refine lv_icmp_ne (tgt := 60) hx hb dX0_takeClone_34 (by decide) (fun c_34 => ?_) (fun c_34 => ?_)
          · skip
            exact st_vret (lo, fi, se) hx hb hr hlocks hK hP hD hS dX0_takeClone_60 (Or.inr ⟨fun h => h.2.2.elim (fun h => absurd h (by omega)) (fun h => h.elim c_26 (fun h => c_34 h.1)), rfl⟩)
          · skip
            refine lv_iload_n hx hb dX0_takeClone_37 rfl (lv_at hl 2 rfl) ?_
            refine lv_aload_n hx hb dX0_takeClone_38 rfl (lv_at hl 0 rfl) ?_
            refine va_get (D := D) (ci := 0) (v := .int (se)) (C := RX0) (T := TX0) (N := 13) hx hb hts in_X0 hown hK hP 0 rfl rfl 11 (by decide) (hts _ q36) (fun _ h9 => h9) rfl dX0_takeClone_39 ?_
            refine lv_icmp_ge (tgt := 60) hx hb dX0_takeClone_42 (by decide) (fun c_42 => ?_) (fun c_42 => ?_)
            · skip
              exact st_vret (lo, fi, se) hx hb hr hlocks hK hP hD hS dX0_takeClone_60 (Or.inr ⟨fun h => h.2.2.elim (fun h => absurd h (by omega)) (fun h => h.elim c_26 (fun h => absurd c_42 (Int32.not_le.mpr h.2))), rfl⟩)
            · skip
              refine lv_aload_n hx hb dX0_takeClone_45 rfl (lv_at hl 0 rfl) ?_
              refine lv_iload_n hx hb dX0_takeClone_46 rfl (lv_at hl 3 rfl) ?_
              refine va_put (D := D) (ci := 0) (v := .int (nI (N))) (ty := .int) (C := RX0) (T := TX0) (N := 13) hx hb hts in_X0 tyX0 tyX0_ok nmX0 hown hK hP hD hS 0 rfl rfl 9 (by decide) (hts _ q34) (fun _ h9 => h9) rfl (by decide +kernel) rfl rfl (Nat.le_of_ble_eq_true rfl) dX0_takeClone_47 (fun H locs hP hD hS => ?_)
              have hP : va_P D vwCl (wX z d0 d1 (nI (tl)) (nI (pl)) ((fo)) (nI (N)) ((fi)) ((se)) (tk) (bk) (wn) (wb) (fl) (fa) (rp)) H := hP
              have hD : va_D A (wX z d0 d1 (nI (tl)) (nI (pl)) ((fo)) (nI (N)) ((fi)) ((se)) (tk) (bk) (wn) (wb) (fl) (fa) (rp)) := hD
              refine lv_aload_n hx hb dX0_takeClone_50 rfl (lv_at hl 0 rfl) ?_
              refine lv_iload_n hx hb dX0_takeClone_51 rfl (lv_at hl 1 rfl) ?_
              refine va_put (D := D) (ci := 0) (v := .int (nI (a))) (ty := .int) (C := RX0) (T := TX0) (N := 13) hx hb hts in_X0 tyX0 tyX0_ok nmX0 hown hK hP hD hS 0 rfl rfl 10 (by decide) (hts _ q35) (fun _ h9 => h9) rfl (by decide +kernel) rfl rfl (Nat.le_of_ble_eq_true rfl) dX0_takeClone_52 (fun H locs hP hD hS => ?_)
              have hP : va_P D vwCl (wX z d0 d1 (nI (tl)) (nI (pl)) ((fo)) (nI (N)) (nI (a)) ((se)) (tk) (bk) (wn) (wb) (fl) (fa) (rp)) H := hP
              have hD : va_D A (wX z d0 d1 (nI (tl)) (nI (pl)) ((fo)) (nI (N)) (nI (a)) ((se)) (tk) (bk) (wn) (wb) (fl) (fa) (rp)) := hD
              refine lv_aload_n hx hb dX0_takeClone_55 rfl (lv_at hl 0 rfl) ?_
              refine lv_iload_n hx hb dX0_takeClone_56 rfl (lv_at hl 2 rfl) ?_
              refine va_put (D := D) (ci := 0) (v := .int (nI (b))) (ty := .int) (C := RX0) (T := TX0) (N := 13) hx hb hts in_X0 tyX0 tyX0_ok nmX0 hown hK hP hD hS 0 rfl rfl 11 (by decide) (hts _ q36) (fun _ h9 => h9) rfl (by decide +kernel) rfl rfl (Nat.le_of_ble_eq_true rfl) dX0_takeClone_57 (fun H locs hP hD hS => ?_)
              have hP : va_P D vwCl (wX z d0 d1 (nI (tl)) (nI (pl)) ((fo)) (nI (N)) (nI (a)) (nI (b)) (tk) (bk) (wn) (wb) (fl) (fa) (rp)) H := hP
              have hD : va_D A (wX z d0 d1 (nI (tl)) (nI (pl)) ((fo)) (nI (N)) (nI (a)) (nI (b)) (tk) (bk) (wn) (wb) (fl) (fa) (rp)) := hD
              exact st_vret (N, nI a, nI b) hx hb hr hlocks hK hP hD hS dX0_takeClone_60 (Or.inl ⟨⟨c_1, c_9, Or.inr (Or.inr ⟨c_34, Int32.not_le.mp c_42⟩)⟩, rfl⟩)
    · skip
      exact st_vret (lo, fi, se) hx hb hr hlocks hK hP hD hS dX0_takeClone_12 (Or.inr ⟨fun h => absurd h.2.1 (by omega), rfl⟩)

set_option maxHeartbeats 4000000 in
set_option maxRecDepth 100000 in
/-- sweepDiagonal(d, N) -/
theorem mX_sweepDiagonal (l : Launch) (D : va_G) (z : Nat → Nat) (d0 d1 : ClassId) (tl pl : Nat) (fo fi se : Int32) (tk bk wn wb fl fa rp : Nat → Int32) (lo : Nat) (hlo : lo ≤ 48) (htl : tl ≤ 48) (hpl : pl ≤ 12) (d N : Nat) (hd1 : 1 ≤ d) (hd2 : d < tl) (hN : N ≤ 48) (hB : bst (Zp bk tl d 0) lo fi se) (hR : rpQ (Zp bk tl d 0) tl N rp) : ct_V l yX0_sweepDiagonal cX0_sweepDiagonal 5 none ({ frames := 1, cells := 0, slots := 0, locals := 23 } : Room) ([.ref (z 0), .int (nI (d)), .int (nI (N))] : List Value) D (tyA d0 d1) (wX z d0 d1 (nI (tl)) (nI (pl)) ((fo)) (nI (lo)) ((fi)) ((se)) (tk) (bk) (wn) (wb) (fl) (fa) (rp)) (fun (u : Nat × Int32 × Int32 × (Nat → Int32)) => u.1 ≤ 48 ∧ bst (Zp bk tl (d + 1) 0) u.1 u.2.1 u.2.2.1 ∧ rpQ (Zp bk tl (d + 1) 0) tl N u.2.2.2) (fun (u : Nat × Int32 × Int32 × (Nat → Int32)) => (wX z d0 d1 (nI (tl)) (nI (pl)) ((fo)) (nI (u.1)) ((u.2.1)) ((u.2.2.1)) (tk) (bk) (wn) (wb) (fl) (fa) (u.2.2.2))) := by
  intro sz
  refine st_of (QA := (st_V D (tyA d0 d1) (fun (u : Nat × Int32 × Int32 × (Nat → Int32)) => u.1 ≤ 48 ∧ bst (Zp bk tl (d + 1) 0) u.1 u.2.1 u.2.2.1 ∧ rpQ (Zp bk tl (d + 1) 0) tl N u.2.2.2) (fun (u : Nat × Int32 × Int32 × (Nat → Int32)) => (wX z d0 d1 (nI (tl)) (nI (pl)) ((fo)) (nI (u.1)) ((u.2.1)) ((u.2.2.1)) (tk) (bk) (wn) (wb) (fl) (fa) (u.2.2.2))))) (by decide) (Nat.le_of_ble_eq_true rfl) ?_
  intro p e s m below meth c A ls hx hb hr hml hlocks hown hts hname hK hP hD hS hA hl
  have hl : lv_has ls 5 [(0, .ref (z 0)), (1, .int (nI (d))), (2, .int (nI (N)))] := hl
  have hown : s.vm.findClass RX0 = some m.cls := hown
  refine lv_iconst (v := nI (0)) hx hb dX0_sweepDiagonal_0 (by decide) ?_
  refine lv_istore_n (lv' := [(3, .int (nI (0))), (0, .ref (z 0)), (1, .int (nI (d))), (2, .int (nI (N)))]) hx hb dX0_sweepDiagonal_1 rfl hl (by decide) rfl (fun ls hl => ?_)
  refine lv_iconst (v := nI (0)) hx hb dX0_sweepDiagonal_2 (by decide) ?_
  refine lv_istore (lv' := [(4, .int (nI (0))), (3, .int (nI (0))), (0, .ref (z 0)), (1, .int (nI (d))), (2, .int (nI (N)))]) hx hb dX0_sweepDiagonal_3 hl (by decide) rfl (fun ls hl => ?_)
  have loop : ∀ (fu : Nat) (a b lo2 : Nat) (fi2 se2 : Int32) (rp2 : (Nat → Int32)), tl < a + fu → a + d ≤ tl → lo2 ≤ 48 → (b ≤ a ∨ (a < b ∧ b + d ≤ tl ∧ al bk a bk (a + d) (b - a))) → bst (Zp bk tl d a) lo2 fi2 se2 → rpQ (Zp bk tl d a) tl N rp2 → ∀ (H : Heap) (locs : List Loc) (ls : Array Slot), va_P D vwCl (wX z d0 d1 (nI (tl)) (nI (pl)) ((fo)) (nI (lo2)) ((fi2)) ((se2)) (tk) (bk) (wn) (wb) (fl) (fa) (rp2)) H → va_D A (wX z d0 d1 (nI (tl)) (nI (pl)) ((fo)) (nI (lo2)) ((fi2)) ((se2)) (tk) (bk) (wn) (wb) (fl) (fa) (rp2)) → va_S A s.heap H locs → lv_has ls 5 [(4, .int (nI (a))), (3, .int (nI (b))), (0, .ref (z 0)), (1, .int (nI (d))), (2, .int (nI (N)))] → W p l e ({ frames := 1, cells := 0, slots := 0, locals := 23 } : Room) s m ([.ref (z 0), .int (nI (d)), .int (nI (N))] : List Value).toArray below meth c H locs 0 0 (MQ below ((st_V D (tyA d0 d1) (fun (u : Nat × Int32 × Int32 × (Nat → Int32)) => u.1 ≤ 48 ∧ bst (Zp bk tl (d + 1) 0) u.1 u.2.1 u.2.2.1 ∧ rpQ (Zp bk tl (d + 1) 0) tl N u.2.2.2) (fun (u : Nat × Int32 × Int32 × (Nat → Int32)) => (wX z d0 d1 (nI (tl)) (nI (pl)) ((fo)) (nI (u.1)) ((u.2.1)) ((u.2.2.1)) (tk) (bk) (wn) (wb) (fl) (fa) (u.2.2.2)))) A) ([.ref (z 0), .int (nI (d)), .int (nI (N))] : List Value).toArray s 0 0 A) (F0 m 5 ls []) := by
    intro fu
    induction fu with
    | zero => intro a b lo2 fi2 se2 rp2 hf ha hl2 hab hB2 hR2; exfalso; omega
    | succ fu ihloop =>
      intro a b lo2 fi2 se2 rp2 hf ha hl2 hab hB2 hR2 H locs ls hP hD hS hl
      refine lv_iload hx hb dX0_sweepDiagonal_5 (lv_at hl 0 rfl) ?_
      refine lv_iload_n hx hb dX0_sweepDiagonal_7 rfl (lv_at hl 3 rfl) ?_
      refine ni_add hx hb dX0_sweepDiagonal_8 ?_
      refine lv_aload_n hx hb dX0_sweepDiagonal_9 rfl (lv_at hl 2 rfl) ?_
      refine va_get (D := D) (ci := 0) (v := .int (nI (tl))) (C := RX0) (T := TX0) (N := 13) hx hb hts in_X0 hown hK hP 0 rfl rfl 0 (by decide) (hts _ q25) (fun _ h9 => h9) rfl dX0_sweepDiagonal_10 ?_
      refine ni_icmp_ge (tgt := 110) hx hb dX0_sweepDiagonal_13 (by decide) (by omega) (by omega) (fun c_13 => ?_) (fun c_13 => ?_)
      · skip
        exact st_vret (lo2, fi2, se2, rp2) hx hb hr hlocks hK hP hD hS dX0_sweepDiagonal_110 ⟨hl2, bst_congr (Zp_diag (by omega)) hB2, rpQ_congr (Zp_diag (by omega)) hR2⟩
      · skip
        refine lv_iload_n hx hb dX0_sweepDiagonal_16 rfl (lv_at hl 1 rfl) ?_
        refine lv_iload hx hb dX0_sweepDiagonal_17 (lv_at hl 0 rfl) ?_
        refine ni_icmp_ge (tgt := 25) hx hb dX0_sweepDiagonal_19 (by decide) (by omega) (by omega) (fun c_19 => ?_) (fun c_19 => ?_)
        · skip
          have inner : ∀ (fu : Nat) (b : Nat), tl < b + fu → a ≤ b → b + d ≤ tl → al bk a bk (a + d) (b - a) → ∀ (H : Heap) (locs : List Loc) (ls : Array Slot), va_P D vwCl (wX z d0 d1 (nI (tl)) (nI (pl)) ((fo)) (nI (lo2)) ((fi2)) ((se2)) (tk) (bk) (wn) (wb) (fl) (fa) (rp2)) H → va_D A (wX z d0 d1 (nI (tl)) (nI (pl)) ((fo)) (nI (lo2)) ((fi2)) ((se2)) (tk) (bk) (wn) (wb) (fl) (fa) (rp2)) → va_S A s.heap H locs → lv_has ls 5 [(4, .int (nI (a))), (3, .int (nI (b))), (0, .ref (z 0)), (1, .int (nI (d))), (2, .int (nI (N)))] → W p l e ({ frames := 1, cells := 0, slots := 0, locals := 23 } : Room) s m ([.ref (z 0), .int (nI (d)), .int (nI (N))] : List Value).toArray below meth c H locs 0 0 (MQ below ((st_V D (tyA d0 d1) (fun (u : Nat × Int32 × Int32 × (Nat → Int32)) => u.1 ≤ 48 ∧ bst (Zp bk tl (d + 1) 0) u.1 u.2.1 u.2.2.1 ∧ rpQ (Zp bk tl (d + 1) 0) tl N u.2.2.2) (fun (u : Nat × Int32 × Int32 × (Nat → Int32)) => (wX z d0 d1 (nI (tl)) (nI (pl)) ((fo)) (nI (u.1)) ((u.2.1)) ((u.2.2.1)) (tk) (bk) (wn) (wb) (fl) (fa) (u.2.2.2)))) A) ([.ref (z 0), .int (nI (d)), .int (nI (N))] : List Value).toArray s 0 0 A) (F0 m 25 ls []) := by
            intro fu
            induction fu with
            | zero => intro b hf3 hb2 hb3 hal; exfalso; omega
            | succ fu ihinner =>
              intro b hf3 hb2 hb3 hal H locs ls hP hD hS hl
              refine lv_iload_n hx hb dX0_sweepDiagonal_25 rfl (lv_at hl 1 rfl) ?_
              refine lv_iload_n hx hb dX0_sweepDiagonal_26 rfl (lv_at hl 3 rfl) ?_
              refine ni_add hx hb dX0_sweepDiagonal_27 ?_
              refine lv_aload_n hx hb dX0_sweepDiagonal_28 rfl (lv_at hl 2 rfl) ?_
              refine va_get (D := D) (ci := 0) (v := .int (nI (tl))) (C := RX0) (T := TX0) (N := 13) hx hb hts in_X0 hown hK hP 0 rfl rfl 0 (by decide) (hts _ q25) (fun _ h9 => h9) rfl dX0_sweepDiagonal_29 ?_
              refine ni_icmp_ge (tgt := 72) hx hb dX0_sweepDiagonal_32 (by decide) (by omega) (by omega) (fun c_32 => ?_) (fun c_32 => ?_)
              · skip
                have hrc : rc bk tl a (a + d) (b - a) := ⟨by omega, hal, Or.inl (by omega)⟩
                have hZ := Zp_next (a := a) hd1 c_13 hrc
                refine lv_aload_n hx hb dX0_sweepDiagonal_72 rfl (lv_at hl 2 rfl) ?_
                refine lv_iload hx hb dX0_sweepDiagonal_73 (lv_at hl 0 rfl) ?_
                refine lv_iload hx hb dX0_sweepDiagonal_75 (lv_at hl 0 rfl) ?_
                refine lv_iload_n hx hb dX0_sweepDiagonal_77 rfl (lv_at hl 3 rfl) ?_
                refine ni_add hx hb dX0_sweepDiagonal_78 ?_
                refine lv_iload_n hx hb dX0_sweepDiagonal_79 rfl (lv_at hl 1 rfl) ?_
                refine lv_iload hx hb dX0_sweepDiagonal_80 (lv_at hl 0 rfl) ?_
                refine ni_sub (by omega) hx hb dX0_sweepDiagonal_82 ?_
                refine st_cVv0 (ci := 0) (qc := (RX0, TX0, 13)) (As := [.int (nI (a)), .int (nI (a + d)), .int (nI (b - a))]) (rest := []) 3 ⟨hx, hb, hml, hown, hts⟩ (mX_takeClone l D z d0 d1 tl pl (fo) (fi2) (se2) tk bk wn wb fl fa rp2 lo2 (by omega) (by omega) (by omega) a (a + d) (b - a) (by omega) (by omega) (by omega)) (lw_V q138 q140 qs6 q15 q141) (by decide +kernel) ⟨Nat.le_of_ble_eq_true rfl, Nat.le_of_ble_eq_true rfl⟩ rfl rfl ⟨Nat.zero_le _, Nat.zero_le _⟩ hK hP hD hS hA rfl rfl rfl hl.1 rfl (Nat.le_of_ble_eq_true rfl) dX0_sweepDiagonal_83 (fun u_83 H locs hq_83 hP hD hS => ?_)
                have hP : va_P D vwCl (wX z d0 d1 (nI (tl)) (nI (pl)) ((fo)) (nI (u_83.1)) ((u_83.2.1)) ((u_83.2.2)) (tk) (bk) (wn) (wb) (fl) (fa) (rp2)) H := hP
                have hD : va_D A (wX z d0 d1 (nI (tl)) (nI (pl)) ((fo)) (nI (u_83.1)) ((u_83.2.1)) ((u_83.2.2)) (tk) (bk) (wn) (wb) (fl) (fa) (rp2)) := hD
                have hB3 := bst_take (by omega) (by omega) hB2 hZ hq_83
                have hl3 : u_83.1 ≤ 48 := by
                  rcases hq_83 with ⟨_, e⟩ | ⟨_, e⟩
                  · rw [e]; show b - a ≤ 48; omega
                  · rw [e]; exact hl2
                refine lv_iload_n hx hb dX0_sweepDiagonal_86 rfl (lv_at hl 1 rfl) ?_
                refine lv_iload hx hb dX0_sweepDiagonal_87 (lv_at hl 0 rfl) ?_
                refine ni_sub (by omega) hx hb dX0_sweepDiagonal_89 ?_
                refine lv_iload_n hx hb dX0_sweepDiagonal_90 rfl (lv_at hl 4 rfl) ?_
                refine ni_icmp_lt (tgt := 104) hx hb dX0_sweepDiagonal_91 (by decide) (by omega) (by omega) (fun c_91 => ?_) (fun c_91 => ?_)
                · skip
                  refine lv_iinc (v := nI (a + 1)) (lv' := [(4, .int (nI (a + 1))), (3, .int (nI (b))), (0, .ref (z 0)), (1, .int (nI (d))), (2, .int (nI (N)))]) hx hb dX0_sweepDiagonal_104 hl (k := 0) rfl (ni_inc _) (by decide) rfl (fun ls hl => ?_)
                  refine lv_goto (tgt := 5) hx hb dX0_sweepDiagonal_107 (by decide) ?_
                  have hab2 : b ≤ a + 1 ∨ (a + 1 < b ∧ b + d ≤ tl ∧ al bk (a + 1) bk (a + 1 + d) (b - (a + 1))) := by
                    by_cases h9 : b ≤ a + 1
                    · exact Or.inl h9
                    · exact Or.inr ⟨by omega, by omega, al_to (al_drop (n := b - (a + 1)) 1 (al_to hal rfl rfl (by omega)) (by omega)) rfl (by omega) rfl⟩
                  exact ihloop (a + 1) b _ _ _ _ (by omega) (by omega) hl3 hab2 hB3 (rpQ_no hZ c_91 hR2) _ _ _ hP hD hS (lv_sub hl [0, 1, 2, 3, 4] rfl)
                · skip
                  refine lv_aload_n hx hb dX0_sweepDiagonal_94 rfl (lv_at hl 2 rfl) ?_
                  refine va_get (D := D) (ci := 0) (v := .ref (z 7)) (C := RX0) (T := TX0) (N := 13) hx hb hts in_X0 hown hK hP 0 rfl rfl 12 (by decide) (hts _ q37) (fun _ h9 => h9) rfl dX0_sweepDiagonal_95 ?_
                  refine lv_iload hx hb dX0_sweepDiagonal_98 (lv_at hl 0 rfl) ?_
                  refine lv_iload_n hx hb dX0_sweepDiagonal_100 rfl (lv_at hl 3 rfl) ?_
                  refine ni_add hx hb dX0_sweepDiagonal_101 ?_
                  refine lv_iconst (v := nI (1)) hx hb dX0_sweepDiagonal_102 (by decide) ?_
                  refine ni_zast (ws2 := (wX z d0 d1 (nI (tl)) (nI (pl)) ((fo)) (nI (u_83.1)) ((u_83.2.1)) ((u_83.2.2)) (tk) (bk) (wn) (wb) (fl) (fa) (upd rp2 (a + d) (nI (1))))) hx hb hK hP hD hS 7 1 rfl rfl (by decide) rfl (by decide) dX0_sweepDiagonal_103 (by omega) (fun H locs hP hD hS => ?_)
                  refine lv_iinc (v := nI (a + 1)) (lv' := [(4, .int (nI (a + 1))), (3, .int (nI (b))), (0, .ref (z 0)), (1, .int (nI (d))), (2, .int (nI (N)))]) hx hb dX0_sweepDiagonal_104 hl (k := 0) rfl (ni_inc _) (by decide) rfl (fun ls hl => ?_)
                  refine lv_goto (tgt := 5) hx hb dX0_sweepDiagonal_107 (by decide) ?_
                  have hab2 : b ≤ a + 1 ∨ (a + 1 < b ∧ b + d ≤ tl ∧ al bk (a + 1) bk (a + 1 + d) (b - (a + 1))) := by
                    by_cases h9 : b ≤ a + 1
                    · exact Or.inl h9
                    · exact Or.inr ⟨by omega, by omega, al_to (al_drop (n := b - (a + 1)) 1 (al_to hal rfl rfl (by omega)) (by omega)) rfl (by omega) rfl⟩
                  exact ihloop (a + 1) b _ _ _ _ (by omega) (by omega) hl3 hab2 hB3 (rpQ_yes hZ c_91 hR2) _ _ _ hP hD hS (lv_sub hl [0, 1, 2, 3, 4] rfl)
              · skip
                refine lv_aload_n hx hb dX0_sweepDiagonal_35 rfl (lv_at hl 2 rfl) ?_
                refine va_get (D := D) (ci := 0) (v := .ref (z 2)) (C := RX0) (T := TX0) (N := 13) hx hb hts in_X0 hown hK hP 0 rfl rfl 2 (by decide) (hts _ q27) (fun _ h9 => h9) rfl dX0_sweepDiagonal_36 ?_
                refine lv_iload_n hx hb dX0_sweepDiagonal_39 rfl (lv_at hl 1 rfl) ?_
                refine ni_ald hx hb hK hP 2 0 rfl rfl (by decide) dX0_sweepDiagonal_40 (by omega) ?_
                refine lv_iload_n hx hb dX0_sweepDiagonal_41 rfl (lv_at hl 1 rfl) ?_
                refine lv_iload hx hb dX0_sweepDiagonal_42 (lv_at hl 0 rfl) ?_
                refine ni_sub (by omega) hx hb dX0_sweepDiagonal_44 ?_
                refine st_cSi (As := [.int (bk b), .int (nI (b - a))]) (rest := []) 2 ⟨hx, hb, hml, hown, hts⟩ (mX_within l D z d0 d1 (bk b) (b - a)) (lw_S q94 q95 q15 q96) (by decide +kernel) ⟨Nat.le_of_ble_eq_true rfl, Nat.le_of_ble_eq_true rfl⟩ rfl rfl ⟨Nat.zero_le _, Nat.zero_le _⟩ hK hP hD hS hA rfl hl.1 rfl (Nat.le_of_ble_eq_true rfl) dX0_sweepDiagonal_45 (fun r_45 H locs hq_45 hP hD hS => ?_)
                refine lv_aload_n hx hb dX0_sweepDiagonal_48 rfl (lv_at hl 2 rfl) ?_
                refine va_get (D := D) (ci := 0) (v := .ref (z 2)) (C := RX0) (T := TX0) (N := 13) hx hb hts in_X0 hown hK hP 0 rfl rfl 2 (by decide) (hts _ q27) (fun _ h9 => h9) rfl dX0_sweepDiagonal_49 ?_
                refine lv_iload_n hx hb dX0_sweepDiagonal_52 rfl (lv_at hl 1 rfl) ?_
                refine lv_iload_n hx hb dX0_sweepDiagonal_53 rfl (lv_at hl 3 rfl) ?_
                refine ni_add hx hb dX0_sweepDiagonal_54 ?_
                refine ni_ald hx hb hK hP 2 0 rfl rfl (by decide) dX0_sweepDiagonal_55 (by omega) ?_
                refine lv_iload_n hx hb dX0_sweepDiagonal_56 rfl (lv_at hl 1 rfl) ?_
                refine lv_iload hx hb dX0_sweepDiagonal_57 (lv_at hl 0 rfl) ?_
                refine ni_sub (by omega) hx hb dX0_sweepDiagonal_59 ?_
                refine st_cSi (As := [.int (bk (b + d)), .int (nI (b - a))]) (rest := [.int (r_45)]) 2 ⟨hx, hb, hml, hown, hts⟩ (mX_within l D z d0 d1 (bk (b + d)) (b - a)) (lw_S q94 q95 q15 q96) (by decide +kernel) ⟨Nat.le_of_ble_eq_true rfl, Nat.le_of_ble_eq_true rfl⟩ rfl rfl ⟨Nat.zero_le _, Nat.zero_le _⟩ hK hP hD hS hA rfl hl.1 rfl (Nat.le_of_ble_eq_true rfl) dX0_sweepDiagonal_60 (fun r_60 H locs hq_60 hP hD hS => ?_)
                refine lv_icmp_ne (tgt := 72) hx hb dX0_sweepDiagonal_63 (by decide) (fun c_63 => ?_) (fun c_63 => ?_)
                · skip
                  have hrc : rc bk tl a (a + d) (b - a) := ⟨by omega, hal, Or.inr (fun h => c_63 (by
                    rw [hq_45, hq_60]
                    rw [show a + (b - a) = b by omega, show a + d + (b - a) = b + d by omega] at h
                    exact h))⟩
                  have hZ := Zp_next (a := a) hd1 c_13 hrc
                  refine lv_aload_n hx hb dX0_sweepDiagonal_72 rfl (lv_at hl 2 rfl) ?_
                  refine lv_iload hx hb dX0_sweepDiagonal_73 (lv_at hl 0 rfl) ?_
                  refine lv_iload hx hb dX0_sweepDiagonal_75 (lv_at hl 0 rfl) ?_
                  refine lv_iload_n hx hb dX0_sweepDiagonal_77 rfl (lv_at hl 3 rfl) ?_
                  refine ni_add hx hb dX0_sweepDiagonal_78 ?_
                  refine lv_iload_n hx hb dX0_sweepDiagonal_79 rfl (lv_at hl 1 rfl) ?_
                  refine lv_iload hx hb dX0_sweepDiagonal_80 (lv_at hl 0 rfl) ?_
                  refine ni_sub (by omega) hx hb dX0_sweepDiagonal_82 ?_
                  refine st_cVv0 (ci := 0) (qc := (RX0, TX0, 13)) (As := [.int (nI (a)), .int (nI (a + d)), .int (nI (b - a))]) (rest := []) 3 ⟨hx, hb, hml, hown, hts⟩ (mX_takeClone l D z d0 d1 tl pl (fo) (fi2) (se2) tk bk wn wb fl fa rp2 lo2 (by omega) (by omega) (by omega) a (a + d) (b - a) (by omega) (by omega) (by omega)) (lw_V q138 q140 qs6 q15 q141) (by decide +kernel) ⟨Nat.le_of_ble_eq_true rfl, Nat.le_of_ble_eq_true rfl⟩ rfl rfl ⟨Nat.zero_le _, Nat.zero_le _⟩ hK hP hD hS hA rfl rfl rfl hl.1 rfl (Nat.le_of_ble_eq_true rfl) dX0_sweepDiagonal_83 (fun u_83 H locs hq_83 hP hD hS => ?_)
                  have hP : va_P D vwCl (wX z d0 d1 (nI (tl)) (nI (pl)) ((fo)) (nI (u_83.1)) ((u_83.2.1)) ((u_83.2.2)) (tk) (bk) (wn) (wb) (fl) (fa) (rp2)) H := hP
                  have hD : va_D A (wX z d0 d1 (nI (tl)) (nI (pl)) ((fo)) (nI (u_83.1)) ((u_83.2.1)) ((u_83.2.2)) (tk) (bk) (wn) (wb) (fl) (fa) (rp2)) := hD
                  have hB3 := bst_take (by omega) (by omega) hB2 hZ hq_83
                  have hl3 : u_83.1 ≤ 48 := by
                    rcases hq_83 with ⟨_, e⟩ | ⟨_, e⟩
                    · rw [e]; show b - a ≤ 48; omega
                    · rw [e]; exact hl2
                  refine lv_iload_n hx hb dX0_sweepDiagonal_86 rfl (lv_at hl 1 rfl) ?_
                  refine lv_iload hx hb dX0_sweepDiagonal_87 (lv_at hl 0 rfl) ?_
                  refine ni_sub (by omega) hx hb dX0_sweepDiagonal_89 ?_
                  refine lv_iload_n hx hb dX0_sweepDiagonal_90 rfl (lv_at hl 4 rfl) ?_
                  refine ni_icmp_lt (tgt := 104) hx hb dX0_sweepDiagonal_91 (by decide) (by omega) (by omega) (fun c_91 => ?_) (fun c_91 => ?_)
                  · skip
                    refine lv_iinc (v := nI (a + 1)) (lv' := [(4, .int (nI (a + 1))), (3, .int (nI (b))), (0, .ref (z 0)), (1, .int (nI (d))), (2, .int (nI (N)))]) hx hb dX0_sweepDiagonal_104 hl (k := 0) rfl (ni_inc _) (by decide) rfl (fun ls hl => ?_)
                    refine lv_goto (tgt := 5) hx hb dX0_sweepDiagonal_107 (by decide) ?_
                    have hab2 : b ≤ a + 1 ∨ (a + 1 < b ∧ b + d ≤ tl ∧ al bk (a + 1) bk (a + 1 + d) (b - (a + 1))) := by
                      by_cases h9 : b ≤ a + 1
                      · exact Or.inl h9
                      · exact Or.inr ⟨by omega, by omega, al_to (al_drop (n := b - (a + 1)) 1 (al_to hal rfl rfl (by omega)) (by omega)) rfl (by omega) rfl⟩
                    exact ihloop (a + 1) b _ _ _ _ (by omega) (by omega) hl3 hab2 hB3 (rpQ_no hZ c_91 hR2) _ _ _ hP hD hS (lv_sub hl [0, 1, 2, 3, 4] rfl)
                  · skip
                    refine lv_aload_n hx hb dX0_sweepDiagonal_94 rfl (lv_at hl 2 rfl) ?_
                    refine va_get (D := D) (ci := 0) (v := .ref (z 7)) (C := RX0) (T := TX0) (N := 13) hx hb hts in_X0 hown hK hP 0 rfl rfl 12 (by decide) (hts _ q37) (fun _ h9 => h9) rfl dX0_sweepDiagonal_95 ?_
                    refine lv_iload hx hb dX0_sweepDiagonal_98 (lv_at hl 0 rfl) ?_
                    refine lv_iload_n hx hb dX0_sweepDiagonal_100 rfl (lv_at hl 3 rfl) ?_
                    refine ni_add hx hb dX0_sweepDiagonal_101 ?_
                    refine lv_iconst (v := nI (1)) hx hb dX0_sweepDiagonal_102 (by decide) ?_
                    refine ni_zast (ws2 := (wX z d0 d1 (nI (tl)) (nI (pl)) ((fo)) (nI (u_83.1)) ((u_83.2.1)) ((u_83.2.2)) (tk) (bk) (wn) (wb) (fl) (fa) (upd rp2 (a + d) (nI (1))))) hx hb hK hP hD hS 7 1 rfl rfl (by decide) rfl (by decide) dX0_sweepDiagonal_103 (by omega) (fun H locs hP hD hS => ?_)
                    refine lv_iinc (v := nI (a + 1)) (lv' := [(4, .int (nI (a + 1))), (3, .int (nI (b))), (0, .ref (z 0)), (1, .int (nI (d))), (2, .int (nI (N)))]) hx hb dX0_sweepDiagonal_104 hl (k := 0) rfl (ni_inc _) (by decide) rfl (fun ls hl => ?_)
                    refine lv_goto (tgt := 5) hx hb dX0_sweepDiagonal_107 (by decide) ?_
                    have hab2 : b ≤ a + 1 ∨ (a + 1 < b ∧ b + d ≤ tl ∧ al bk (a + 1) bk (a + 1 + d) (b - (a + 1))) := by
                      by_cases h9 : b ≤ a + 1
                      · exact Or.inl h9
                      · exact Or.inr ⟨by omega, by omega, al_to (al_drop (n := b - (a + 1)) 1 (al_to hal rfl rfl (by omega)) (by omega)) rfl (by omega) rfl⟩
                    exact ihloop (a + 1) b _ _ _ _ (by omega) (by omega) hl3 hab2 hB3 (rpQ_yes hZ c_91 hR2) _ _ _ hP hD hS (lv_sub hl [0, 1, 2, 3, 4] rfl)
                · skip
                  refine lv_iinc (v := nI (b + 1)) (lv' := [(3, .int (nI (b + 1))), (4, .int (nI (a))), (0, .ref (z 0)), (1, .int (nI (d))), (2, .int (nI (N)))]) hx hb dX0_sweepDiagonal_66 hl (k := 1) rfl (ni_inc _) (by decide) rfl (fun ls hl => ?_)
                  refine lv_goto (tgt := 25) hx hb dX0_sweepDiagonal_69 (by decide) ?_
                  exact ihinner (b + 1) (by omega) (by omega) (by omega) (al_to (lt_s hal (by rw [show a + (b - a) = b by omega, show a + d + (b - a) = b + d by omega, ← hq_45, ← hq_60]; exact c_63)) rfl rfl (by omega)) _ _ _ hP hD hS (lv_sub hl [1, 0, 2, 3, 4] rfl)
          have hb4 : b + d ≤ tl ∧ al bk a bk (a + d) (b - a) := by
            rcases hab with h | ⟨_, h1, h2⟩
            · exact ⟨by omega, by rw [show b - a = 0 by omega]; exact al_0⟩
            · exact ⟨h1, h2⟩
          exact inner (tl + 1) b (by omega) (by omega) hb4.1 hb4.2 _ _ _ hP hD hS (lv_sub hl [0, 1, 2, 3, 4] rfl)
        · skip
          refine lv_iload hx hb dX0_sweepDiagonal_22 (lv_at hl 0 rfl) ?_
          refine lv_istore_n (lv' := [(3, .int (nI (a))), (4, .int (nI (a))), (0, .ref (z 0)), (1, .int (nI (d))), (2, .int (nI (N)))]) hx hb dX0_sweepDiagonal_24 rfl hl (by decide) rfl (fun ls hl => ?_)
          have inner : ∀ (fu : Nat) (b : Nat), tl < b + fu → a ≤ b → b + d ≤ tl → al bk a bk (a + d) (b - a) → ∀ (H : Heap) (locs : List Loc) (ls : Array Slot), va_P D vwCl (wX z d0 d1 (nI (tl)) (nI (pl)) ((fo)) (nI (lo2)) ((fi2)) ((se2)) (tk) (bk) (wn) (wb) (fl) (fa) (rp2)) H → va_D A (wX z d0 d1 (nI (tl)) (nI (pl)) ((fo)) (nI (lo2)) ((fi2)) ((se2)) (tk) (bk) (wn) (wb) (fl) (fa) (rp2)) → va_S A s.heap H locs → lv_has ls 5 [(4, .int (nI (a))), (3, .int (nI (b))), (0, .ref (z 0)), (1, .int (nI (d))), (2, .int (nI (N)))] → W p l e ({ frames := 1, cells := 0, slots := 0, locals := 23 } : Room) s m ([.ref (z 0), .int (nI (d)), .int (nI (N))] : List Value).toArray below meth c H locs 0 0 (MQ below ((st_V D (tyA d0 d1) (fun (u : Nat × Int32 × Int32 × (Nat → Int32)) => u.1 ≤ 48 ∧ bst (Zp bk tl (d + 1) 0) u.1 u.2.1 u.2.2.1 ∧ rpQ (Zp bk tl (d + 1) 0) tl N u.2.2.2) (fun (u : Nat × Int32 × Int32 × (Nat → Int32)) => (wX z d0 d1 (nI (tl)) (nI (pl)) ((fo)) (nI (u.1)) ((u.2.1)) ((u.2.2.1)) (tk) (bk) (wn) (wb) (fl) (fa) (u.2.2.2)))) A) ([.ref (z 0), .int (nI (d)), .int (nI (N))] : List Value).toArray s 0 0 A) (F0 m 25 ls []) := by
            intro fu
            induction fu with
            | zero => intro b hf3 hb2 hb3 hal; exfalso; omega
            | succ fu ihinner =>
              intro b hf3 hb2 hb3 hal H locs ls hP hD hS hl
              refine lv_iload_n hx hb dX0_sweepDiagonal_25 rfl (lv_at hl 1 rfl) ?_
              refine lv_iload_n hx hb dX0_sweepDiagonal_26 rfl (lv_at hl 3 rfl) ?_
              refine ni_add hx hb dX0_sweepDiagonal_27 ?_
              refine lv_aload_n hx hb dX0_sweepDiagonal_28 rfl (lv_at hl 2 rfl) ?_
              refine va_get (D := D) (ci := 0) (v := .int (nI (tl))) (C := RX0) (T := TX0) (N := 13) hx hb hts in_X0 hown hK hP 0 rfl rfl 0 (by decide) (hts _ q25) (fun _ h9 => h9) rfl dX0_sweepDiagonal_29 ?_
              refine ni_icmp_ge (tgt := 72) hx hb dX0_sweepDiagonal_32 (by decide) (by omega) (by omega) (fun c_32 => ?_) (fun c_32 => ?_)
              · skip
                have hrc : rc bk tl a (a + d) (b - a) := ⟨by omega, hal, Or.inl (by omega)⟩
                have hZ := Zp_next (a := a) hd1 c_13 hrc
                refine lv_aload_n hx hb dX0_sweepDiagonal_72 rfl (lv_at hl 2 rfl) ?_
                refine lv_iload hx hb dX0_sweepDiagonal_73 (lv_at hl 0 rfl) ?_
                refine lv_iload hx hb dX0_sweepDiagonal_75 (lv_at hl 0 rfl) ?_
                refine lv_iload_n hx hb dX0_sweepDiagonal_77 rfl (lv_at hl 3 rfl) ?_
                refine ni_add hx hb dX0_sweepDiagonal_78 ?_
                refine lv_iload_n hx hb dX0_sweepDiagonal_79 rfl (lv_at hl 1 rfl) ?_
                refine lv_iload hx hb dX0_sweepDiagonal_80 (lv_at hl 0 rfl) ?_
                refine ni_sub (by omega) hx hb dX0_sweepDiagonal_82 ?_
                refine st_cVv0 (ci := 0) (qc := (RX0, TX0, 13)) (As := [.int (nI (a)), .int (nI (a + d)), .int (nI (b - a))]) (rest := []) 3 ⟨hx, hb, hml, hown, hts⟩ (mX_takeClone l D z d0 d1 tl pl (fo) (fi2) (se2) tk bk wn wb fl fa rp2 lo2 (by omega) (by omega) (by omega) a (a + d) (b - a) (by omega) (by omega) (by omega)) (lw_V q138 q140 qs6 q15 q141) (by decide +kernel) ⟨Nat.le_of_ble_eq_true rfl, Nat.le_of_ble_eq_true rfl⟩ rfl rfl ⟨Nat.zero_le _, Nat.zero_le _⟩ hK hP hD hS hA rfl rfl rfl hl.1 rfl (Nat.le_of_ble_eq_true rfl) dX0_sweepDiagonal_83 (fun u_83 H locs hq_83 hP hD hS => ?_)
                have hP : va_P D vwCl (wX z d0 d1 (nI (tl)) (nI (pl)) ((fo)) (nI (u_83.1)) ((u_83.2.1)) ((u_83.2.2)) (tk) (bk) (wn) (wb) (fl) (fa) (rp2)) H := hP
                have hD : va_D A (wX z d0 d1 (nI (tl)) (nI (pl)) ((fo)) (nI (u_83.1)) ((u_83.2.1)) ((u_83.2.2)) (tk) (bk) (wn) (wb) (fl) (fa) (rp2)) := hD
                have hB3 := bst_take (by omega) (by omega) hB2 hZ hq_83
                have hl3 : u_83.1 ≤ 48 := by
                  rcases hq_83 with ⟨_, e⟩ | ⟨_, e⟩
                  · rw [e]; show b - a ≤ 48; omega
                  · rw [e]; exact hl2
                refine lv_iload_n hx hb dX0_sweepDiagonal_86 rfl (lv_at hl 1 rfl) ?_
                refine lv_iload hx hb dX0_sweepDiagonal_87 (lv_at hl 0 rfl) ?_
                refine ni_sub (by omega) hx hb dX0_sweepDiagonal_89 ?_
                refine lv_iload_n hx hb dX0_sweepDiagonal_90 rfl (lv_at hl 4 rfl) ?_
                refine ni_icmp_lt (tgt := 104) hx hb dX0_sweepDiagonal_91 (by decide) (by omega) (by omega) (fun c_91 => ?_) (fun c_91 => ?_)
                · skip
                  refine lv_iinc (v := nI (a + 1)) (lv' := [(4, .int (nI (a + 1))), (3, .int (nI (b))), (0, .ref (z 0)), (1, .int (nI (d))), (2, .int (nI (N)))]) hx hb dX0_sweepDiagonal_104 hl (k := 0) rfl (ni_inc _) (by decide) rfl (fun ls hl => ?_)
                  refine lv_goto (tgt := 5) hx hb dX0_sweepDiagonal_107 (by decide) ?_
                  have hab2 : b ≤ a + 1 ∨ (a + 1 < b ∧ b + d ≤ tl ∧ al bk (a + 1) bk (a + 1 + d) (b - (a + 1))) := by
                    by_cases h9 : b ≤ a + 1
                    · exact Or.inl h9
                    · exact Or.inr ⟨by omega, by omega, al_to (al_drop (n := b - (a + 1)) 1 (al_to hal rfl rfl (by omega)) (by omega)) rfl (by omega) rfl⟩
                  exact ihloop (a + 1) b _ _ _ _ (by omega) (by omega) hl3 hab2 hB3 (rpQ_no hZ c_91 hR2) _ _ _ hP hD hS (lv_sub hl [0, 1, 2, 3, 4] rfl)
                · skip
                  refine lv_aload_n hx hb dX0_sweepDiagonal_94 rfl (lv_at hl 2 rfl) ?_
                  refine va_get (D := D) (ci := 0) (v := .ref (z 7)) (C := RX0) (T := TX0) (N := 13) hx hb hts in_X0 hown hK hP 0 rfl rfl 12 (by decide) (hts _ q37) (fun _ h9 => h9) rfl dX0_sweepDiagonal_95 ?_
                  refine lv_iload hx hb dX0_sweepDiagonal_98 (lv_at hl 0 rfl) ?_
                  refine lv_iload_n hx hb dX0_sweepDiagonal_100 rfl (lv_at hl 3 rfl) ?_
                  refine ni_add hx hb dX0_sweepDiagonal_101 ?_
                  refine lv_iconst (v := nI (1)) hx hb dX0_sweepDiagonal_102 (by decide) ?_
                  refine ni_zast (ws2 := (wX z d0 d1 (nI (tl)) (nI (pl)) ((fo)) (nI (u_83.1)) ((u_83.2.1)) ((u_83.2.2)) (tk) (bk) (wn) (wb) (fl) (fa) (upd rp2 (a + d) (nI (1))))) hx hb hK hP hD hS 7 1 rfl rfl (by decide) rfl (by decide) dX0_sweepDiagonal_103 (by omega) (fun H locs hP hD hS => ?_)
                  refine lv_iinc (v := nI (a + 1)) (lv' := [(4, .int (nI (a + 1))), (3, .int (nI (b))), (0, .ref (z 0)), (1, .int (nI (d))), (2, .int (nI (N)))]) hx hb dX0_sweepDiagonal_104 hl (k := 0) rfl (ni_inc _) (by decide) rfl (fun ls hl => ?_)
                  refine lv_goto (tgt := 5) hx hb dX0_sweepDiagonal_107 (by decide) ?_
                  have hab2 : b ≤ a + 1 ∨ (a + 1 < b ∧ b + d ≤ tl ∧ al bk (a + 1) bk (a + 1 + d) (b - (a + 1))) := by
                    by_cases h9 : b ≤ a + 1
                    · exact Or.inl h9
                    · exact Or.inr ⟨by omega, by omega, al_to (al_drop (n := b - (a + 1)) 1 (al_to hal rfl rfl (by omega)) (by omega)) rfl (by omega) rfl⟩
                  exact ihloop (a + 1) b _ _ _ _ (by omega) (by omega) hl3 hab2 hB3 (rpQ_yes hZ c_91 hR2) _ _ _ hP hD hS (lv_sub hl [0, 1, 2, 3, 4] rfl)
              · skip
                refine lv_aload_n hx hb dX0_sweepDiagonal_35 rfl (lv_at hl 2 rfl) ?_
                refine va_get (D := D) (ci := 0) (v := .ref (z 2)) (C := RX0) (T := TX0) (N := 13) hx hb hts in_X0 hown hK hP 0 rfl rfl 2 (by decide) (hts _ q27) (fun _ h9 => h9) rfl dX0_sweepDiagonal_36 ?_
                refine lv_iload_n hx hb dX0_sweepDiagonal_39 rfl (lv_at hl 1 rfl) ?_
                refine ni_ald hx hb hK hP 2 0 rfl rfl (by decide) dX0_sweepDiagonal_40 (by omega) ?_
                refine lv_iload_n hx hb dX0_sweepDiagonal_41 rfl (lv_at hl 1 rfl) ?_
                refine lv_iload hx hb dX0_sweepDiagonal_42 (lv_at hl 0 rfl) ?_
                refine ni_sub (by omega) hx hb dX0_sweepDiagonal_44 ?_
                refine st_cSi (As := [.int (bk b), .int (nI (b - a))]) (rest := []) 2 ⟨hx, hb, hml, hown, hts⟩ (mX_within l D z d0 d1 (bk b) (b - a)) (lw_S q94 q95 q15 q96) (by decide +kernel) ⟨Nat.le_of_ble_eq_true rfl, Nat.le_of_ble_eq_true rfl⟩ rfl rfl ⟨Nat.zero_le _, Nat.zero_le _⟩ hK hP hD hS hA rfl hl.1 rfl (Nat.le_of_ble_eq_true rfl) dX0_sweepDiagonal_45 (fun r_45 H locs hq_45 hP hD hS => ?_)
                refine lv_aload_n hx hb dX0_sweepDiagonal_48 rfl (lv_at hl 2 rfl) ?_
                refine va_get (D := D) (ci := 0) (v := .ref (z 2)) (C := RX0) (T := TX0) (N := 13) hx hb hts in_X0 hown hK hP 0 rfl rfl 2 (by decide) (hts _ q27) (fun _ h9 => h9) rfl dX0_sweepDiagonal_49 ?_
                refine lv_iload_n hx hb dX0_sweepDiagonal_52 rfl (lv_at hl 1 rfl) ?_
                refine lv_iload_n hx hb dX0_sweepDiagonal_53 rfl (lv_at hl 3 rfl) ?_
                refine ni_add hx hb dX0_sweepDiagonal_54 ?_
                refine ni_ald hx hb hK hP 2 0 rfl rfl (by decide) dX0_sweepDiagonal_55 (by omega) ?_
                refine lv_iload_n hx hb dX0_sweepDiagonal_56 rfl (lv_at hl 1 rfl) ?_
                refine lv_iload hx hb dX0_sweepDiagonal_57 (lv_at hl 0 rfl) ?_
                refine ni_sub (by omega) hx hb dX0_sweepDiagonal_59 ?_
                refine st_cSi (As := [.int (bk (b + d)), .int (nI (b - a))]) (rest := [.int (r_45)]) 2 ⟨hx, hb, hml, hown, hts⟩ (mX_within l D z d0 d1 (bk (b + d)) (b - a)) (lw_S q94 q95 q15 q96) (by decide +kernel) ⟨Nat.le_of_ble_eq_true rfl, Nat.le_of_ble_eq_true rfl⟩ rfl rfl ⟨Nat.zero_le _, Nat.zero_le _⟩ hK hP hD hS hA rfl hl.1 rfl (Nat.le_of_ble_eq_true rfl) dX0_sweepDiagonal_60 (fun r_60 H locs hq_60 hP hD hS => ?_)
                refine lv_icmp_ne (tgt := 72) hx hb dX0_sweepDiagonal_63 (by decide) (fun c_63 => ?_) (fun c_63 => ?_)
                · skip
                  have hrc : rc bk tl a (a + d) (b - a) := ⟨by omega, hal, Or.inr (fun h => c_63 (by
                    rw [hq_45, hq_60]
                    rw [show a + (b - a) = b by omega, show a + d + (b - a) = b + d by omega] at h
                    exact h))⟩
                  have hZ := Zp_next (a := a) hd1 c_13 hrc
                  refine lv_aload_n hx hb dX0_sweepDiagonal_72 rfl (lv_at hl 2 rfl) ?_
                  refine lv_iload hx hb dX0_sweepDiagonal_73 (lv_at hl 0 rfl) ?_
                  refine lv_iload hx hb dX0_sweepDiagonal_75 (lv_at hl 0 rfl) ?_
                  refine lv_iload_n hx hb dX0_sweepDiagonal_77 rfl (lv_at hl 3 rfl) ?_
                  refine ni_add hx hb dX0_sweepDiagonal_78 ?_
                  refine lv_iload_n hx hb dX0_sweepDiagonal_79 rfl (lv_at hl 1 rfl) ?_
                  refine lv_iload hx hb dX0_sweepDiagonal_80 (lv_at hl 0 rfl) ?_
                  refine ni_sub (by omega) hx hb dX0_sweepDiagonal_82 ?_
                  refine st_cVv0 (ci := 0) (qc := (RX0, TX0, 13)) (As := [.int (nI (a)), .int (nI (a + d)), .int (nI (b - a))]) (rest := []) 3 ⟨hx, hb, hml, hown, hts⟩ (mX_takeClone l D z d0 d1 tl pl (fo) (fi2) (se2) tk bk wn wb fl fa rp2 lo2 (by omega) (by omega) (by omega) a (a + d) (b - a) (by omega) (by omega) (by omega)) (lw_V q138 q140 qs6 q15 q141) (by decide +kernel) ⟨Nat.le_of_ble_eq_true rfl, Nat.le_of_ble_eq_true rfl⟩ rfl rfl ⟨Nat.zero_le _, Nat.zero_le _⟩ hK hP hD hS hA rfl rfl rfl hl.1 rfl (Nat.le_of_ble_eq_true rfl) dX0_sweepDiagonal_83 (fun u_83 H locs hq_83 hP hD hS => ?_)
                  have hP : va_P D vwCl (wX z d0 d1 (nI (tl)) (nI (pl)) ((fo)) (nI (u_83.1)) ((u_83.2.1)) ((u_83.2.2)) (tk) (bk) (wn) (wb) (fl) (fa) (rp2)) H := hP
                  have hD : va_D A (wX z d0 d1 (nI (tl)) (nI (pl)) ((fo)) (nI (u_83.1)) ((u_83.2.1)) ((u_83.2.2)) (tk) (bk) (wn) (wb) (fl) (fa) (rp2)) := hD
                  have hB3 := bst_take (by omega) (by omega) hB2 hZ hq_83
                  have hl3 : u_83.1 ≤ 48 := by
                    rcases hq_83 with ⟨_, e⟩ | ⟨_, e⟩
                    · rw [e]; show b - a ≤ 48; omega
                    · rw [e]; exact hl2
                  refine lv_iload_n hx hb dX0_sweepDiagonal_86 rfl (lv_at hl 1 rfl) ?_
                  refine lv_iload hx hb dX0_sweepDiagonal_87 (lv_at hl 0 rfl) ?_
                  refine ni_sub (by omega) hx hb dX0_sweepDiagonal_89 ?_
                  refine lv_iload_n hx hb dX0_sweepDiagonal_90 rfl (lv_at hl 4 rfl) ?_
                  refine ni_icmp_lt (tgt := 104) hx hb dX0_sweepDiagonal_91 (by decide) (by omega) (by omega) (fun c_91 => ?_) (fun c_91 => ?_)
                  · skip
                    refine lv_iinc (v := nI (a + 1)) (lv' := [(4, .int (nI (a + 1))), (3, .int (nI (b))), (0, .ref (z 0)), (1, .int (nI (d))), (2, .int (nI (N)))]) hx hb dX0_sweepDiagonal_104 hl (k := 0) rfl (ni_inc _) (by decide) rfl (fun ls hl => ?_)
                    refine lv_goto (tgt := 5) hx hb dX0_sweepDiagonal_107 (by decide) ?_
                    have hab2 : b ≤ a + 1 ∨ (a + 1 < b ∧ b + d ≤ tl ∧ al bk (a + 1) bk (a + 1 + d) (b - (a + 1))) := by
                      by_cases h9 : b ≤ a + 1
                      · exact Or.inl h9
                      · exact Or.inr ⟨by omega, by omega, al_to (al_drop (n := b - (a + 1)) 1 (al_to hal rfl rfl (by omega)) (by omega)) rfl (by omega) rfl⟩
                    exact ihloop (a + 1) b _ _ _ _ (by omega) (by omega) hl3 hab2 hB3 (rpQ_no hZ c_91 hR2) _ _ _ hP hD hS (lv_sub hl [0, 1, 2, 3, 4] rfl)
                  · skip
                    refine lv_aload_n hx hb dX0_sweepDiagonal_94 rfl (lv_at hl 2 rfl) ?_
                    refine va_get (D := D) (ci := 0) (v := .ref (z 7)) (C := RX0) (T := TX0) (N := 13) hx hb hts in_X0 hown hK hP 0 rfl rfl 12 (by decide) (hts _ q37) (fun _ h9 => h9) rfl dX0_sweepDiagonal_95 ?_
                    refine lv_iload hx hb dX0_sweepDiagonal_98 (lv_at hl 0 rfl) ?_
                    refine lv_iload_n hx hb dX0_sweepDiagonal_100 rfl (lv_at hl 3 rfl) ?_
                    refine ni_add hx hb dX0_sweepDiagonal_101 ?_
                    refine lv_iconst (v := nI (1)) hx hb dX0_sweepDiagonal_102 (by decide) ?_
                    refine ni_zast (ws2 := (wX z d0 d1 (nI (tl)) (nI (pl)) ((fo)) (nI (u_83.1)) ((u_83.2.1)) ((u_83.2.2)) (tk) (bk) (wn) (wb) (fl) (fa) (upd rp2 (a + d) (nI (1))))) hx hb hK hP hD hS 7 1 rfl rfl (by decide) rfl (by decide) dX0_sweepDiagonal_103 (by omega) (fun H locs hP hD hS => ?_)
                    refine lv_iinc (v := nI (a + 1)) (lv' := [(4, .int (nI (a + 1))), (3, .int (nI (b))), (0, .ref (z 0)), (1, .int (nI (d))), (2, .int (nI (N)))]) hx hb dX0_sweepDiagonal_104 hl (k := 0) rfl (ni_inc _) (by decide) rfl (fun ls hl => ?_)
                    refine lv_goto (tgt := 5) hx hb dX0_sweepDiagonal_107 (by decide) ?_
                    have hab2 : b ≤ a + 1 ∨ (a + 1 < b ∧ b + d ≤ tl ∧ al bk (a + 1) bk (a + 1 + d) (b - (a + 1))) := by
                      by_cases h9 : b ≤ a + 1
                      · exact Or.inl h9
                      · exact Or.inr ⟨by omega, by omega, al_to (al_drop (n := b - (a + 1)) 1 (al_to hal rfl rfl (by omega)) (by omega)) rfl (by omega) rfl⟩
                    exact ihloop (a + 1) b _ _ _ _ (by omega) (by omega) hl3 hab2 hB3 (rpQ_yes hZ c_91 hR2) _ _ _ hP hD hS (lv_sub hl [0, 1, 2, 3, 4] rfl)
                · skip
                  refine lv_iinc (v := nI (b + 1)) (lv' := [(3, .int (nI (b + 1))), (4, .int (nI (a))), (0, .ref (z 0)), (1, .int (nI (d))), (2, .int (nI (N)))]) hx hb dX0_sweepDiagonal_66 hl (k := 1) rfl (ni_inc _) (by decide) rfl (fun ls hl => ?_)
                  refine lv_goto (tgt := 25) hx hb dX0_sweepDiagonal_69 (by decide) ?_
                  exact ihinner (b + 1) (by omega) (by omega) (by omega) (al_to (lt_s hal (by rw [show a + (b - a) = b by omega, show a + d + (b - a) = b + d by omega, ← hq_45, ← hq_60]; exact c_63)) rfl rfl (by omega)) _ _ _ hP hD hS (lv_sub hl [1, 0, 2, 3, 4] rfl)
          exact inner (tl + 1) a (by omega) (by omega) (by omega) (by rw [Nat.sub_self]; exact al_0) _ _ _ hP hD hS (lv_sub hl [1, 0, 2, 3, 4] rfl)
  exact loop (tl + 1) 0 0 _ _ _ _ (by omega) (by omega) hlo (Or.inl (by omega)) hB hR _ _ _ hP hD hS (lv_sub hl [0, 1, 2, 3, 4] rfl)

set_option maxHeartbeats 4000000 in
set_option maxRecDepth 100000 in
/-- sweep(N) -/
theorem mX_sweep (l : Launch) (D : va_G) (z : Nat → Nat) (d0 d1 : ClassId) (tl pl : Nat) (fo lo fi se : Int32) (tk bk wn wb fl fa rp : Nat → Int32) (htl : tl ≤ 48) (hpl : pl ≤ 12) (N : Nat) (hN : N ≤ 48) : ct_V l yX0_sweep cX0_sweep 3 none ({ frames := 2, cells := 0, slots := 0, locals := 47 } : Room) ([.ref (z 0), .int (nI (N))] : List Value) D (tyA d0 d1) (wX z d0 d1 (nI (tl)) (nI (pl)) ((fo)) ((lo)) ((fi)) ((se)) (tk) (bk) (wn) (wb) (fl) (fa) (rp)) (fun (u : Nat × Int32 × Int32 × (Nat → Int32)) => u.1 ≤ 48 ∧ bst (Zf bk tl) u.1 u.2.1 u.2.2.1 ∧ rpQ (Zf bk tl) tl N u.2.2.2) (fun (u : Nat × Int32 × Int32 × (Nat → Int32)) => (wX z d0 d1 (nI (tl)) (nI (pl)) ((fo)) (nI (u.1)) ((u.2.1)) ((u.2.2.1)) (tk) (bk) (wn) (wb) (fl) (fa) (u.2.2.2))) := by
  intro sz
  refine st_of (QA := (st_V D (tyA d0 d1) (fun (u : Nat × Int32 × Int32 × (Nat → Int32)) => u.1 ≤ 48 ∧ bst (Zf bk tl) u.1 u.2.1 u.2.2.1 ∧ rpQ (Zf bk tl) tl N u.2.2.2) (fun (u : Nat × Int32 × Int32 × (Nat → Int32)) => (wX z d0 d1 (nI (tl)) (nI (pl)) ((fo)) (nI (u.1)) ((u.2.1)) ((u.2.2.1)) (tk) (bk) (wn) (wb) (fl) (fa) (u.2.2.2))))) (by decide) (Nat.le_of_ble_eq_true rfl) ?_
  intro p e s m below meth c A ls hx hb hr hml hlocks hown hts hname hK hP hD hS hA hl
  have hl : lv_has ls 3 [(0, .ref (z 0)), (1, .int (nI (N)))] := hl
  have hown : s.vm.findClass RX0 = some m.cls := hown
  refine lv_aload_n hx hb dX0_sweep_0 rfl (lv_at hl 0 rfl) ?_
  refine lv_iconst (v := nI (0)) hx hb dX0_sweep_1 (by decide) ?_
  refine va_put (D := D) (ci := 0) (v := .int (nI (0))) (ty := .int) (C := RX0) (T := TX0) (N := 13) hx hb hts in_X0 tyX0 tyX0_ok nmX0 hown hK hP hD hS 0 rfl rfl 9 (by decide) (hts _ q34) (fun _ h9 => h9) rfl (by decide +kernel) rfl rfl (Nat.le_of_ble_eq_true rfl) dX0_sweep_2 (fun H locs hP hD hS => ?_)
  have hP : va_P D vwCl (wX z d0 d1 (nI (tl)) (nI (pl)) ((fo)) (nI (0)) ((fi)) ((se)) (tk) (bk) (wn) (wb) (fl) (fa) (rp)) H := hP
  have hD : va_D A (wX z d0 d1 (nI (tl)) (nI (pl)) ((fo)) (nI (0)) ((fi)) ((se)) (tk) (bk) (wn) (wb) (fl) (fa) (rp)) := hD
  refine lv_aload_n hx hb dX0_sweep_5 rfl (lv_at hl 0 rfl) ?_
  refine lv_bipush (v := (-4)) hx hb dX0_sweep_6 (by decide) ?_
  refine va_put (D := D) (ci := 0) (v := .int (-4)) (ty := .int) (C := RX0) (T := TX0) (N := 13) hx hb hts in_X0 tyX0 tyX0_ok nmX0 hown hK hP hD hS 0 rfl rfl 10 (by decide) (hts _ q35) (fun _ h9 => h9) rfl (by decide +kernel) rfl rfl (Nat.le_of_ble_eq_true rfl) dX0_sweep_8 (fun H locs hP hD hS => ?_)
  have hP : va_P D vwCl (wX z d0 d1 (nI (tl)) (nI (pl)) ((fo)) (nI (0)) ((-4)) ((se)) (tk) (bk) (wn) (wb) (fl) (fa) (rp)) H := hP
  have hD : va_D A (wX z d0 d1 (nI (tl)) (nI (pl)) ((fo)) (nI (0)) ((-4)) ((se)) (tk) (bk) (wn) (wb) (fl) (fa) (rp)) := hD
  refine lv_aload_n hx hb dX0_sweep_11 rfl (lv_at hl 0 rfl) ?_
  refine lv_bipush (v := (-4)) hx hb dX0_sweep_12 (by decide) ?_
  refine va_put (D := D) (ci := 0) (v := .int (-4)) (ty := .int) (C := RX0) (T := TX0) (N := 13) hx hb hts in_X0 tyX0 tyX0_ok nmX0 hown hK hP hD hS 0 rfl rfl 11 (by decide) (hts _ q36) (fun _ h9 => h9) rfl (by decide +kernel) rfl rfl (Nat.le_of_ble_eq_true rfl) dX0_sweep_14 (fun H locs hP hD hS => ?_)
  have hP : va_P D vwCl (wX z d0 d1 (nI (tl)) (nI (pl)) ((fo)) (nI (0)) ((-4)) ((-4)) (tk) (bk) (wn) (wb) (fl) (fa) (rp)) H := hP
  have hD : va_D A (wX z d0 d1 (nI (tl)) (nI (pl)) ((fo)) (nI (0)) ((-4)) ((-4)) (tk) (bk) (wn) (wb) (fl) (fa) (rp)) := hD
  refine lv_iconst (v := nI (0)) hx hb dX0_sweep_17 (by decide) ?_
  refine lv_istore_n (lv' := [(2, .int (nI (0))), (0, .ref (z 0)), (1, .int (nI (N)))]) hx hb dX0_sweep_18 rfl hl (by decide) rfl (fun ls hl => ?_)
  have loop : ∀ (fu : Nat) (i : Nat) (rp2 : (Nat → Int32)), tl < i + fu → i ≤ tl → (∀ q, q < i → rp2 q = nI 0) → ∀ (H : Heap) (locs : List Loc) (ls : Array Slot), va_P D vwCl (wX z d0 d1 (nI (tl)) (nI (pl)) ((fo)) (nI (0)) ((-4)) ((-4)) (tk) (bk) (wn) (wb) (fl) (fa) (rp2)) H → va_D A (wX z d0 d1 (nI (tl)) (nI (pl)) ((fo)) (nI (0)) ((-4)) ((-4)) (tk) (bk) (wn) (wb) (fl) (fa) (rp2)) → va_S A s.heap H locs → lv_has ls 3 [(2, .int (nI (i))), (0, .ref (z 0)), (1, .int (nI (N)))] → W p l e ({ frames := 2, cells := 0, slots := 0, locals := 47 } : Room) s m ([.ref (z 0), .int (nI (N))] : List Value).toArray below meth c H locs 0 0 (MQ below ((st_V D (tyA d0 d1) (fun (u : Nat × Int32 × Int32 × (Nat → Int32)) => u.1 ≤ 48 ∧ bst (Zf bk tl) u.1 u.2.1 u.2.2.1 ∧ rpQ (Zf bk tl) tl N u.2.2.2) (fun (u : Nat × Int32 × Int32 × (Nat → Int32)) => (wX z d0 d1 (nI (tl)) (nI (pl)) ((fo)) (nI (u.1)) ((u.2.1)) ((u.2.2.1)) (tk) (bk) (wn) (wb) (fl) (fa) (u.2.2.2)))) A) ([.ref (z 0), .int (nI (N))] : List Value).toArray s 0 0 A) (F0 m 19 ls []) := by
    intro fu
    induction fu with
    | zero => intro i rp2 hf hi h0; exfalso; omega
    | succ fu ihloop =>
      intro i rp2 hf hi h0 H locs ls hP hD hS hl
      refine lv_iload_n hx hb dX0_sweep_19 rfl (lv_at hl 0 rfl) ?_
      refine lv_aload_n hx hb dX0_sweep_20 rfl (lv_at hl 1 rfl) ?_
      refine va_get (D := D) (ci := 0) (v := .int (nI (tl))) (C := RX0) (T := TX0) (N := 13) hx hb hts in_X0 hown hK hP 0 rfl rfl 0 (by decide) (hts _ q25) (fun _ h9 => h9) rfl dX0_sweep_21 ?_
      refine ni_icmp_ge (tgt := 40) hx hb dX0_sweep_24 (by decide) (by omega) (by omega) (fun c_24 => ?_) (fun c_24 => ?_)
      · skip
        refine lv_iconst (v := nI (1)) hx hb dX0_sweep_40 (by decide) ?_
        refine lv_istore_n (lv' := [(2, .int (nI (1))), (0, .ref (z 0)), (1, .int (nI (N)))]) hx hb dX0_sweep_41 rfl hl (by decide) rfl (fun ls hl => ?_)
        have dl : ∀ (fu : Nat) (d lo2 : Nat) (fi2 se2 : Int32) (rp3 : (Nat → Int32)), tl + 1 < d + fu → 1 ≤ d → d ≤ tl + 1 → lo2 ≤ 48 → bst (Zp bk tl d 0) lo2 fi2 se2 → rpQ (Zp bk tl d 0) tl N rp3 → ∀ (H : Heap) (locs : List Loc) (ls : Array Slot), va_P D vwCl (wX z d0 d1 (nI (tl)) (nI (pl)) ((fo)) (nI (lo2)) ((fi2)) ((se2)) (tk) (bk) (wn) (wb) (fl) (fa) (rp3)) H → va_D A (wX z d0 d1 (nI (tl)) (nI (pl)) ((fo)) (nI (lo2)) ((fi2)) ((se2)) (tk) (bk) (wn) (wb) (fl) (fa) (rp3)) → va_S A s.heap H locs → lv_has ls 3 [(2, .int (nI (d))), (0, .ref (z 0)), (1, .int (nI (N)))] → W p l e ({ frames := 2, cells := 0, slots := 0, locals := 47 } : Room) s m ([.ref (z 0), .int (nI (N))] : List Value).toArray below meth c H locs 0 0 (MQ below ((st_V D (tyA d0 d1) (fun (u : Nat × Int32 × Int32 × (Nat → Int32)) => u.1 ≤ 48 ∧ bst (Zf bk tl) u.1 u.2.1 u.2.2.1 ∧ rpQ (Zf bk tl) tl N u.2.2.2) (fun (u : Nat × Int32 × Int32 × (Nat → Int32)) => (wX z d0 d1 (nI (tl)) (nI (pl)) ((fo)) (nI (u.1)) ((u.2.1)) ((u.2.2.1)) (tk) (bk) (wn) (wb) (fl) (fa) (u.2.2.2)))) A) ([.ref (z 0), .int (nI (N))] : List Value).toArray s 0 0 A) (F0 m 42 ls []) := by
          intro fu
          induction fu with
          | zero => intro d lo2 fi2 se2 rp3 hf2 h1 hd hl2 hB2 hR2; exfalso; omega
          | succ fu ihdl =>
            intro d lo2 fi2 se2 rp3 hf2 h1 hd hl2 hB2 hR2 H locs ls hP hD hS hl
            refine lv_iload_n hx hb dX0_sweep_42 rfl (lv_at hl 0 rfl) ?_
            refine lv_aload_n hx hb dX0_sweep_43 rfl (lv_at hl 1 rfl) ?_
            refine va_get (D := D) (ci := 0) (v := .int (nI (tl))) (C := RX0) (T := TX0) (N := 13) hx hb hts in_X0 hown hK hP 0 rfl rfl 0 (by decide) (hts _ q25) (fun _ h9 => h9) rfl dX0_sweep_44 ?_
            refine ni_icmp_ge (tgt := 62) hx hb dX0_sweep_47 (by decide) (by omega) (by omega) (fun c_47 => ?_) (fun c_47 => ?_)
            · skip
              exact st_vret (lo2, fi2, se2, rp3) hx hb hr hlocks hK hP hD hS dX0_sweep_62 ⟨hl2, bst_congr (Zp_all c_47) hB2, rpQ_congr (Zp_all c_47) hR2⟩
            · skip
              refine lv_aload_n hx hb dX0_sweep_50 rfl (lv_at hl 1 rfl) ?_
              refine lv_iload_n hx hb dX0_sweep_51 rfl (lv_at hl 0 rfl) ?_
              refine lv_iload_n hx hb dX0_sweep_52 rfl (lv_at hl 2 rfl) ?_
              refine st_cVv0 (ci := 0) (qc := (RX0, TX0, 13)) (As := [.int (nI (d)), .int (nI (N))]) (rest := []) 2 ⟨hx, hb, hml, hown, hts⟩ (mX_sweepDiagonal l D z d0 d1 tl pl (fo) (fi2) (se2) tk bk wn wb fl fa rp3 lo2 (by omega) (by omega) (by omega) d N h1 c_47 hN hB2 hR2) (lw_V q134 q136 qs5 q15 q137) (by decide +kernel) ⟨Nat.le_of_ble_eq_true rfl, Nat.le_of_ble_eq_true rfl⟩ rfl rfl ⟨Nat.zero_le _, Nat.zero_le _⟩ hK hP hD hS hA rfl rfl rfl hl.1 rfl (Nat.le_of_ble_eq_true rfl) dX0_sweep_53 (fun u_53 H locs hq_53 hP hD hS => ?_)
              have hP : va_P D vwCl (wX z d0 d1 (nI (tl)) (nI (pl)) ((fo)) (nI (u_53.1)) ((u_53.2.1)) ((u_53.2.2.1)) (tk) (bk) (wn) (wb) (fl) (fa) (u_53.2.2.2)) H := hP
              have hD : va_D A (wX z d0 d1 (nI (tl)) (nI (pl)) ((fo)) (nI (u_53.1)) ((u_53.2.1)) ((u_53.2.2.1)) (tk) (bk) (wn) (wb) (fl) (fa) (u_53.2.2.2)) := hD
              refine lv_iinc (v := nI (d + 1)) (lv' := [(2, .int (nI (d + 1))), (0, .ref (z 0)), (1, .int (nI (N)))]) hx hb dX0_sweep_56 hl (k := 0) rfl (ni_inc _) (by decide) rfl (fun ls hl => ?_)
              refine lv_goto (tgt := 42) hx hb dX0_sweep_59 (by decide) ?_
              exact ihdl (d + 1) _ _ _ _ (by omega) (by omega) (by omega) hq_53.1 hq_53.2.1 hq_53.2.2 _ _ _ hP hD hS (lv_sub hl [0, 1, 2] rfl)
        exact dl (tl + 2) 1 _ _ _ _ (by omega) (by omega) (by omega) (by omega) bst_0 (rpQ_0 (fun j hj => h0 j (by omega))) _ _ _ hP hD hS (lv_sub hl [0, 1, 2] rfl)
      · skip
        refine lv_aload_n hx hb dX0_sweep_27 rfl (lv_at hl 1 rfl) ?_
        refine va_get (D := D) (ci := 0) (v := .ref (z 7)) (C := RX0) (T := TX0) (N := 13) hx hb hts in_X0 hown hK hP 0 rfl rfl 12 (by decide) (hts _ q37) (fun _ h9 => h9) rfl dX0_sweep_28 ?_
        refine lv_iload_n hx hb dX0_sweep_31 rfl (lv_at hl 0 rfl) ?_
        refine lv_iconst (v := nI (0)) hx hb dX0_sweep_32 (by decide) ?_
        refine ni_zast (ws2 := (wX z d0 d1 (nI (tl)) (nI (pl)) ((fo)) (nI (0)) ((-4)) ((-4)) (tk) (bk) (wn) (wb) (fl) (fa) (upd rp2 i (nI (0))))) hx hb hK hP hD hS 7 1 rfl rfl (by decide) rfl (by decide) dX0_sweep_33 (by omega) (fun H locs hP hD hS => ?_)
        refine lv_iinc (v := nI (i + 1)) (lv' := [(2, .int (nI (i + 1))), (0, .ref (z 0)), (1, .int (nI (N)))]) hx hb dX0_sweep_34 hl (k := 0) rfl (ni_inc _) (by decide) rfl (fun ls hl => ?_)
        refine lv_goto (tgt := 19) hx hb dX0_sweep_37 (by decide) ?_
        exact ihloop (i + 1) _ (by omega) (by omega) (lt_s (fun q hq => (pk_un (by omega)).trans (h0 q hq)) pk_us) _ _ _ hP hD hS (lv_sub hl [0, 1, 2] rfl)
  exact loop (tl + 1) 0 rp (by omega) (by omega) lt_0 _ _ _ hP hD hS (lv_sub hl [0, 1, 2] rfl)

set_option maxHeartbeats 4000000 in
set_option maxRecDepth 100000 in
/-- longestClone -/
theorem mX_longestClone (l : Launch) (D : va_G) (z : Nat → Nat) (d0 d1 : ClassId) (tl pl : Nat) (fo lo fi se : Int32) (tk bk wn wb fl fa rp : Nat → Int32) (htl : tl ≤ 48) (hpl : pl ≤ 12) : ct_I l yX0_longestClone cX0_longestClone 1 (some .int) ({ frames := 3, cells := 0, slots := 0, locals := 69 } : Room) ([.ref (z 0)] : List Value) D (tyA d0 d1) (wX z d0 d1 (nI (tl)) (nI (pl)) ((fo)) ((lo)) ((fi)) ((se)) (tk) (bk) (wn) (wb) (fl) (fa) (rp)) (fun r (_ : Nat × Int32 × Int32 × (Nat → Int32)) => ∃ k, r = nI k ∧ k ≤ 48 ∧ mx (lg (aX bk tl)) k) (fun (u : Nat × Int32 × Int32 × (Nat → Int32)) => (wX z d0 d1 (nI (tl)) (nI (pl)) ((fo)) (nI (u.1)) ((u.2.1)) ((u.2.2.1)) (tk) (bk) (wn) (wb) (fl) (fa) (u.2.2.2))) := by
  intro sz
  refine st_of (QA := (st_I D (tyA d0 d1) (fun r (_ : Nat × Int32 × Int32 × (Nat → Int32)) => ∃ k, r = nI k ∧ k ≤ 48 ∧ mx (lg (aX bk tl)) k) (fun (u : Nat × Int32 × Int32 × (Nat → Int32)) => (wX z d0 d1 (nI (tl)) (nI (pl)) ((fo)) (nI (u.1)) ((u.2.1)) ((u.2.2.1)) (tk) (bk) (wn) (wb) (fl) (fa) (u.2.2.2))))) (by decide) (Nat.le_of_ble_eq_true rfl) ?_
  intro p e s m below meth c A ls hx hb hr hml hlocks hown hts hname hK hP hD hS hA hl
  have hl : lv_has ls 1 [(0, .ref (z 0))] := hl
  have hown : s.vm.findClass RX0 = some m.cls := hown
  refine lv_aload_n hx hb dX0_longestClone_0 rfl (lv_at hl 0 rfl) ?_
  refine lv_iconst (v := nI (1)) hx hb dX0_longestClone_1 (by decide) ?_
  refine st_cVv0 (ci := 0) (qc := (RX0, TX0, 13)) (As := [.int (nI (1))]) (rest := []) 1 ⟨hx, hb, hml, hown, hts⟩ (mX_sweep l D z d0 d1 tl pl (fo) (lo) (fi) (se) tk bk wn wb fl fa rp (by omega) (by omega) 1 (by omega)) (lw_V q130 q132 qs4 q15 q133) (by decide +kernel) ⟨Nat.le_of_ble_eq_true rfl, Nat.le_of_ble_eq_true rfl⟩ rfl rfl ⟨Nat.zero_le _, Nat.zero_le _⟩ hK hP hD hS hA rfl rfl rfl hl.1 rfl (Nat.le_of_ble_eq_true rfl) dX0_longestClone_2 (fun u_2 H locs hq_2 hP hD hS => ?_)
  have hP : va_P D vwCl (wX z d0 d1 (nI (tl)) (nI (pl)) ((fo)) (nI (u_2.1)) ((u_2.2.1)) ((u_2.2.2.1)) (tk) (bk) (wn) (wb) (fl) (fa) (u_2.2.2.2)) H := hP
  have hD : va_D A (wX z d0 d1 (nI (tl)) (nI (pl)) ((fo)) (nI (u_2.1)) ((u_2.2.1)) ((u_2.2.2.1)) (tk) (bk) (wn) (wb) (fl) (fa) (u_2.2.2.2)) := hD
  refine lv_aload_n hx hb dX0_longestClone_5 rfl (lv_at hl 0 rfl) ?_
  refine va_get (D := D) (ci := 0) (v := .int (nI (u_2.1))) (C := RX0) (T := TX0) (N := 13) hx hb hts in_X0 hown hK hP 0 rfl rfl 9 (by decide) (hts _ q34) (fun _ h9 => h9) rfl dX0_longestClone_6 ?_
  exact st_iret (v := nI (u_2.1)) u_2 hx hb hr hlocks hK hP hD hS dX0_longestClone_9 ⟨u_2.1, rfl, hq_2.1, bst_mx hq_2.2.1⟩

set_option maxHeartbeats 4000000 in
set_option maxRecDepth 100000 in
/-- cloneFirst -/
theorem mX_cloneFirst (l : Launch) (D : va_G) (z : Nat → Nat) (d0 d1 : ClassId) (tl pl : Nat) (fo lo fi se : Int32) (tk bk wn wb fl fa rp : Nat → Int32) (htl : tl ≤ 48) (hpl : pl ≤ 12) : ct_I l yX0_cloneFirst cX0_cloneFirst 1 (some .int) ({ frames := 3, cells := 0, slots := 0, locals := 69 } : Room) ([.ref (z 0)] : List Value) D (tyA d0 d1) (wX z d0 d1 (nI (tl)) (nI (pl)) ((fo)) ((lo)) ((fi)) ((se)) (tk) (bk) (wn) (wb) (fl) (fa) (rp)) (fun r (_ : Nat × Int32 × Int32 × (Nat → Int32)) => cfQ (aX bk tl) r) (fun (u : Nat × Int32 × Int32 × (Nat → Int32)) => (wX z d0 d1 (nI (tl)) (nI (pl)) ((fo)) (nI (u.1)) ((u.2.1)) ((u.2.2.1)) (tk) (bk) (wn) (wb) (fl) (fa) (u.2.2.2))) := by
  intro sz
  refine st_of (QA := (st_I D (tyA d0 d1) (fun r (_ : Nat × Int32 × Int32 × (Nat → Int32)) => cfQ (aX bk tl) r) (fun (u : Nat × Int32 × Int32 × (Nat → Int32)) => (wX z d0 d1 (nI (tl)) (nI (pl)) ((fo)) (nI (u.1)) ((u.2.1)) ((u.2.2.1)) (tk) (bk) (wn) (wb) (fl) (fa) (u.2.2.2))))) (by decide) (Nat.le_of_ble_eq_true rfl) ?_
  intro p e s m below meth c A ls hx hb hr hml hlocks hown hts hname hK hP hD hS hA hl
  have hl : lv_has ls 1 [(0, .ref (z 0))] := hl
  have hown : s.vm.findClass RX0 = some m.cls := hown
  refine lv_aload_n hx hb dX0_cloneFirst_0 rfl (lv_at hl 0 rfl) ?_
  refine lv_iconst (v := nI (1)) hx hb dX0_cloneFirst_1 (by decide) ?_
  refine st_cVv0 (ci := 0) (qc := (RX0, TX0, 13)) (As := [.int (nI (1))]) (rest := []) 1 ⟨hx, hb, hml, hown, hts⟩ (mX_sweep l D z d0 d1 tl pl (fo) (lo) (fi) (se) tk bk wn wb fl fa rp (by omega) (by omega) 1 (by omega)) (lw_V q130 q132 qs4 q15 q133) (by decide +kernel) ⟨Nat.le_of_ble_eq_true rfl, Nat.le_of_ble_eq_true rfl⟩ rfl rfl ⟨Nat.zero_le _, Nat.zero_le _⟩ hK hP hD hS hA rfl rfl rfl hl.1 rfl (Nat.le_of_ble_eq_true rfl) dX0_cloneFirst_2 (fun u_2 H locs hq_2 hP hD hS => ?_)
  have hP : va_P D vwCl (wX z d0 d1 (nI (tl)) (nI (pl)) ((fo)) (nI (u_2.1)) ((u_2.2.1)) ((u_2.2.2.1)) (tk) (bk) (wn) (wb) (fl) (fa) (u_2.2.2.2)) H := hP
  have hD : va_D A (wX z d0 d1 (nI (tl)) (nI (pl)) ((fo)) (nI (u_2.1)) ((u_2.2.1)) ((u_2.2.2.1)) (tk) (bk) (wn) (wb) (fl) (fa) (u_2.2.2.2)) := hD
  refine lv_aload_n hx hb dX0_cloneFirst_5 rfl (lv_at hl 0 rfl) ?_
  refine va_get (D := D) (ci := 0) (v := .int (u_2.2.1)) (C := RX0) (T := TX0) (N := 13) hx hb hts in_X0 hown hK hP 0 rfl rfl 10 (by decide) (hts _ q35) (fun _ h9 => h9) rfl dX0_cloneFirst_6 ?_
  exact st_iret (v := (u_2.2.1)) u_2 hx hb hr hlocks hK hP hD hS dX0_cloneFirst_9 (bst_cf hq_2.2.1)

set_option maxHeartbeats 4000000 in
set_option maxRecDepth 100000 in
/-- cloneSecond -/
theorem mX_cloneSecond (l : Launch) (D : va_G) (z : Nat → Nat) (d0 d1 : ClassId) (tl pl : Nat) (fo lo fi se : Int32) (tk bk wn wb fl fa rp : Nat → Int32) (htl : tl ≤ 48) (hpl : pl ≤ 12) : ct_I l yX0_cloneSecond cX0_cloneSecond 1 (some .int) ({ frames := 3, cells := 0, slots := 0, locals := 69 } : Room) ([.ref (z 0)] : List Value) D (tyA d0 d1) (wX z d0 d1 (nI (tl)) (nI (pl)) ((fo)) ((lo)) ((fi)) ((se)) (tk) (bk) (wn) (wb) (fl) (fa) (rp)) (fun r (_ : Nat × Int32 × Int32 × (Nat → Int32)) => csQ (aX bk tl) r) (fun (u : Nat × Int32 × Int32 × (Nat → Int32)) => (wX z d0 d1 (nI (tl)) (nI (pl)) ((fo)) (nI (u.1)) ((u.2.1)) ((u.2.2.1)) (tk) (bk) (wn) (wb) (fl) (fa) (u.2.2.2))) := by
  intro sz
  refine st_of (QA := (st_I D (tyA d0 d1) (fun r (_ : Nat × Int32 × Int32 × (Nat → Int32)) => csQ (aX bk tl) r) (fun (u : Nat × Int32 × Int32 × (Nat → Int32)) => (wX z d0 d1 (nI (tl)) (nI (pl)) ((fo)) (nI (u.1)) ((u.2.1)) ((u.2.2.1)) (tk) (bk) (wn) (wb) (fl) (fa) (u.2.2.2))))) (by decide) (Nat.le_of_ble_eq_true rfl) ?_
  intro p e s m below meth c A ls hx hb hr hml hlocks hown hts hname hK hP hD hS hA hl
  have hl : lv_has ls 1 [(0, .ref (z 0))] := hl
  have hown : s.vm.findClass RX0 = some m.cls := hown
  refine lv_aload_n hx hb dX0_cloneSecond_0 rfl (lv_at hl 0 rfl) ?_
  refine lv_iconst (v := nI (1)) hx hb dX0_cloneSecond_1 (by decide) ?_
  refine st_cVv0 (ci := 0) (qc := (RX0, TX0, 13)) (As := [.int (nI (1))]) (rest := []) 1 ⟨hx, hb, hml, hown, hts⟩ (mX_sweep l D z d0 d1 tl pl (fo) (lo) (fi) (se) tk bk wn wb fl fa rp (by omega) (by omega) 1 (by omega)) (lw_V q130 q132 qs4 q15 q133) (by decide +kernel) ⟨Nat.le_of_ble_eq_true rfl, Nat.le_of_ble_eq_true rfl⟩ rfl rfl ⟨Nat.zero_le _, Nat.zero_le _⟩ hK hP hD hS hA rfl rfl rfl hl.1 rfl (Nat.le_of_ble_eq_true rfl) dX0_cloneSecond_2 (fun u_2 H locs hq_2 hP hD hS => ?_)
  have hP : va_P D vwCl (wX z d0 d1 (nI (tl)) (nI (pl)) ((fo)) (nI (u_2.1)) ((u_2.2.1)) ((u_2.2.2.1)) (tk) (bk) (wn) (wb) (fl) (fa) (u_2.2.2.2)) H := hP
  have hD : va_D A (wX z d0 d1 (nI (tl)) (nI (pl)) ((fo)) (nI (u_2.1)) ((u_2.2.1)) ((u_2.2.2.1)) (tk) (bk) (wn) (wb) (fl) (fa) (u_2.2.2.2)) := hD
  refine lv_aload_n hx hb dX0_cloneSecond_5 rfl (lv_at hl 0 rfl) ?_
  refine va_get (D := D) (ci := 0) (v := .int (u_2.2.2.1)) (C := RX0) (T := TX0) (N := 13) hx hb hts in_X0 hown hK hP 0 rfl rfl 11 (by decide) (hts _ q36) (fun _ h9 => h9) rfl dX0_cloneSecond_6 ?_
  exact st_iret (v := (u_2.2.2.1)) u_2 hx hb hr hlocks hK hP hD hS dX0_cloneSecond_9 (bst_cs hq_2.2.1)

set_option maxHeartbeats 4000000 in
set_option maxRecDepth 100000 in
/-- kinds(x) -/
theorem mX_kinds (l : Launch) (D : va_G) (z : Nat → Nat) (d0 d1 : ClassId) (tl pl : Nat) (fo lo fi se : Int32) (tk bk wn wb fl fa rp : Nat → Int32) (htl : tl ≤ 48) (hpl : pl ≤ 12) (x : Int32) : ct_I l yX0_kinds cX0_kinds 4 (some .int) ({ frames := 3, cells := 0, slots := 0, locals := 69 } : Room) ([.ref (z 0), .int (x)] : List Value) D (tyA d0 d1) (wX z d0 d1 (nI (tl)) (nI (pl)) ((fo)) ((lo)) ((fi)) ((se)) (tk) (bk) (wn) (wb) (fl) (fa) (rp)) (fun r (_ : Int32 × Int32 × Int32 × (Nat → Int32)) => kdQ (nwX bk) tl x r) (fun (u : Int32 × Int32 × Int32 × (Nat → Int32)) => (wX z d0 d1 (nI (tl)) (nI (pl)) ((fo)) ((u.1)) ((u.2.1)) ((u.2.2.1)) (tk) (bk) (wn) (wb) (fl) (fa) (u.2.2.2))) := by
  intro sz
  refine st_of (QA := (st_I D (tyA d0 d1) (fun r (_ : Int32 × Int32 × Int32 × (Nat → Int32)) => kdQ (nwX bk) tl x r) (fun (u : Int32 × Int32 × Int32 × (Nat → Int32)) => (wX z d0 d1 (nI (tl)) (nI (pl)) ((fo)) ((u.1)) ((u.2.1)) ((u.2.2.1)) (tk) (bk) (wn) (wb) (fl) (fa) (u.2.2.2))))) (by decide) (Nat.le_of_ble_eq_true rfl) ?_
  intro p e s m below meth c A ls hx hb hr hml hlocks hown hts hname hK hP hD hS hA hl
  have hl : lv_has ls 4 [(0, .ref (z 0)), (1, .int (x))] := hl
  have hown : s.vm.findClass RX0 = some m.cls := hown
  refine lv_iload_n hx hb dX0_kinds_0 rfl (lv_at hl 1 rfl) ?_
  refine lv_iconst (v := nI (1)) hx hb dX0_kinds_1 (by decide) ?_
  refine lv_icmp_lt (tgt := 13) hx hb dX0_kinds_2 (by decide) (fun c_2 => ?_) (fun c_2 => ?_)
  · skip
    refine lv_iconst (v := nI (0)) hx hb dX0_kinds_13 (by decide) ?_
    exact st_iret (v := nI (0)) (lo, fi, se, rp) hx hb hr hlocks hK hP hD hS dX0_kinds_14 (Or.inr ⟨Or.inl c_2, rfl⟩)
  · skip
    refine lv_iload_n hx hb dX0_kinds_5 rfl (lv_at hl 1 rfl) ?_
    refine lv_aload_n hx hb dX0_kinds_6 rfl (lv_at hl 0 rfl) ?_
    refine va_get (D := D) (ci := 0) (v := .int (nI (tl))) (C := RX0) (T := TX0) (N := 13) hx hb hts in_X0 hown hK hP 0 rfl rfl 0 (by decide) (hts _ q25) (fun _ h9 => h9) rfl dX0_kinds_7 ?_
    refine lv_icmp_le (tgt := 15) hx hb dX0_kinds_10 (by decide) (fun c_10 => ?_) (fun c_10 => ?_)
    · skip
      obtain ⟨k, hk1, hk2, rfl⟩ := one_of (by omega) c_2 c_10
      refine lv_aload_n hx hb dX0_kinds_15 rfl (lv_at hl 0 rfl) ?_
      refine lv_iload_n hx hb dX0_kinds_16 rfl (lv_at hl 1 rfl) ?_
      refine st_cVv0 (ci := 0) (qc := (RX0, TX0, 13)) (As := [.int (nI (k))]) (rest := []) 1 ⟨hx, hb, hml, hown, hts⟩ (mX_sweep l D z d0 d1 tl pl (fo) (lo) (fi) (se) tk bk wn wb fl fa rp (by omega) (by omega) k (by omega)) (lw_V q130 q132 qs4 q15 q133) (by decide +kernel) ⟨Nat.le_of_ble_eq_true rfl, Nat.le_of_ble_eq_true rfl⟩ rfl rfl ⟨Nat.zero_le _, Nat.zero_le _⟩ hK hP hD hS hA rfl rfl rfl hl.1 rfl (Nat.le_of_ble_eq_true rfl) dX0_kinds_17 (fun u_17 H locs hq_17 hP hD hS => ?_)
      have hP : va_P D vwCl (wX z d0 d1 (nI (tl)) (nI (pl)) ((fo)) (nI (u_17.1)) ((u_17.2.1)) ((u_17.2.2.1)) (tk) (bk) (wn) (wb) (fl) (fa) (u_17.2.2.2)) H := hP
      have hD : va_D A (wX z d0 d1 (nI (tl)) (nI (pl)) ((fo)) (nI (u_17.1)) ((u_17.2.1)) ((u_17.2.2.1)) (tk) (bk) (wn) (wb) (fl) (fa) (u_17.2.2.2)) := hD
      refine lv_iconst (v := nI (0)) hx hb dX0_kinds_20 (by decide) ?_
      refine lv_istore_n (lv' := [(2, .int (nI (0))), (0, .ref (z 0)), (1, .int (nI (k)))]) hx hb dX0_kinds_21 rfl hl (by decide) rfl (fun ls hl => ?_)
      refine lv_iconst (v := nI (0)) hx hb dX0_kinds_22 (by decide) ?_
      refine lv_istore_n (lv' := [(3, .int (nI (0))), (2, .int (nI (0))), (0, .ref (z 0)), (1, .int (nI (k)))]) hx hb dX0_kinds_23 rfl hl (by decide) rfl (fun ls hl => ?_)
      have loop : ∀ (fu : Nat) (i f : Nat), tl + 1 < i + fu → i + k ≤ tl + 1 → f = cnt (nwX bk k) i → ∀ (H : Heap) (locs : List Loc) (ls : Array Slot), va_P D vwCl (wX z d0 d1 (nI (tl)) (nI (pl)) ((fo)) (nI (u_17.1)) ((u_17.2.1)) ((u_17.2.2.1)) (tk) (bk) (wn) (wb) (fl) (fa) (u_17.2.2.2)) H → va_D A (wX z d0 d1 (nI (tl)) (nI (pl)) ((fo)) (nI (u_17.1)) ((u_17.2.1)) ((u_17.2.2.1)) (tk) (bk) (wn) (wb) (fl) (fa) (u_17.2.2.2)) → va_S A s.heap H locs → lv_has ls 4 [(3, .int (nI (i))), (2, .int (nI (f))), (0, .ref (z 0)), (1, .int (nI (k)))] → W p l e ({ frames := 3, cells := 0, slots := 0, locals := 69 } : Room) s m ([.ref (z 0), .int (nI (k))] : List Value).toArray below meth c H locs 0 0 (MQ below ((st_I D (tyA d0 d1) (fun r (_ : Int32 × Int32 × Int32 × (Nat → Int32)) => kdQ (nwX bk) tl (nI (k)) r) (fun (u : Int32 × Int32 × Int32 × (Nat → Int32)) => (wX z d0 d1 (nI (tl)) (nI (pl)) ((fo)) ((u.1)) ((u.2.1)) ((u.2.2.1)) (tk) (bk) (wn) (wb) (fl) (fa) (u.2.2.2)))) A) ([.ref (z 0), .int (nI (k))] : List Value).toArray s 0 0 A) (F0 m 24 ls []) := by
        intro fu
        induction fu with
        | zero => intro i f hf hi hc; exfalso; omega
        | succ fu ihloop =>
          intro i f hf hi hc H locs ls hP hD hS hl
          refine lv_iload_n hx hb dX0_kinds_24 rfl (lv_at hl 0 rfl) ?_
          refine lv_iload_n hx hb dX0_kinds_25 rfl (lv_at hl 3 rfl) ?_
          refine ni_add hx hb dX0_kinds_26 ?_
          refine lv_aload_n hx hb dX0_kinds_27 rfl (lv_at hl 2 rfl) ?_
          refine va_get (D := D) (ci := 0) (v := .int (nI (tl))) (C := RX0) (T := TX0) (N := 13) hx hb hts in_X0 hown hK hP 0 rfl rfl 0 (by decide) (hts _ q25) (fun _ h9 => h9) rfl dX0_kinds_28 ?_
          refine ni_icmp_gt (tgt := 52) hx hb dX0_kinds_31 (by decide) (by omega) (by omega) (fun c_31 => ?_) (fun c_31 => ?_)
          · skip
            refine lv_iload_n hx hb dX0_kinds_52 rfl (lv_at hl 1 rfl) ?_
            exact st_iret (v := nI (f)) (nI u_17.1, u_17.2.1, u_17.2.2.1, u_17.2.2.2) hx hb hr hlocks hK hP hD hS dX0_kinds_53 (Or.inl ⟨k, hk1, hk2, rfl, by rw [hc, show i = tl + 1 - k by omega]⟩)
          · skip
            refine lv_aload_n hx hb dX0_kinds_34 rfl (lv_at hl 2 rfl) ?_
            refine va_get (D := D) (ci := 0) (v := .ref (z 7)) (C := RX0) (T := TX0) (N := 13) hx hb hts in_X0 hown hK hP 0 rfl rfl 12 (by decide) (hts _ q37) (fun _ h9 => h9) rfl dX0_kinds_35 ?_
            refine lv_iload_n hx hb dX0_kinds_38 rfl (lv_at hl 0 rfl) ?_
            refine ni_zald hx hb hK hP 7 1 rfl rfl (by decide) dX0_kinds_39 (by omega) ?_
            rcases rp_nw hq_17.2.2 (by omega) c_31 with ⟨h1, h2⟩ | ⟨h1, h2⟩
            · skip
              refine st_topi h1 ?_
              refine ni_if_ne (tgt := 46) hx hb dX0_kinds_40 (by decide) (by omega) (fun c_40 => ?_) (fun c_40 => absurd c_40 (by decide))
              refine lv_iinc (v := nI (i + 1)) (lv' := [(3, .int (nI (i + 1))), (2, .int (nI (f))), (0, .ref (z 0)), (1, .int (nI (k)))]) hx hb dX0_kinds_46 hl (k := 0) rfl (ni_inc _) (by decide) rfl (fun ls hl => ?_)
              refine lv_goto (tgt := 24) hx hb dX0_kinds_49 (by decide) ?_
              exact ihloop (i + 1) f (by omega) (by omega) (by rw [cnt_f (P := nwX bk k) h2, hc]) _ _ _ hP hD hS (lv_sub hl [0, 1, 2, 3] rfl)
            · skip
              refine st_topi h1 ?_
              refine ni_if_ne (tgt := 46) hx hb dX0_kinds_40 (by decide) (by omega) (fun c_40 => absurd c_40 (by decide)) (fun c_40 => ?_)
              refine lv_iinc (v := nI (f + 1)) (lv' := [(2, .int (nI (f + 1))), (3, .int (nI (i))), (0, .ref (z 0)), (1, .int (nI (k)))]) hx hb dX0_kinds_43 hl (k := 1) rfl (ni_inc _) (by decide) rfl (fun ls hl => ?_)
              refine lv_iinc (v := nI (i + 1)) (lv' := [(3, .int (nI (i + 1))), (2, .int (nI (f + 1))), (0, .ref (z 0)), (1, .int (nI (k)))]) hx hb dX0_kinds_46 hl (k := 1) rfl (ni_inc _) (by decide) rfl (fun ls hl => ?_)
              refine lv_goto (tgt := 24) hx hb dX0_kinds_49 (by decide) ?_
              exact ihloop (i + 1) (f + 1) (by omega) (by omega) (by rw [cnt_t (P := nwX bk k) (Classical.not_not.mp h2), hc]) _ _ _ hP hD hS (lv_sub hl [0, 1, 2, 3] rfl)
      exact loop (tl + 2) 0 0 (by omega) (by omega) rfl _ _ _ hP hD hS (lv_sub hl [0, 1, 2, 3] rfl)
    · skip
      refine lv_iconst (v := nI (0)) hx hb dX0_kinds_13 (by decide) ?_
      exact st_iret (v := nI (0)) (lo, fi, se, rp) hx hb hr hlocks hK hP hD hS dX0_kinds_14 (Or.inr ⟨Or.inr (Int32.not_le.mp c_10), rfl⟩)
end
section
set_option maxRecDepth 100000
/-! constructors -/
abbrev st_C {S : Type} (D : va_G) (post : S → Prop) (tf : S → List (ClassId × FieldType)) (wf : S → va_W) (A : Nat → Prop) : Array Value → State → Outcome → State → Prop :=
  va_Qv post (fun u t => va_P D vwCl (wf u) t.heap ∧ va_K D vwCl (tf u) t ∧ va_D A (wf u)) A
section STC
variable {p : Program} {l : Launch} {e : Env} {R : Room} {s : State} {m : MethodId} {args : Array Value} {below : List Frame} {meth : Method} {c : Code} {H H0 : Heap} {locs : List Loc} {cells slots : Nat} {Q : State → Prop} {cc : ByteArray} {pc : Nat} {ls : Array Slot} {rest : List Value} {D : va_G} {A : Nat → Prop}
theorem st_cret {S : Type} {post : S → Prop} {tf : S → List (ClassId × FieldType)} {wf : S → va_W} (u : S) (hx : p.tables.exec = Jvm.exec) (hb : c.code = cc) (hr : meth.sig.returnType = none) (hlocks : meth.locks = false) (hK : va_K D vwCl (tf u) s) (hP : va_P D vwCl (wf u) H) (hD : va_D A (wf u)) (hS : va_S A s.heap H locs) (hdg : decode cc pc = .ok (.return_, 1)) (hpost : post u) : W p l e R s m args below meth c H locs cells slots (MQ below (st_C D post tf wf A) args s cells slots A) (F0 m pc ls []) :=
  W.vret hx hb hr (fun t ht hW => ⟨⟨u, rfl, hpost, by rw [ht]; exact hP, va_K.moved hW.alike hK, hD⟩, hS.F ht⟩) hS.2.2 hdg hlocks
set_option maxHeartbeats 4000000 in
theorem st_cI {S : Type} {post : S → Prop} {tf : S → List (ClassId × FieldType)} {wf : S → va_W} {y : MethodName} {bytes : ByteArray} {maxL nL index mc ms : Nat} {rm : Room} {own : String} {b : Addr} {As : List Value} {wc wr : va_W} {tys : List (ClassId × FieldType)} (n : Nat)
    (S0 : CallFix p m c cc nL s args lw_all own) (hM : Met l y (ws_ y bytes maxL none) rm (st_P (.ref b :: As) D [] wc H.size) (st_C D post tf wf (va_A wc H.size)) mc ms (va_A wc H.size))
    (hc : Cond.code y bytes maxL none ∈ lw_all) (hini : Cond.initialized y.cls ∈ lw_all) (hl1 : Cond.methodLink own index y ∈ lw_all) (hl2 : Cond.instanceMethod y ∈ lw_all) (hy1 : y.name = "<init>")
    (hd : y.cls ≠ "java/lang/invoke/MethodHandle" ∧ y.cls ≠ "java/lang/invoke/VarHandle" ∧ (parseMethodDescriptor y.desc).map (fun d => d.parameters.length) = some n)
    (hR : rm.frames + 1 ≤ R.frames ∧ 8 + (maxL + 11) + rm.locals ≤ R.locals) (hrc : rm.cells = mc) (hrs : rm.slots = ms) (hcs : cells + mc ≤ R.cells ∧ slots + ms ≤ R.slots)
    (hK : va_K D vwCl tys s) (hP : va_P D vwCl (wc ++ wr) H) (hD : va_D A (wc ++ wr)) (hS : va_S A H0 H locs) (hA : ∀ q, H0.size ≤ q → A q)
    (hn : As.length = n) (hsz : ls.size = nL) {stk : List Value} (hstk : stk = As.reverse ++ .ref b :: rest) (hst : (rest.map fun v => v.category).sum ≤ 8) (hdg : decode cc pc = .ok (.invokespecial index, 3))
    (kk : ∀ (u : S) (H1 : Heap) (locs1 : List Loc), post u → va_K D vwCl (tf u) s → va_P D vwCl (wf u ++ wr) H1 → va_D A (wf u ++ wr) → va_S A H0 H1 locs1 → W p l e R s m args below meth c H1 locs1 (cells + mc) (slots + ms) Q (F0 m (pc + 3) ls rest)) :
    W p l e R s m args below meth c H locs cells slots Q (F0 m pc ls stk) := by
  have hPc := st_left hP
  have hDc : va_D (fun _ => True) wc := (st_leftD hD).weaken (fun _ _ _ _ => trivial)
  have hF := st_free hD hS hA
  have hK0 : va_K D vwCl [] s := ⟨hK.1, fun k q h => absurd h (by simp)⟩
  have hts := S0.2.2.2.2
  refine va_callv (va_runI (As := As) (rest := rest) S0 hM (cwI n hts (lw_meth hc) rfl hrc hrs (hts _ hini) (hts _ hl1) (hts _ hl2) hy1 hd hR) ⟨fun a U g mk q => ?_, fun U hU hW => ⟨rfl, by rw [hU], by rw [hU]; exact hPc, va_K.moved hW.alike hK0, hDc⟩⟩ rfl hn hsz hstk (lv_room hst) hdg hcs) hS (fun q _ h => hF q h) hF (fun u t H1 locs1 ht hvm hp hB hz hk hS1 => ?_)
  · obtain ⟨q0, q1, qP, qK, qD⟩ := q
    exact ⟨q0, q1, qP, va_K.moved (u := U) (U := U.calling g mk a) (Vm.Alike.refl U.vm) qK, qD⟩
  · obtain ⟨hP1, hK1, hD1⟩ := hB
    rw [ht] at hP1
    obtain ⟨hP2, hD2⟩ := st_join hP hD hk hF hP1 hD1
    exact kk u H1 locs1 hp (va_K.moved hvm.symm hK1) hP2 hD2 hS1
end STC
set_option maxHeartbeats 4000000 in
set_option maxRecDepth 100000 in
theorem mX_init (l : Launch) (D : va_G) (h0 sz : Nat) : Met l yX0_init (ws_ yX0_init cX0_init 1 none) ({ frames := 1, cells := 7, slots := 228, locals := 12 } : Room) (st_P [.ref h0] D [] [(h0, .inr (0, [.int 0, .null, .null, .int 0, .null, .null, .null, .int 0, .null, .int 0, .int 0, .int 0, .null]))] sz) ((st_C D (fun (u : (Nat → Nat) × ClassId × ClassId) => u.1 0 = h0) (fun u => (tyA u.2.1 u.2.2)) (fun u => wX u.1 (u.2.1) (u.2.2) (nI 0) (nI 0) 0 0 0 0 (fun _ => nI 0) (fun _ => nI 0) (fun _ => nI 0) (fun _ => nI 0) (fun _ => nI 0) (fun _ => nI 0) (fun _ => nI 0))) (va_A [(h0, .inr (0, [.int 0, .null, .null, .int 0, .null, .null, .null, .int 0, .null, .int 0, .int 0, .int 0, .null]))] sz)) 7 228 (va_A [(h0, .inr (0, [.int 0, .null, .null, .int 0, .null, .null, .null, .int 0, .null, .int 0, .int 0, .int 0, .null]))] sz) := by
  refine st_of (QA := (st_C D (fun (u : (Nat → Nat) × ClassId × ClassId) => u.1 0 = h0) (fun u => (tyA u.2.1 u.2.2)) (fun u => wX u.1 (u.2.1) (u.2.2) (nI 0) (nI 0) 0 0 0 0 (fun _ => nI 0) (fun _ => nI 0) (fun _ => nI 0) (fun _ => nI 0) (fun _ => nI 0) (fun _ => nI 0) (fun _ => nI 0)))) (by decide) (Nat.le_of_ble_eq_true rfl) ?_
  intro p e s m below meth c A ls hx hb hr hml hlocks hown hts hname hK hP hD hS hA hl
  have hl : lv_has ls 1 [(0, .ref h0)] := hl
  have hown : s.vm.findClass RX0 = some m.cls := hown
  have hin : meth.name = "<init>" := hname
  refine lv_aload_n hx hb dX0_init_0 rfl (lv_at hl 0 rfl) ?_
  refine W.objInit hx hb hown (hts _ q22) (hts _ q23) (hts _ q24) rfl (by rw [hml]; exact hl.1) rfl dX0_init_1 (Nat.le_of_ble_eq_true rfl) (Nat.le_of_ble_eq_true rfl) ?_
  refine W.eq (g2 := F0 m 4 ls []) rfl ?_
  refine lv_aload_n hx hb dX0_init_4 rfl (lv_at hl 0 rfl) ?_
  refine lv_bipush (v := nI 48) hx hb dX0_init_5 (by decide) ?_
  refine va_newa (atype := .int) (ty := .int) (a0 := (48, .inl (fun _ => nI 0))) (N' := 48) hx hb (hts _ q65) rfl hK hP hD hS hA (fun _ => rfl) (by decide) (by decide) (by decide) (Nat.le_of_ble_eq_true rfl) (Nat.le_of_ble_eq_true rfl) dX0_init_7 (fun a0 t0 H hK hP hD hS => ?_)
  refine W.widen (k := 1) (n := 48) (Nat.le_of_ble_eq_true rfl) (Nat.le_of_ble_eq_true rfl) ?_
  have hP : va_P D vwCl [(h0, .inr (0, [.int 0, .null, .null, .int 0, .null, .null, .null, .int 0, .null, .int 0, .int 0, .int 0, .null])), (a0, .inl (t0, 48, .inl (fun _ => nI 0)))] H := hP
  have hD : va_D A [(h0, .inr (0, [.int 0, .null, .null, .int 0, .null, .null, .null, .int 0, .null, .int 0, .int 0, .int 0, .null])), (a0, .inl (t0, 48, .inl (fun _ => nI 0)))] := hD
  have hK : va_K D vwCl [(t0, .int)] s := hK
  refine va_putF (D := D) (ci := 0) (v := .ref a0) (ty := .array .int) (C := RX0) (T := TX0) (N := 13) hx hb hts in_X0 tyX0 tyX0_ok nmX0 hown hK hP hD hS 0 rfl rfl 1 (by decide) (hts _ q26) (fun _ h9 => h9) rfl hin rfl (by decide +kernel) rfl rfl (Nat.le_of_ble_eq_true rfl) dX0_init_9 (fun H locs hP hD hS => ?_)
  have hP : va_P D vwCl [(h0, .inr (0, [.int 0, .ref a0, .null, .int 0, .null, .null, .null, .int 0, .null, .int 0, .int 0, .int 0, .null])), (a0, .inl (t0, 48, .inl (fun _ => nI 0)))] H := hP
  have hD : va_D A [(h0, .inr (0, [.int 0, .ref a0, .null, .int 0, .null, .null, .null, .int 0, .null, .int 0, .int 0, .int 0, .null])), (a0, .inl (t0, 48, .inl (fun _ => nI 0)))] := hD
  refine lv_aload_n hx hb dX0_init_12 rfl (lv_at hl 0 rfl) ?_
  refine lv_bipush (v := nI 48) hx hb dX0_init_13 (by decide) ?_
  refine va_newa (atype := .int) (ty := .int) (a0 := (48, .inl (fun _ => nI 0))) (N' := 48) hx hb (hts _ q65) rfl hK hP hD hS hA (fun _ => rfl) (by decide) (by decide) (by decide) (Nat.le_of_ble_eq_true rfl) (Nat.le_of_ble_eq_true rfl) dX0_init_15 (fun a1 t1 H hK hP hD hS => ?_)
  refine W.widen (k := 2) (n := 96) (Nat.le_of_ble_eq_true rfl) (Nat.le_of_ble_eq_true rfl) ?_
  have hP : va_P D vwCl [(h0, .inr (0, [.int 0, .ref a0, .null, .int 0, .null, .null, .null, .int 0, .null, .int 0, .int 0, .int 0, .null])), (a0, .inl (t0, 48, .inl (fun _ => nI 0))), (a1, .inl (t1, 48, .inl (fun _ => nI 0)))] H := hP
  have hD : va_D A [(h0, .inr (0, [.int 0, .ref a0, .null, .int 0, .null, .null, .null, .int 0, .null, .int 0, .int 0, .int 0, .null])), (a0, .inl (t0, 48, .inl (fun _ => nI 0))), (a1, .inl (t1, 48, .inl (fun _ => nI 0)))] := hD
  have hK : va_K D vwCl [(t0, .int), (t1, .int)] s := hK
  refine va_putF (D := D) (ci := 0) (v := .ref a1) (ty := .array .int) (C := RX0) (T := TX0) (N := 13) hx hb hts in_X0 tyX0 tyX0_ok nmX0 hown hK hP hD hS 0 rfl rfl 2 (by decide) (hts _ q27) (fun _ h9 => h9) rfl hin rfl (by decide +kernel) rfl rfl (Nat.le_of_ble_eq_true rfl) dX0_init_17 (fun H locs hP hD hS => ?_)
  have hP : va_P D vwCl [(h0, .inr (0, [.int 0, .ref a0, .ref a1, .int 0, .null, .null, .null, .int 0, .null, .int 0, .int 0, .int 0, .null])), (a0, .inl (t0, 48, .inl (fun _ => nI 0))), (a1, .inl (t1, 48, .inl (fun _ => nI 0)))] H := hP
  have hD : va_D A [(h0, .inr (0, [.int 0, .ref a0, .ref a1, .int 0, .null, .null, .null, .int 0, .null, .int 0, .int 0, .int 0, .null])), (a0, .inl (t0, 48, .inl (fun _ => nI 0))), (a1, .inl (t1, 48, .inl (fun _ => nI 0)))] := hD
  refine lv_aload_n hx hb dX0_init_20 rfl (lv_at hl 0 rfl) ?_
  refine lv_bipush (v := nI 12) hx hb dX0_init_21 (by decide) ?_
  refine va_newa (atype := .int) (ty := .int) (a0 := (12, .inl (fun _ => nI 0))) (N' := 12) hx hb (hts _ q65) rfl hK hP hD hS hA (fun _ => rfl) (by decide) (by decide) (by decide) (Nat.le_of_ble_eq_true rfl) (Nat.le_of_ble_eq_true rfl) dX0_init_23 (fun a2 t2 H hK hP hD hS => ?_)
  refine W.widen (k := 3) (n := 108) (Nat.le_of_ble_eq_true rfl) (Nat.le_of_ble_eq_true rfl) ?_
  have hP : va_P D vwCl [(h0, .inr (0, [.int 0, .ref a0, .ref a1, .int 0, .null, .null, .null, .int 0, .null, .int 0, .int 0, .int 0, .null])), (a0, .inl (t0, 48, .inl (fun _ => nI 0))), (a1, .inl (t1, 48, .inl (fun _ => nI 0))), (a2, .inl (t2, 12, .inl (fun _ => nI 0)))] H := hP
  have hD : va_D A [(h0, .inr (0, [.int 0, .ref a0, .ref a1, .int 0, .null, .null, .null, .int 0, .null, .int 0, .int 0, .int 0, .null])), (a0, .inl (t0, 48, .inl (fun _ => nI 0))), (a1, .inl (t1, 48, .inl (fun _ => nI 0))), (a2, .inl (t2, 12, .inl (fun _ => nI 0)))] := hD
  have hK : va_K D vwCl [(t0, .int), (t1, .int), (t2, .int)] s := hK
  refine va_putF (D := D) (ci := 0) (v := .ref a2) (ty := .array .int) (C := RX0) (T := TX0) (N := 13) hx hb hts in_X0 tyX0 tyX0_ok nmX0 hown hK hP hD hS 0 rfl rfl 4 (by decide) (hts _ q29) (fun _ h9 => h9) rfl hin rfl (by decide +kernel) rfl rfl (Nat.le_of_ble_eq_true rfl) dX0_init_25 (fun H locs hP hD hS => ?_)
  have hP : va_P D vwCl [(h0, .inr (0, [.int 0, .ref a0, .ref a1, .int 0, .ref a2, .null, .null, .int 0, .null, .int 0, .int 0, .int 0, .null])), (a0, .inl (t0, 48, .inl (fun _ => nI 0))), (a1, .inl (t1, 48, .inl (fun _ => nI 0))), (a2, .inl (t2, 12, .inl (fun _ => nI 0)))] H := hP
  have hD : va_D A [(h0, .inr (0, [.int 0, .ref a0, .ref a1, .int 0, .ref a2, .null, .null, .int 0, .null, .int 0, .int 0, .int 0, .null])), (a0, .inl (t0, 48, .inl (fun _ => nI 0))), (a1, .inl (t1, 48, .inl (fun _ => nI 0))), (a2, .inl (t2, 12, .inl (fun _ => nI 0)))] := hD
  refine lv_aload_n hx hb dX0_init_28 rfl (lv_at hl 0 rfl) ?_
  refine lv_bipush (v := nI 12) hx hb dX0_init_29 (by decide) ?_
  refine va_newa (atype := .int) (ty := .int) (a0 := (12, .inl (fun _ => nI 0))) (N' := 12) hx hb (hts _ q65) rfl hK hP hD hS hA (fun _ => rfl) (by decide) (by decide) (by decide) (Nat.le_of_ble_eq_true rfl) (Nat.le_of_ble_eq_true rfl) dX0_init_31 (fun a3 t3 H hK hP hD hS => ?_)
  refine W.widen (k := 4) (n := 120) (Nat.le_of_ble_eq_true rfl) (Nat.le_of_ble_eq_true rfl) ?_
  have hP : va_P D vwCl [(h0, .inr (0, [.int 0, .ref a0, .ref a1, .int 0, .ref a2, .null, .null, .int 0, .null, .int 0, .int 0, .int 0, .null])), (a0, .inl (t0, 48, .inl (fun _ => nI 0))), (a1, .inl (t1, 48, .inl (fun _ => nI 0))), (a2, .inl (t2, 12, .inl (fun _ => nI 0))), (a3, .inl (t3, 12, .inl (fun _ => nI 0)))] H := hP
  have hD : va_D A [(h0, .inr (0, [.int 0, .ref a0, .ref a1, .int 0, .ref a2, .null, .null, .int 0, .null, .int 0, .int 0, .int 0, .null])), (a0, .inl (t0, 48, .inl (fun _ => nI 0))), (a1, .inl (t1, 48, .inl (fun _ => nI 0))), (a2, .inl (t2, 12, .inl (fun _ => nI 0))), (a3, .inl (t3, 12, .inl (fun _ => nI 0)))] := hD
  have hK : va_K D vwCl [(t0, .int), (t1, .int), (t2, .int), (t3, .int)] s := hK
  refine va_putF (D := D) (ci := 0) (v := .ref a3) (ty := .array .int) (C := RX0) (T := TX0) (N := 13) hx hb hts in_X0 tyX0 tyX0_ok nmX0 hown hK hP hD hS 0 rfl rfl 5 (by decide) (hts _ q30) (fun _ h9 => h9) rfl hin rfl (by decide +kernel) rfl rfl (Nat.le_of_ble_eq_true rfl) dX0_init_33 (fun H locs hP hD hS => ?_)
  have hP : va_P D vwCl [(h0, .inr (0, [.int 0, .ref a0, .ref a1, .int 0, .ref a2, .ref a3, .null, .int 0, .null, .int 0, .int 0, .int 0, .null])), (a0, .inl (t0, 48, .inl (fun _ => nI 0))), (a1, .inl (t1, 48, .inl (fun _ => nI 0))), (a2, .inl (t2, 12, .inl (fun _ => nI 0))), (a3, .inl (t3, 12, .inl (fun _ => nI 0)))] H := hP
  have hD : va_D A [(h0, .inr (0, [.int 0, .ref a0, .ref a1, .int 0, .ref a2, .ref a3, .null, .int 0, .null, .int 0, .int 0, .int 0, .null])), (a0, .inl (t0, 48, .inl (fun _ => nI 0))), (a1, .inl (t1, 48, .inl (fun _ => nI 0))), (a2, .inl (t2, 12, .inl (fun _ => nI 0))), (a3, .inl (t3, 12, .inl (fun _ => nI 0)))] := hD
  refine lv_aload_n hx hb dX0_init_36 rfl (lv_at hl 0 rfl) ?_
  refine lv_bipush (v := nI 12) hx hb dX0_init_37 (by decide) ?_
  refine va_newa (atype := .int) (ty := .int) (a0 := (12, .inl (fun _ => nI 0))) (N' := 12) hx hb (hts _ q65) rfl hK hP hD hS hA (fun _ => rfl) (by decide) (by decide) (by decide) (Nat.le_of_ble_eq_true rfl) (Nat.le_of_ble_eq_true rfl) dX0_init_39 (fun a4 t4 H hK hP hD hS => ?_)
  refine W.widen (k := 5) (n := 132) (Nat.le_of_ble_eq_true rfl) (Nat.le_of_ble_eq_true rfl) ?_
  have hP : va_P D vwCl [(h0, .inr (0, [.int 0, .ref a0, .ref a1, .int 0, .ref a2, .ref a3, .null, .int 0, .null, .int 0, .int 0, .int 0, .null])), (a0, .inl (t0, 48, .inl (fun _ => nI 0))), (a1, .inl (t1, 48, .inl (fun _ => nI 0))), (a2, .inl (t2, 12, .inl (fun _ => nI 0))), (a3, .inl (t3, 12, .inl (fun _ => nI 0))), (a4, .inl (t4, 12, .inl (fun _ => nI 0)))] H := hP
  have hD : va_D A [(h0, .inr (0, [.int 0, .ref a0, .ref a1, .int 0, .ref a2, .ref a3, .null, .int 0, .null, .int 0, .int 0, .int 0, .null])), (a0, .inl (t0, 48, .inl (fun _ => nI 0))), (a1, .inl (t1, 48, .inl (fun _ => nI 0))), (a2, .inl (t2, 12, .inl (fun _ => nI 0))), (a3, .inl (t3, 12, .inl (fun _ => nI 0))), (a4, .inl (t4, 12, .inl (fun _ => nI 0)))] := hD
  have hK : va_K D vwCl [(t0, .int), (t1, .int), (t2, .int), (t3, .int), (t4, .int)] s := hK
  refine va_putF (D := D) (ci := 0) (v := .ref a4) (ty := .array .int) (C := RX0) (T := TX0) (N := 13) hx hb hts in_X0 tyX0 tyX0_ok nmX0 hown hK hP hD hS 0 rfl rfl 6 (by decide) (hts _ q31) (fun _ h9 => h9) rfl hin rfl (by decide +kernel) rfl rfl (Nat.le_of_ble_eq_true rfl) dX0_init_41 (fun H locs hP hD hS => ?_)
  have hP : va_P D vwCl [(h0, .inr (0, [.int 0, .ref a0, .ref a1, .int 0, .ref a2, .ref a3, .ref a4, .int 0, .null, .int 0, .int 0, .int 0, .null])), (a0, .inl (t0, 48, .inl (fun _ => nI 0))), (a1, .inl (t1, 48, .inl (fun _ => nI 0))), (a2, .inl (t2, 12, .inl (fun _ => nI 0))), (a3, .inl (t3, 12, .inl (fun _ => nI 0))), (a4, .inl (t4, 12, .inl (fun _ => nI 0)))] H := hP
  have hD : va_D A [(h0, .inr (0, [.int 0, .ref a0, .ref a1, .int 0, .ref a2, .ref a3, .ref a4, .int 0, .null, .int 0, .int 0, .int 0, .null])), (a0, .inl (t0, 48, .inl (fun _ => nI 0))), (a1, .inl (t1, 48, .inl (fun _ => nI 0))), (a2, .inl (t2, 12, .inl (fun _ => nI 0))), (a3, .inl (t3, 12, .inl (fun _ => nI 0))), (a4, .inl (t4, 12, .inl (fun _ => nI 0)))] := hD
  refine lv_aload_n hx hb dX0_init_44 rfl (lv_at hl 0 rfl) ?_
  refine lv_bipush (v := nI 48) hx hb dX0_init_45 (by decide) ?_
  refine va_newa (atype := .int) (ty := .int) (a0 := (48, .inl (fun _ => nI 0))) (N' := 48) hx hb (hts _ q65) rfl hK hP hD hS hA (fun _ => rfl) (by decide) (by decide) (by decide) (Nat.le_of_ble_eq_true rfl) (Nat.le_of_ble_eq_true rfl) dX0_init_47 (fun a5 t5 H hK hP hD hS => ?_)
  refine W.widen (k := 6) (n := 180) (Nat.le_of_ble_eq_true rfl) (Nat.le_of_ble_eq_true rfl) ?_
  have hP : va_P D vwCl [(h0, .inr (0, [.int 0, .ref a0, .ref a1, .int 0, .ref a2, .ref a3, .ref a4, .int 0, .null, .int 0, .int 0, .int 0, .null])), (a0, .inl (t0, 48, .inl (fun _ => nI 0))), (a1, .inl (t1, 48, .inl (fun _ => nI 0))), (a2, .inl (t2, 12, .inl (fun _ => nI 0))), (a3, .inl (t3, 12, .inl (fun _ => nI 0))), (a4, .inl (t4, 12, .inl (fun _ => nI 0))), (a5, .inl (t5, 48, .inl (fun _ => nI 0)))] H := hP
  have hD : va_D A [(h0, .inr (0, [.int 0, .ref a0, .ref a1, .int 0, .ref a2, .ref a3, .ref a4, .int 0, .null, .int 0, .int 0, .int 0, .null])), (a0, .inl (t0, 48, .inl (fun _ => nI 0))), (a1, .inl (t1, 48, .inl (fun _ => nI 0))), (a2, .inl (t2, 12, .inl (fun _ => nI 0))), (a3, .inl (t3, 12, .inl (fun _ => nI 0))), (a4, .inl (t4, 12, .inl (fun _ => nI 0))), (a5, .inl (t5, 48, .inl (fun _ => nI 0)))] := hD
  have hK : va_K D vwCl [(t0, .int), (t1, .int), (t2, .int), (t3, .int), (t4, .int), (t5, .int)] s := hK
  refine va_putF (D := D) (ci := 0) (v := .ref a5) (ty := .array .int) (C := RX0) (T := TX0) (N := 13) hx hb hts in_X0 tyX0 tyX0_ok nmX0 hown hK hP hD hS 0 rfl rfl 8 (by decide) (hts _ q33) (fun _ h9 => h9) rfl hin rfl (by decide +kernel) rfl rfl (Nat.le_of_ble_eq_true rfl) dX0_init_49 (fun H locs hP hD hS => ?_)
  have hP : va_P D vwCl [(h0, .inr (0, [.int 0, .ref a0, .ref a1, .int 0, .ref a2, .ref a3, .ref a4, .int 0, .ref a5, .int 0, .int 0, .int 0, .null])), (a0, .inl (t0, 48, .inl (fun _ => nI 0))), (a1, .inl (t1, 48, .inl (fun _ => nI 0))), (a2, .inl (t2, 12, .inl (fun _ => nI 0))), (a3, .inl (t3, 12, .inl (fun _ => nI 0))), (a4, .inl (t4, 12, .inl (fun _ => nI 0))), (a5, .inl (t5, 48, .inl (fun _ => nI 0)))] H := hP
  have hD : va_D A [(h0, .inr (0, [.int 0, .ref a0, .ref a1, .int 0, .ref a2, .ref a3, .ref a4, .int 0, .ref a5, .int 0, .int 0, .int 0, .null])), (a0, .inl (t0, 48, .inl (fun _ => nI 0))), (a1, .inl (t1, 48, .inl (fun _ => nI 0))), (a2, .inl (t2, 12, .inl (fun _ => nI 0))), (a3, .inl (t3, 12, .inl (fun _ => nI 0))), (a4, .inl (t4, 12, .inl (fun _ => nI 0))), (a5, .inl (t5, 48, .inl (fun _ => nI 0)))] := hD
  refine lv_aload_n hx hb dX0_init_52 rfl (lv_at hl 0 rfl) ?_
  refine lv_bipush (v := nI 48) hx hb dX0_init_53 (by decide) ?_
  refine va_newa (atype := .boolean) (ty := .boolean) (a0 := (48, .inl (fun _ => nI 0))) (N' := 48) hx hb (hts _ q66) rfl hK hP hD hS hA (fun _ => rfl) (by decide) (by decide) (by decide) (Nat.le_of_ble_eq_true rfl) (Nat.le_of_ble_eq_true rfl) dX0_init_55 (fun a6 t6 H hK hP hD hS => ?_)
  refine W.widen (k := 7) (n := 228) (Nat.le_of_ble_eq_true rfl) (Nat.le_of_ble_eq_true rfl) ?_
  have hP : va_P D vwCl [(h0, .inr (0, [.int 0, .ref a0, .ref a1, .int 0, .ref a2, .ref a3, .ref a4, .int 0, .ref a5, .int 0, .int 0, .int 0, .null])), (a0, .inl (t0, 48, .inl (fun _ => nI 0))), (a1, .inl (t1, 48, .inl (fun _ => nI 0))), (a2, .inl (t2, 12, .inl (fun _ => nI 0))), (a3, .inl (t3, 12, .inl (fun _ => nI 0))), (a4, .inl (t4, 12, .inl (fun _ => nI 0))), (a5, .inl (t5, 48, .inl (fun _ => nI 0))), (a6, .inl (t6, 48, .inl (fun _ => nI 0)))] H := hP
  have hD : va_D A [(h0, .inr (0, [.int 0, .ref a0, .ref a1, .int 0, .ref a2, .ref a3, .ref a4, .int 0, .ref a5, .int 0, .int 0, .int 0, .null])), (a0, .inl (t0, 48, .inl (fun _ => nI 0))), (a1, .inl (t1, 48, .inl (fun _ => nI 0))), (a2, .inl (t2, 12, .inl (fun _ => nI 0))), (a3, .inl (t3, 12, .inl (fun _ => nI 0))), (a4, .inl (t4, 12, .inl (fun _ => nI 0))), (a5, .inl (t5, 48, .inl (fun _ => nI 0))), (a6, .inl (t6, 48, .inl (fun _ => nI 0)))] := hD
  have hK : va_K D vwCl [(t0, .int), (t1, .int), (t2, .int), (t3, .int), (t4, .int), (t5, .int), (t6, .boolean)] s := hK
  refine va_putF (D := D) (ci := 0) (v := .ref a6) (ty := .array .boolean) (C := RX0) (T := TX0) (N := 13) hx hb hts in_X0 tyX0 tyX0_ok nmX0 hown hK hP hD hS 0 rfl rfl 12 (by decide) (hts _ q37) (fun _ h9 => h9) rfl hin rfl (by decide +kernel) rfl rfl (Nat.le_of_ble_eq_true rfl) dX0_init_57 (fun H locs hP hD hS => ?_)
  have hP : va_P D vwCl [(h0, .inr (0, [.int 0, .ref a0, .ref a1, .int 0, .ref a2, .ref a3, .ref a4, .int 0, .ref a5, .int 0, .int 0, .int 0, .ref a6])), (a0, .inl (t0, 48, .inl (fun _ => nI 0))), (a1, .inl (t1, 48, .inl (fun _ => nI 0))), (a2, .inl (t2, 12, .inl (fun _ => nI 0))), (a3, .inl (t3, 12, .inl (fun _ => nI 0))), (a4, .inl (t4, 12, .inl (fun _ => nI 0))), (a5, .inl (t5, 48, .inl (fun _ => nI 0))), (a6, .inl (t6, 48, .inl (fun _ => nI 0)))] H := hP
  have hD : va_D A [(h0, .inr (0, [.int 0, .ref a0, .ref a1, .int 0, .ref a2, .ref a3, .ref a4, .int 0, .ref a5, .int 0, .int 0, .int 0, .ref a6])), (a0, .inl (t0, 48, .inl (fun _ => nI 0))), (a1, .inl (t1, 48, .inl (fun _ => nI 0))), (a2, .inl (t2, 12, .inl (fun _ => nI 0))), (a3, .inl (t3, 12, .inl (fun _ => nI 0))), (a4, .inl (t4, 12, .inl (fun _ => nI 0))), (a5, .inl (t5, 48, .inl (fun _ => nI 0))), (a6, .inl (t6, 48, .inl (fun _ => nI 0)))] := hD
  refine lv_aload_n hx hb dX0_init_60 rfl (lv_at hl 0 rfl) ?_
  refine lv_iconst (v := nI 0) hx hb dX0_init_61 (by decide) ?_
  refine va_put (D := D) (ci := 0) (v := .int (nI 0)) (ty := .int) (C := RX0) (T := TX0) (N := 13) hx hb hts in_X0 tyX0 tyX0_ok nmX0 hown hK hP hD hS 0 rfl rfl 0 (by decide) (hts _ q25) (fun _ h9 => h9) rfl (by decide +kernel) rfl rfl (Nat.le_of_ble_eq_true rfl) dX0_init_62 (fun H locs hP hD hS => ?_)
  have hP : va_P D vwCl [(h0, .inr (0, [.int (nI 0), .ref a0, .ref a1, .int 0, .ref a2, .ref a3, .ref a4, .int 0, .ref a5, .int 0, .int 0, .int 0, .ref a6])), (a0, .inl (t0, 48, .inl (fun _ => nI 0))), (a1, .inl (t1, 48, .inl (fun _ => nI 0))), (a2, .inl (t2, 12, .inl (fun _ => nI 0))), (a3, .inl (t3, 12, .inl (fun _ => nI 0))), (a4, .inl (t4, 12, .inl (fun _ => nI 0))), (a5, .inl (t5, 48, .inl (fun _ => nI 0))), (a6, .inl (t6, 48, .inl (fun _ => nI 0)))] H := hP
  have hD : va_D A [(h0, .inr (0, [.int (nI 0), .ref a0, .ref a1, .int 0, .ref a2, .ref a3, .ref a4, .int 0, .ref a5, .int 0, .int 0, .int 0, .ref a6])), (a0, .inl (t0, 48, .inl (fun _ => nI 0))), (a1, .inl (t1, 48, .inl (fun _ => nI 0))), (a2, .inl (t2, 12, .inl (fun _ => nI 0))), (a3, .inl (t3, 12, .inl (fun _ => nI 0))), (a4, .inl (t4, 12, .inl (fun _ => nI 0))), (a5, .inl (t5, 48, .inl (fun _ => nI 0))), (a6, .inl (t6, 48, .inl (fun _ => nI 0)))] := hD
  have f0 : s.vm.findClass ("[" ++ FieldType.int.toString) = some t0 := (hK.2 0 _ rfl).2
  have f1 : s.vm.findClass ("[" ++ FieldType.int.toString) = some t1 := (hK.2 1 _ rfl).2
  have f2 : s.vm.findClass ("[" ++ FieldType.int.toString) = some t2 := (hK.2 2 _ rfl).2
  have f3 : s.vm.findClass ("[" ++ FieldType.int.toString) = some t3 := (hK.2 3 _ rfl).2
  have f4 : s.vm.findClass ("[" ++ FieldType.int.toString) = some t4 := (hK.2 4 _ rfl).2
  have f5 : s.vm.findClass ("[" ++ FieldType.int.toString) = some t5 := (hK.2 5 _ rfl).2
  have e1 : t0 = t1 := Option.some.inj (f0.symm.trans f1)
  have e2 : t0 = t2 := Option.some.inj (f0.symm.trans f2)
  have e3 : t0 = t3 := Option.some.inj (f0.symm.trans f3)
  have e4 : t0 = t4 := Option.some.inj (f0.symm.trans f4)
  have e5 : t0 = t5 := Option.some.inj (f0.symm.trans f5)
  subst e1
  subst e2
  subst e3
  subst e4
  subst e5
  have hK := hK.sub (tys' := tyA t0 t6) [0, 6] rfl
  refine st_cret ((fun k => ([h0, a0, a1, a2, a3, a4, a5, a6] : List Nat).getD k 0), t0, t6) hx hb hr hlocks ?_ ?_ ?_ hS dX0_init_65 rfl
  · exact hK
  · exact hP
  · exact hD
set_option maxHeartbeats 4000000 in
set_option maxRecDepth 100000 in
theorem mM_init (l : Launch) (D : va_G) (h0 sz : Nat) : Met l yX1_init (ws_ yX1_init cX1_init 1 none) ({ frames := 1, cells := 1, slots := 60, locals := 12 } : Room) (st_P [.ref h0] D [] [(h0, .inr (1, [.null, .int 0, .int 0]))] sz) ((st_C D (fun (u : (Nat → Nat) × ClassId × ClassId) => u.1 0 = h0) (fun u => [(u.2.1, .int)]) (fun u => wM u.1 (u.2.1) (nI 0) (nI 0) (fun _ => nI 0))) (va_A [(h0, .inr (1, [.null, .int 0, .int 0]))] sz)) 1 60 (va_A [(h0, .inr (1, [.null, .int 0, .int 0]))] sz) := by
  refine st_of (QA := (st_C D (fun (u : (Nat → Nat) × ClassId × ClassId) => u.1 0 = h0) (fun u => [(u.2.1, .int)]) (fun u => wM u.1 (u.2.1) (nI 0) (nI 0) (fun _ => nI 0)))) (by decide) (Nat.le_of_ble_eq_true rfl) ?_
  intro p e s m below meth c A ls hx hb hr hml hlocks hown hts hname hK hP hD hS hA hl
  have hl : lv_has ls 1 [(0, .ref h0)] := hl
  have hown : s.vm.findClass RX1 = some m.cls := hown
  have hin : meth.name = "<init>" := hname
  refine lv_aload_n hx hb dX1_init_0 rfl (lv_at hl 0 rfl) ?_
  refine W.objInit hx hb hown (hts _ q163) (hts _ q23) (hts _ q24) rfl (by rw [hml]; exact hl.1) rfl dX1_init_1 (Nat.le_of_ble_eq_true rfl) (Nat.le_of_ble_eq_true rfl) ?_
  refine W.eq (g2 := F0 m 4 ls []) rfl ?_
  refine lv_aload_n hx hb dX1_init_4 rfl (lv_at hl 0 rfl) ?_
  refine lv_bipush (v := nI 60) hx hb dX1_init_5 (by decide) ?_
  refine va_newa (atype := .int) (ty := .int) (a0 := (60, .inl (fun _ => nI 0))) (N' := 60) hx hb (hts _ q65) rfl hK hP hD hS hA (fun _ => rfl) (by decide) (by decide) (by decide) (Nat.le_of_ble_eq_true rfl) (Nat.le_of_ble_eq_true rfl) dX1_init_7 (fun a0 t0 H hK hP hD hS => ?_)
  refine W.widen (k := 1) (n := 60) (Nat.le_of_ble_eq_true rfl) (Nat.le_of_ble_eq_true rfl) ?_
  have hP : va_P D vwCl [(h0, .inr (1, [.null, .int 0, .int 0])), (a0, .inl (t0, 60, .inl (fun _ => nI 0)))] H := hP
  have hD : va_D A [(h0, .inr (1, [.null, .int 0, .int 0])), (a0, .inl (t0, 60, .inl (fun _ => nI 0)))] := hD
  have hK : va_K D vwCl [(t0, .int)] s := hK
  refine va_putF (D := D) (ci := 1) (v := .ref a0) (ty := .array .int) (C := RX1) (T := TX1) (N := 3) hx hb hts in_X1 tyX1 tyX1_ok nmX1 hown hK hP hD hS 0 rfl rfl 0 (by decide) (hts _ q164) (fun _ h9 => h9) rfl hin rfl (by decide +kernel) rfl rfl (Nat.le_of_ble_eq_true rfl) dX1_init_9 (fun H locs hP hD hS => ?_)
  have hP : va_P D vwCl [(h0, .inr (1, [.ref a0, .int 0, .int 0])), (a0, .inl (t0, 60, .inl (fun _ => nI 0)))] H := hP
  have hD : va_D A [(h0, .inr (1, [.ref a0, .int 0, .int 0])), (a0, .inl (t0, 60, .inl (fun _ => nI 0)))] := hD
  have f0 : s.vm.findClass ("[" ++ FieldType.int.toString) = some t0 := (hK.2 0 _ rfl).2
  refine st_cret ((fun k => ([h0, a0] : List Nat).getD k 0), t0, t0) hx hb hr hlocks ?_ ?_ ?_ hS dX1_init_12 rfl
  · exact hK
  · exact hP
  · exact hD
end
section
/-! the two sides agree: their states' relation, and that the same words have the same answers -/
set_option maxRecDepth 100000
def LR (tl pl : Nat) (tk bk wn wb fl g : Nat → Int32) : Prop := tl ≤ 48 ∧ pl ≤ 12 ∧ TI tl tk bk ∧ PI pl wn wb fl ∧ (∀ i, i < tl → g i = tk i) ∧ (∀ j, j < pl → g (48 + j) = wn j)
theorem akG_mono {F F' G G' : Nat → Int32} {a a' b b' n : Nat} (h1 : ∀ k, k < n → F (a + k) = F' (a' + k)) (h2 : ∀ k, k < n → G (b + k) = G' (b' + k)) (h : akG F a G b n) : akG F' a' G' b' n := by
  intro k hk
  obtain ⟨x, y⟩ := h k hk
  refine ⟨fun z => ?_, fun z1 z2 q hq => ?_⟩
  · rw [← h1 k hk, ← h2 k hk] at z ⊢
    exact x z
  · rw [← h1 k hk] at z1
    rw [← h2 k hk] at z2
    rw [← h1 q (by omega), ← h1 k hk, ← h2 q (by omega), ← h2 k hk]
    exact y z1 z2 q hq
theorem akG_congr {F F' G G' : Nat → Int32} {a a' b b' n : Nat} (h1 : ∀ k, k < n → F (a + k) = F' (a' + k)) (h2 : ∀ k, k < n → G (b + k) = G' (b' + k)) : akG F a G b n ↔ akG F' a' G' b' n :=
  ⟨akG_mono h1 h2, akG_mono (fun k hk => (h1 k hk).symm) (fun k hk => (h2 k hk).symm)⟩
section AG
variable {tl pl : Nat} {tk bk wn wb fl g : Nat → Int32}
theorem LR_al (h : LR tl pl tk bk wn wb fl g) {i j n : Nat} (hi : i + n ≤ tl) (hj : j + n ≤ tl) : al bk i bk j n ↔ akG g i g j n := by
  obtain ⟨h1, h2, h3, h4, h5, h6⟩ := h
  exact (bridge (by omega) (fun k hk => h3 (i + k) (by omega)) (fun k hk => h3 (j + k) (by omega)) (by omega)).trans (akG_congr (fun k hk => (h5 _ (by omega)).symm) (fun k hk => (h5 _ (by omega)).symm))
theorem LR_mt (h : LR tl pl tk bk wn wb fl g) : mtX wb bk tl pl = mtM g tl pl := by
  obtain ⟨h1, h2, h3, h4, h5, h6⟩ := h
  funext p
  refine propext (and_congr_right (fun _ => and_congr_right (fun hp => ?_)))
  exact (bridge (F := wn) (G := tk) (by omega) (fun k hk => by rw [Nat.zero_add]; exact ⟨(h4 k hk).1, (h4 k hk).2.1⟩) (fun k hk => h3 (p + k) (by omega)) (by omega)).trans (akG_congr (fun k hk => by rw [Nat.zero_add]; exact (h6 k hk).symm) (fun k hk => (h5 _ (by omega)).symm))
theorem LR_a (h : LR tl pl tk bk wn wb fl g) : aX bk tl = aM g tl := by
  funext i j n
  exact propext (and_congr_right (fun h1 => and_congr_right (fun h2 => LR_al h (by omega) h2)))
/-! the same word has one answer -/
theorem mn_uniq {K : Nat → Prop} {r r' : Int32} (h : mn K r) (h' : mn K r') : r = r' := by
  rcases h with ⟨j, rfl, _, h2, h3⟩ | ⟨rfl, h2⟩
  · rcases h' with ⟨j', rfl, _, h4, h5⟩ | ⟨rfl, h4⟩
    · rw [Nat.le_antisymm (h3 _ h4) (h5 _ h2)]
    · exact absurd h2 (h4 _)
  · rcases h' with ⟨j', rfl, _, h4, h5⟩ | ⟨rfl, h4⟩
    · exact absurd h4 (h2 _)
    · rfl
theorem mx_le {K : Nat → Prop} {a b : Nat} (h : mx K a) (h' : mx K b) : a ≤ b := by
  rcases h.1 with h1 | h1
  · exact h'.2 _ h1
  · omega
theorem mx_uniq {K : Nat → Prop} {a b : Nat} (h : mx K a) (h' : mx K b) : a = b := Nat.le_antisymm (mx_le h h') (mx_le h' h)
theorem cf_uniq {A : Nat → Nat → Nat → Prop} {r r' : Int32} (h : cfQ A r) (h' : cfQ A r') : r = r' := by
  obtain ⟨k, h1, h2⟩ := h
  obtain ⟨k', h3, h4⟩ := h'
  have e := mx_uniq h1 h3
  subst e
  rcases h2 with ⟨a1, rfl⟩ | ⟨a1, a2⟩
  · rcases h4 with ⟨b1, rfl⟩ | ⟨b1, b2⟩
    · rfl
    · omega
  · rcases h4 with ⟨b1, rfl⟩ | ⟨b1, b2⟩
    · omega
    · exact mn_uniq a2 b2
theorem cs_uniq {A : Nat → Nat → Nat → Prop} {r r' : Int32} (h : csQ A r) (h' : csQ A r') : r = r' := by
  obtain ⟨k, h1, h2⟩ := h
  obtain ⟨k', h3, h4⟩ := h'
  have e := mx_uniq h1 h3
  subst e
  rcases h2 with ⟨a1, rfl⟩ | ⟨a1, i, a2, a3, a4⟩
  · rcases h4 with ⟨b1, rfl⟩ | ⟨b1, b2⟩
    · rfl
    · omega
  · rcases h4 with ⟨b1, rfl⟩ | ⟨b1, i', b2, b3, b4⟩
    · omega
    · have e := (nI_eq a2 b2).mp (mn_uniq a3 b3)
      subst e
      exact mn_uniq a4 b4
theorem mAt_uniq {M : Nat → Prop} {n r r' : Int32} (htl : tl ≤ 48) (h : mAt M tl n r) (h' : mAt M tl n r') : r = r' := by
  rcases h with ⟨p, a1, a2, a3, rfl⟩ | ⟨rfl, a1⟩
  · rcases h' with ⟨q, b1, b2, b3, rfl⟩ | ⟨rfl, b1⟩
    · have c1 := cnt_le M p
      have c2 := cnt_le M q
      rw [cnt_inj a2 b2 ((nI_eq (by omega) (by omega)).mp (a3.symm.trans b3))]
    · exact absurd a3 (b1 p a1 a2)
  · rcases h' with ⟨q, b1, b2, b3, rfl⟩ | ⟨rfl, b1⟩
    · exact absurd b3 (a1 q b1 b2)
    · rfl
theorem rnQ_w {M : Nat → Prop} {w w' : Nat → Int32} {n y : Int32} {p k : Nat} (hw : ∀ k, k < pl → w k = w' k) (h : rnQ M tl pl w n y p k) : rnQ M tl pl w' n y p k := by
  obtain ⟨h1, h2, h3, h4, h5, h6, h7⟩ := h
  exact ⟨h1, h2, h3, h4, h5, h6, (hw k h6).symm.trans h7⟩
theorem rnm_uniq {M : Nat → Prop} {w f w' f' : Nat → Int32} {n y r r' : Int32} (htl : tl ≤ 48) (hM : ∀ p, M p → p + pl ≤ tl) (hw : ∀ k, k < pl → w k = w' k) (hf : ∀ q, q < tl → f q = f' q) (h : rnm M tl pl w f n y r) (h' : rnm M tl pl w' f' n y r') : r = r' := by
  rcases h with ⟨p, k, a1, a2, rfl⟩ | ⟨rfl, a1⟩
  · rcases h' with ⟨q, k', b1, b2, rfl⟩ | ⟨rfl, b1⟩
    · have a1 := rnQ_w hw a1
      obtain ⟨g1, g2, g3, g4, g5, g6, g7⟩ := a1
      obtain ⟨e1, e2, e3, e4, e5, e6, e7⟩ := b1
      have c1 := cnt_le M p
      have c2 := cnt_le M q
      have hpq : p = q := cnt_inj g2 e2 ((nI_eq (by omega) (by omega)).mp (g3.symm.trans e3))
      subst hpq
      have hk : k = k' := by
        rcases Nat.lt_trichotomy k k' with z | z | z
        · exact absurd g7 (b2 k z)
        · exact z
        · exact absurd ((hw k' e6).trans e7) (a2 k' z)
      subst hk
      have := hM p g2
      exact hf _ (by omega)
    · exact absurd (rnQ_w hw a1) (b1 p k)
  · rcases h' with ⟨q, k', b1, b2, rfl⟩ | ⟨rfl, b1⟩
    · exact absurd (rnQ_w (fun k hk => (hw k hk).symm) b1) (a1 q k')
    · rfl
theorem kd_uniq {N N' : Nat → Nat → Prop} {x r r' : Int32} (htl : tl ≤ 48) (hN : ∀ k i, i + k ≤ tl → (N k i ↔ N' k i)) (h : kdQ N tl x r) (h' : kdQ N' tl x r') : r = r' := by
  rcases h with ⟨k, a1, a2, a3, rfl⟩ | ⟨a1, rfl⟩
  · rcases h' with ⟨k', b1, b2, b3, rfl⟩ | ⟨b1, rfl⟩
    · have e : k = k' := (nI_eq (by omega) (by omega)).mp (a3.symm.trans b3)
      subst e
      rw [cnt_congr (fun p hp => hN k p (by omega))]
    · rw [a3, nI_ltI (by omega) (by omega), nI_ltI (by omega) (by omega)] at b1
      omega
  · rcases h' with ⟨k', b1, b2, b3, rfl⟩ | ⟨b1, rfl⟩
    · rw [b3, nI_ltI (by omega) (by omega), nI_ltI (by omega) (by omega)] at a1
      omega
    · rfl
theorem rc_one {B B' : Nat → Nat → Nat → Prop} {x y r r' : Int32} (htl : tl ≤ 48) (hB : ∀ i j n, i + n ≤ tl → j + n ≤ tl → (B i j n ↔ B' i j n)) (h : rcQ B tl x y r) (h' : rcQ B' tl x y r') : r = r' := by
  rcases h with ⟨i, j, k, a1, a2, a3, a4, rfl, a5⟩ | ⟨a1, rfl⟩
  · rcases h' with ⟨i', j', k', b1, b2, b3, b4, rfl, b5⟩ | ⟨b1, rfl⟩
    · have e1 : i = i' := (nI_eq (by omega) (by omega)).mp (a3.symm.trans b3)
      have e2 : j = j' := (nI_eq (by omega) (by omega)).mp (a4.symm.trans b4)
      subst e1; subst e2
      have e3 : (fun n => i + n ≤ tl ∧ j + n ≤ tl ∧ B i j n) = (fun n => i + n ≤ tl ∧ j + n ≤ tl ∧ B' i j n) := by
        funext n
        exact propext (and_congr_right (fun h1 => and_congr_right (fun h2 => hB i j n h1 h2)))
      rw [e3] at a5
      rw [mx_uniq a5 b5]
    · exact absurd ⟨a3 ▸ in_nI (by omega) a1, a4 ▸ in_nI (by omega) a2⟩ b1
  · rcases h' with ⟨i', j', k', b1, b2, b3, b4, rfl, b5⟩ | ⟨b1, rfl⟩
    · exact absurd ⟨b3 ▸ in_nI (by omega) b1, b4 ▸ in_nI (by omega) b2⟩ a1
    · rfl
/-! the methods, one by one -/
variable {x y r r' : Int32}
theorem ag_matches (h : LR tl pl tk bk wn wb fl g) (h1 : r = nI (cnt (mtX wb bk tl pl) tl)) (h2 : r' = nI (cnt (mtM g tl pl) tl)) : r = r' := by
  rw [h1, h2, LR_mt h]
theorem ag_matchAt (h : LR tl pl tk bk wn wb fl g) (h1 : mAt (mtX wb bk tl pl) tl x r) (h2 : mAt (mtM g tl pl) tl x r') : r = r' := by
  rw [LR_mt h] at h1
  exact mAt_uniq h.1 h1 h2
theorem ag_renamed (h : LR tl pl tk bk wn wb fl g) (h1 : rnm (mtX wb bk tl pl) tl pl wn tk x y r) (h2 : rnm (mtM g tl pl) tl pl (fun k => g (48 + k)) g x y r') : r = r' := by
  rw [LR_mt h] at h1
  exact rnm_uniq h.1 (fun p hp => hp.2.1) (fun k hk => (h.2.2.2.2.2 k hk).symm) (fun q hq => (h.2.2.2.2.1 q hq).symm) h1 h2
theorem ag_longestClone (h : LR tl pl tk bk wn wb fl g) (h1 : ∃ k, r = nI k ∧ k ≤ 48 ∧ mx (lg (aX bk tl)) k) (h2 : ∃ k, r' = nI k ∧ k ≤ 48 ∧ mx (lg (aM g tl)) k) : r = r' := by
  obtain ⟨k, rfl, _, h1⟩ := h1
  obtain ⟨k', rfl, _, h2⟩ := h2
  rw [LR_a h] at h1
  rw [mx_uniq h1 h2]
theorem ag_cloneFirst (h : LR tl pl tk bk wn wb fl g) (h1 : cfQ (aX bk tl) r) (h2 : cfQ (aM g tl) r') : r = r' := by
  rw [LR_a h] at h1
  exact cf_uniq h1 h2
theorem ag_cloneSecond (h : LR tl pl tk bk wn wb fl g) (h1 : csQ (aX bk tl) r) (h2 : csQ (aM g tl) r') : r = r' := by
  rw [LR_a h] at h1
  exact cs_uniq h1 h2
theorem ag_kinds (h : LR tl pl tk bk wn wb fl g) (h1 : kdQ (nwX bk) tl x r) (h2 : kdQ (nwM g) tl x r') : r = r' := by
  refine kd_uniq h.1 (fun k i hi => ?_) h1 h2
  refine not_congr ⟨fun q => ?_, fun q => ?_⟩
  · obtain ⟨j, q1, q2⟩ := q
    exact ⟨j, q1, (LR_al h hi (by omega)).mp q2⟩
  · obtain ⟨j, q1, q2⟩ := q
    exact ⟨j, q1, (LR_al h hi (by omega)).mpr q2⟩
theorem ag_reach (h : LR tl pl tk bk wn wb fl g) (h1 : rcQ (fun i j n => al bk i bk j n) tl x y r) (h2 : rcQ (fun i j n => akG g i g j n) tl x y r') : r = r' :=
  rc_one h.1 (fun i j n hi hj => LR_al h hi hj) h1 h2
theorem ag_text {u : Nat × (Nat → Int32) × (Nat → Int32)} {v : Nat × (Nat → Int32)} (h : LR tl pl tk bk wn wb fl g)
    (h1 : (¬ okQ x ∧ r = -1 ∧ u = (tl, tk, bk)) ∨ (okQ x ∧ tl = 48 ∧ r = -2 ∧ u = (tl, tk, bk)) ∨ (okQ x ∧ tl < 48 ∧ r = nI (tl + 1) ∧ ∃ v, isD (upd tk tl x) tl v ∧ u = (tl + 1, upd tk tl x, upd bk tl v)))
    (h2 : (¬ okQ x ∧ r' = -1 ∧ v = (tl, g)) ∨ (okQ x ∧ tl = 48 ∧ r' = -2 ∧ v = (tl, g)) ∨ (okQ x ∧ tl < 48 ∧ r' = nI (tl + 1) ∧ v = (tl + 1, upd g tl x))) : r = r' ∧ v.1 = u.1 ∧ LR u.1 pl u.2.1 u.2.2 wn wb fl v.2 := by
  rcases h1 with ⟨a1, rfl, rfl⟩ | ⟨a1, a2, rfl, rfl⟩ | ⟨a1, a2, rfl, c, hc, rfl⟩
  · rcases h2 with ⟨b1, rfl, rfl⟩ | ⟨b1, b2, rfl, rfl⟩ | ⟨b1, b2, rfl, rfl⟩
    · exact ⟨rfl, rfl, h⟩
    · exact absurd b1 a1
    · exact absurd b1 a1
  · rcases h2 with ⟨b1, rfl, rfl⟩ | ⟨b1, b2, rfl, rfl⟩ | ⟨b1, b2, rfl, rfl⟩
    · exact absurd a1 b1
    · exact ⟨rfl, rfl, h⟩
    · omega
  · rcases h2 with ⟨b1, rfl, rfl⟩ | ⟨b1, b2, rfl, rfl⟩ | ⟨b1, b2, rfl, rfl⟩
    · exact absurd a1 b1
    · omega
    · obtain ⟨g1, g2, g3, g4, g5, g6⟩ := h
      refine ⟨rfl, rfl, by show tl + 1 ≤ 48; omega, g2, TI_push g3 a1 hc, g4, fun i hi => ?_, fun j hj => ?_⟩
      · show upd g tl x i = upd tk tl x i
        have hi : i < tl + 1 := hi
        by_cases e : i = tl
        · subst e; rw [pk_us, pk_us]
        · rw [pk_un e, pk_un e]; exact g5 i (by omega)
      · show upd g tl x (48 + j) = wn j
        rw [pk_un (by omega)]
        exact g6 j hj
theorem ag_change {u : (Nat → Int32) × (Nat → Int32)} {v : Nat → Int32} (h : LR tl pl tk bk wn wb fl g)
    (h1 : (¬ inQ tl x ∧ r = -3 ∧ u = (tk, bk)) ∨ (inQ tl x ∧ ¬ okQ y ∧ r = -1 ∧ u = (tk, bk)) ∨ (okQ y ∧ ∃ i, i < tl ∧ x = nI i ∧ r = tk i ∧ u.1 = upd tk i y ∧ (∀ q, q < i → u.2 q = bk q) ∧ (∀ q, q < tl → i ≤ q → isD (upd tk i y) q (u.2 q))))
    (h2 : (¬ inQ tl x ∧ r' = -3 ∧ v = g) ∨ (inQ tl x ∧ ¬ okQ y ∧ r' = -1 ∧ v = g) ∨ (okQ y ∧ ∃ i, i < tl ∧ x = nI i ∧ r' = g i ∧ v = upd g i y)) : r = r' ∧ LR tl pl u.1 u.2 wn wb fl v := by
  have h0 := h
  obtain ⟨g1, g2, g3, g4, g5, g6⟩ := h0
  rcases h1 with ⟨a1, rfl, rfl⟩ | ⟨a1, a2, rfl, rfl⟩ | ⟨a1, i, a2, a3, a4, a5, a6, a7⟩
  · rcases h2 with ⟨b1, rfl, rfl⟩ | ⟨b1, b2, rfl, rfl⟩ | ⟨b1, i', b2, b3, b4, rfl⟩
    · exact ⟨rfl, h⟩
    · exact absurd b1 a1
    · exact absurd (b3 ▸ in_nI (by omega) b2) a1
  · rcases h2 with ⟨b1, rfl, rfl⟩ | ⟨b1, b2, rfl, rfl⟩ | ⟨b1, i', b2, b3, b4, rfl⟩
    · exact absurd a1 b1
    · exact ⟨rfl, h⟩
    · exact absurd b1 a2
  · rcases h2 with ⟨b1, rfl, rfl⟩ | ⟨b1, b2, rfl, rfl⟩ | ⟨b1, i', b2, b3, b4, rfl⟩
    · exact absurd (a3 ▸ in_nI (by omega) a2) b1
    · exact absurd a1 b2
    · have e : i = i' := (nI_eq (by omega) (by omega)).mp (a3.symm.trans b3)
      subst e
      refine ⟨by rw [a4, b4, g5 i a2], g1, g2, by rw [a5]; exact TI_chg g3 a1 a6 a7, g4, fun q hq => ?_, fun j hj => ?_⟩
      · rw [a5]
        by_cases e : q = i
        · subst e; rw [pk_us, pk_us]
        · rw [pk_un e, pk_un e]; exact g5 q hq
      · rw [pk_un (by omega)]
        exact g6 j hj
theorem ag_pattern {u : Nat × (Nat → Int32) × (Nat → Int32) × (Nat → Int32)} {v : Nat × (Nat → Int32)} (h : LR tl pl tk bk wn wb fl g)
    (h1 : (¬ okQ x ∧ r = -1 ∧ u = (pl, wn, wb, fl)) ∨ (okQ x ∧ pl = 12 ∧ r = -2 ∧ u = (pl, wn, wb, fl)) ∨ (okQ x ∧ pl < 12 ∧ r = nI (pl + 1) ∧ u.1 = pl + 1 ∧ u.2.1 = upd wn pl x ∧ PI (pl + 1) u.2.1 u.2.2.1 u.2.2.2))
    (h2 : (¬ okQ x ∧ r' = -1 ∧ v = (pl, g)) ∨ (okQ x ∧ pl = 12 ∧ r' = -2 ∧ v = (pl, g)) ∨ (okQ x ∧ pl < 12 ∧ r' = nI (pl + 1) ∧ v = (pl + 1, upd g (48 + pl) x))) : r = r' ∧ v.1 = u.1 ∧ LR tl u.1 tk bk u.2.1 u.2.2.1 u.2.2.2 v.2 := by
  rcases h1 with ⟨a1, rfl, rfl⟩ | ⟨a1, a2, rfl, rfl⟩ | ⟨a1, a2, rfl, a3, a4, a5⟩
  · rcases h2 with ⟨b1, rfl, rfl⟩ | ⟨b1, b2, rfl, rfl⟩ | ⟨b1, b2, rfl, rfl⟩
    · exact ⟨rfl, rfl, h⟩
    · exact absurd b1 a1
    · exact absurd b1 a1
  · rcases h2 with ⟨b1, rfl, rfl⟩ | ⟨b1, b2, rfl, rfl⟩ | ⟨b1, b2, rfl, rfl⟩
    · exact absurd a1 b1
    · exact ⟨rfl, rfl, h⟩
    · omega
  · rcases h2 with ⟨b1, rfl, rfl⟩ | ⟨b1, b2, rfl, rfl⟩ | ⟨b1, b2, rfl, rfl⟩
    · exact absurd a1 b1
    · omega
    · obtain ⟨g1, g2, g3, g4, g5, g6⟩ := h
      refine ⟨rfl, a3.symm, g1, by omega, g3, by rw [a3]; exact a5, fun i hi => ?_, fun j hj => ?_⟩
      · show upd g (48 + pl) x i = tk i
        rw [pk_un (by omega)]
        exact g5 i hi
      · show upd g (48 + pl) x (48 + j) = u.2.1 j
        rw [a4]
        by_cases e : j = pl
        · subst e; rw [pk_us, pk_us]
        · rw [pk_un e, pk_un (by omega)]; exact g6 j (by omega)
theorem ag_patternFrom {u : Nat × (Nat → Int32) × (Nat → Int32) × (Nat → Int32)} {v : Nat × (Nat → Int32)} (h : LR tl pl tk bk wn wb fl g)
    (h1 : (∃ i k, pfQ tl x y i k ∧ r = nI k ∧ u.1 = k ∧ (∀ q, q < k → u.2.1 q = tk (i + q)) ∧ PI k u.2.1 u.2.2.1 u.2.2.2) ∨ ((∀ i k, ¬ pfQ tl x y i k) ∧ r = -3 ∧ u = (pl, wn, wb, fl)))
    (h2 : (∃ i k, pfQ tl x y i k ∧ r' = nI k ∧ v.1 = k ∧ (∀ q, q < 48 → v.2 q = g q) ∧ (∀ q, q < k → v.2 (48 + q) = g (i + q))) ∨ ((∀ i k, ¬ pfQ tl x y i k) ∧ r' = -3 ∧ v = (pl, g))) : r = r' ∧ v.1 = u.1 ∧ LR tl u.1 tk bk u.2.1 u.2.2.1 u.2.2.2 v.2 := by
  rcases h1 with ⟨i, k, a1, rfl, a2, a3, a4⟩ | ⟨a1, rfl, rfl⟩
  · rcases h2 with ⟨i', k', b1, rfl, b2, b3, b4⟩ | ⟨b1, rfl, rfl⟩
    · obtain ⟨g1, g2, g3, g4, g5, g6⟩ := h
      obtain ⟨c1, c2, c3, c4, c5⟩ := a1
      obtain ⟨e1, e2, e3, e4, e5⟩ := b1
      have f1 : i = i' := (nI_eq (by omega) (by omega)).mp (c1.symm.trans e1)
      have f2 : k = k' := (nI_eq (by omega) (by omega)).mp (c2.symm.trans e2)
      subst f1; subst f2
      refine ⟨rfl, b2.trans a2.symm, g1, by omega, g3, by rw [a2]; exact a4, fun q hq => ?_, fun q hq => ?_⟩
      · rw [b3 q (by omega)]; exact g5 q hq
      · rw [b4 q (by omega), a3 q (by omega)]; exact g5 _ (by omega)
    · exact absurd a1 (b1 i k)
  · rcases h2 with ⟨i', k', b1, rfl, b2, b3, b4⟩ | ⟨b1, rfl, rfl⟩
    · exact absurd b1 (a1 i' k')
    · exact ⟨rfl, rfl, h⟩
theorem LR_cP (h : LR tl pl tk bk wn wb fl g) : LR tl 0 tk bk wn wb fl g := ⟨h.1, by omega, h.2.2.1, fun i hi => absurd hi (Nat.not_lt_zero _), h.2.2.2.2.1, fun i hi => absurd hi (Nat.not_lt_zero _)⟩
theorem LR_cT (h : LR tl pl tk bk wn wb fl g) : LR 0 pl tk bk wn wb fl g := ⟨by omega, h.2.1, fun i hi => absurd hi (Nat.not_lt_zero _), h.2.2.2.1, fun i hi => absurd hi (Nat.not_lt_zero _), h.2.2.2.2.2⟩
theorem LR_0 : LR 0 0 tk bk wn wb fl g := ⟨by omega, by omega, fun i hi => absurd hi (Nat.not_lt_zero _), fun i hi => absurd hi (Nat.not_lt_zero _), fun i hi => absurd hi (Nat.not_lt_zero _), fun i hi => absurd hi (Nat.not_lt_zero _)⟩
end AG
end
section
set_option maxRecDepth 100000
/-! THE CLAIM OUT OF ONE WALK OF THE LAW'S BODY. Your part is whole_start (and what it stands on); all else here is the same for every law, but numbers. -/
def R_law : String := "ParamCloneFinderLaw"
def lw_P (b : Addr) (xs : List Int32) (args : Array Value) (s : State) : Prop := args = #[.ref b] ∧ s.IntsAt b xs ∧ xs.length ≤ 192 ∧ (Jvm.Cond.and given_1 narrow_1).before args s = true
def lw_Q (_ : Array Value) (s : State) (o : Outcome) (t : State) : Prop := o = .returned (some (.int 1)) ∧ Framed s o t [] 600000 7290000
def lw_Z (below : List Frame) (a : Array Value) (s : State) : State → Prop := fun t => ∃ o, t.status = .running ∧ Ended t below o ∧ lw_Q a s o t
/-- the law's own end, with 1 on the stack, nothing written that was there before, its room as the claim has it -/
theorem lw_ret {p : Program} {l : Launch} {e : Env} {s : State} {m : MethodId} {below : List Frame} {meth : Method} {c : Code} {b : Nat} (hx : p.tables.exec = Jvm.exec) (hb : c.code = code) (hr : meth.sig.returnType = ret) (hlocks : meth.locks = false) {pc : Nat} {H : Heap} {ls : Array Slot} (hdg : decode code pc = .ok (.ireturn, 1)) : W p l e room_1 s m #[Value.ref b] below meth c H [] 600000 7290000 (lw_Z below #[Value.ref b] s) (F0 m pc ls [.int 1]) := by
  intro T hT X
  obtain ⟨fs, hret, hrun, hended, hW, hframe⟩ := X.leave (v := some (.int 1)) (hlocks := hlocks) (fun h => by rw [hr] at h; cases h)
  have hmeth' : T.vm.method? m = some meth := X.method'
  refine ⟨T.setFrames fs, ?_, .returned (some (.int 1)), hrun, hended, rfl, ⟨_, rfl⟩, hW, hframe⟩
  jvm_step X.here [X.here.top, hx, hb, hdg, hmeth', hr, ret, narrow_b1]
  (try refine ⟨rfl, ?_⟩); (try refine ⟨rfl, ?_⟩)
  first | (intro acts; rw [hret _ acts rfl rfl rfl]) | rw [hret _ _ rfl rfl rfl]
  exact Steps.refl _
/-- what holds at the law's entry: the machine, the code, the tables' words (any of lw_tbl by 'hts w (by decide +kernel)'), the script of L ints xs at the cell b, what the Statement gives of the start (any of its parts by flat_of_before) -/
def lw_At (p : Program) (s : State) (m : MethodId) (meth : Method) (c : Code) (b L : Nat) (xs : Nat → Int32) : Prop :=
  p.tables.exec = Jvm.exec ∧ c.code = code ∧ meth.sig.returnType = ret ∧ c.maxLocals = 4 ∧ s.vm.findClass R_law = some m.cls ∧ (∀ w ∈ lw_tbl, w.before #[Value.ref b] s = true) ∧ va_X b L xs s s.heap ∧ b < s.heap.size ∧ meth.locks = false ∧ (Jvm.Cond.and given_1 narrow_1).before #[Value.ref b] s = true
/-! the law's loop -/
section NS
variable {p : Program} {l : Launch} {e : Env} {R : Room} {s : State} {m : MethodId} {args : Array Value} {below : List Frame} {meth : Method} {c : Code} {H H0 : Heap} {locs : List Loc} {cells slots : Nat} {Q : State → Prop} {cc : ByteArray} {pc : Nat} {ls : Array Slot} {rest : List Value} {A : Nat → Prop}
theorem ni_sld (hx : p.tables.exec = Jvm.exec) (hb : c.code = cc) {b L : Nat} {xs : Nat → Int32} (hX : va_X b L xs s H0) (hbl : b < H0.size) (hbA : ¬ A b) (hS : va_S A H0 H locs) {i : Nat} (hL : L < 2 ^ 31) (hdg : decode cc pc = .ok (.iaload, 1)) (hi : i < L)
    (k : W p l e R s m args below meth c H locs cells slots Q (F0 m (pc + 1) ls (.int (xs i) :: rest))) : W p l e R s m args below meth c H locs cells slots Q (F0 m pc ls (.int (nI i) :: .ref b :: rest)) :=
  va_sld hx hb hX hbl hbA hS (vp_in_nI hi hL) hdg (st_topi (by rw [nI_clamp (Nat.lt_trans hi hL)]) k)
end NS
theorem gt_sub {i L : Nat} (hi : i ≤ L) (hL : L ≤ 192) : nI L - nI 3 < nI i ↔ L < i + 3 := by
  rw [Int32.lt_iff_toInt_lt, nI_toInt (by omega), pk_sub_toInt (by omega) (by omega)]
  omega
set_option maxHeartbeats 8000000 in
set_option maxRecDepth 100000 in
theorem law_loop {p : Program} {l : Launch} {e : Env} {s : State} {m : MethodId} {below : List Frame} {meth : Method} {c : Code} {b L : Nat} {xs : Nat → Int32} {D : va_G} {A : Nat → Prop} (z zm : Nat → Nat) (d0 d1 : ClassId) (hL : L ≤ 192) (hx : p.tables.exec = Jvm.exec) (hb : c.code = code) (hr : meth.sig.returnType = ret) (hml : c.maxLocals = 4) (hown : s.vm.findClass R_law = some m.cls) (hts : ∀ w ∈ lw_all, w.before #[Value.ref b] s = true) (hX : va_X b L xs s s.heap) (hbl : b < s.heap.size) (hlocks : meth.locks = false) (hA : ∀ q : Nat, s.heap.size ≤ q → A q) (hA2 : ∀ q : Nat, A q → s.heap.size ≤ q) (hbA : ¬ A b) (hK : va_K D vwCl (tyA d0 d1) s) :
    ∀ (fu : Nat) (i tl pl : Nat) (fo lo fi se : Int32) (tk bk wn wb fl fa rp g : Nat → Int32), L < i + fu → i ≤ L → LR tl pl tk bk wn wb fl g → ∀ (H : Heap) (locs : List Loc) (ls : Array Slot), va_P D vwCl ((wX z d0 d1 (nI (tl)) (nI (pl)) ((fo)) ((lo)) ((fi)) ((se)) (tk) (bk) (wn) (wb) (fl) (fa) (rp)) ++ (wM zm d0 (nI (tl)) (nI (pl)) (g))) H → va_D A ((wX z d0 d1 (nI (tl)) (nI (pl)) ((fo)) ((lo)) ((fi)) ((se)) (tk) (bk) (wn) (wb) (fl) (fa) (rp)) ++ (wM zm d0 (nI (tl)) (nI (pl)) (g))) → va_S A s.heap H locs → lv_has ls 4 [(3, .int (nI (i))), (0, .ref b), (1, .ref (z 0)), (2, .ref (zm 0))] → W p l e room_1 s m #[Value.ref b] below meth c H locs 600000 7290000 (lw_Z below #[Value.ref b] s) (F0 m 18 ls []) := by
  intro fu
  induction fu with
  | zero => intro i tl pl fo lo fi se tk bk wn wb fl fa rp g hf hi hLR; exfalso; omega
  | succ fu ih =>
    intro i tl pl fo lo fi se tk bk wn wb fl fa rp g hf hi hLR H locs ls hP hD hS hl
    have htl := hLR.1
    have hpl := hLR.2.1
    refine lv_iload_n hx hb dL_law_18 rfl (lv_at hl 0 rfl) ?_
    refine lv_aload_n hx hb dL_law_19 rfl (lv_at hl 1 rfl) ?_
    refine va_slen hx hb hX hbl hbA hS dL_law_20 ?_
    refine st_topi (show Int32.ofNat L = nI L from rfl) ?_
    refine lv_iconst (v := nI 3) hx hb dL_law_21 (by decide) ?_
    refine lv_isub hx hb dL_law_22 ?_
    refine lv_icmp_gt (tgt := 408) hx hb dL_law_23 (by decide) (fun c_23 => ?_) (fun c_23 => ?_)
    · refine lv_iconst (v := 1) hx hb dL_law_408 (by decide) ?_
      refine va_forget (fun q hq => hA2 _ (hS.2.2 q hq)) ?_
      exact lw_ret hx hb hr hlocks dL_law_409
    · have hi3 : i + 3 ≤ L := by
        have h := mt (gt_sub hi hL).mpr c_23
        omega
      refine lv_aload_n hx hb dL_law_26 rfl (lv_at hl 1 rfl) ?_
      refine lv_iload_n hx hb dL_law_27 rfl (lv_at hl 0 rfl) ?_
      refine ni_sld hx hb hX hbl hbA hS (by omega) dL_law_28 (by omega) ?_
      refine lv_bipush (v := nI 15) hx hb dL_law_29 (by decide) ?_
      refine lv_iand hx hb dL_law_31 ?_
      obtain ⟨j, hj, ej⟩ := pk_andE (xs i) (m := nI 15) 4 (by decide)
      refine st_topi ej ?_
      have hj : j < 16 := hj
      rcases (show j = 0 ∨ j = 1 ∨ j = 2 ∨ j = 3 ∨ j = 4 ∨ j = 5 ∨ j = 6 ∨ j = 7 ∨ j = 8 ∨ j = 9 ∨ j = 10 ∨ j = 11 ∨ j = 12 ∨ j = 13 ∨ j = 14 ∨ j = 15 by omega) with rfl | rfl | rfl | rfl | rfl | rfl | rfl | rfl | rfl | rfl | rfl | rfl | rfl | rfl | rfl | rfl
      · refine lv_tableIn (off := 72) (tgt := 104) hx hb dL_law_32 (by decide) (by decide) (by decide +kernel) (by decide) ?_
        refine lv_aload_n hx hb dL_law_104 rfl (lv_at hl 2 rfl) ?_
        refine lv_aload_n hx hb dL_law_105 rfl (lv_at hl 1 rfl) ?_
        refine lv_iload_n hx hb dL_law_106 rfl (lv_at hl 0 rfl) ?_
        refine lv_iconst (v := nI 1) hx hb dL_law_107 (by decide) ?_
        refine ni_add hx hb dL_law_108 ?_
        refine ni_sld hx hb hX hbl hbA hS (by omega) dL_law_109 (by omega) ?_
        refine st_cVi (ci := 0) (qc := (RX0, TX0, 13)) (As := [.int (xs (i + 1))]) (rest := []) (wc := (wX z d0 d1 (nI (tl)) (nI (pl)) ((fo)) ((lo)) ((fi)) ((se)) (tk) (bk) (wn) (wb) (fl) (fa) (rp))) (wr := (wM zm d0 (nI (tl)) (nI (pl)) (g))) 1 ⟨hx, hb, hml, hown, hts⟩ (mX_text l D z d0 d1 tl pl fo lo fi se tk bk wn wb fl fa rp htl hpl  (xs (i + 1))) (lw_V q67 q68 q69 q15 q70) (by decide +kernel) ⟨Nat.le_of_ble_eq_true rfl, Nat.le_of_ble_eq_true rfl⟩ rfl rfl ⟨Nat.le_refl _, Nat.le_refl _⟩ hK hP hD hS hA rfl rfl rfl hl.1 rfl (Nat.le_of_ble_eq_true rfl) dL_law_110 (fun r_110 u H locs hq_110 hP hD hS => ?_)
        have hP : va_P D vwCl ((wX z d0 d1 (nI (u.1)) (nI (pl)) ((fo)) ((lo)) ((fi)) ((se)) (u.2.1) (u.2.2) (wn) (wb) (fl) (fa) (rp)) ++ (wM zm d0 (nI (tl)) (nI (pl)) (g))) H := hP
        have hD : va_D A ((wX z d0 d1 (nI (u.1)) (nI (pl)) ((fo)) ((lo)) ((fi)) ((se)) (u.2.1) (u.2.2) (wn) (wb) (fl) (fa) (rp)) ++ (wM zm d0 (nI (tl)) (nI (pl)) (g))) := hD
        refine lv_aload_n hx hb dL_law_113 rfl (lv_at hl 3 rfl) ?_
        refine lv_aload_n hx hb dL_law_114 rfl (lv_at hl 1 rfl) ?_
        refine lv_iload_n hx hb dL_law_115 rfl (lv_at hl 0 rfl) ?_
        refine lv_iconst (v := nI 1) hx hb dL_law_116 (by decide) ?_
        refine ni_add hx hb dL_law_117 ?_
        refine ni_sld hx hb hX hbl hbA hS (by omega) dL_law_118 (by omega) ?_
        have hP := st_swapP hP
        have hD := st_swapD hD
        refine st_cVi (ci := 1) (qc := (RX1, TX1, 3)) (As := [.int (xs (i + 1))]) (rest := [.int r_110]) (wc := (wM zm d0 (nI (tl)) (nI (pl)) (g))) (wr := (wX z d0 d1 (nI (u.1)) (nI (pl)) ((fo)) ((lo)) ((fi)) ((se)) (u.2.1) (u.2.2) (wn) (wb) (fl) (fa) (rp))) 1 ⟨hx, hb, hml, hown, hts⟩ (mM_text l D zm d0 d1 tl pl g htl hpl (xs (i + 1))) (lw_V q174 q175 q176 q16 q177) (by decide +kernel) ⟨Nat.le_of_ble_eq_true rfl, Nat.le_of_ble_eq_true rfl⟩ rfl rfl ⟨Nat.le_refl _, Nat.le_refl _⟩ hK hP hD hS hA rfl rfl rfl hl.1 rfl (Nat.le_of_ble_eq_true rfl) dL_law_119 (fun r_119 v H locs hq_119 hP hD hS => ?_)
        have hP : va_P D vwCl ((wM zm d0 (nI (v.1)) (nI (pl)) (v.2)) ++ (wX z d0 d1 (nI (u.1)) (nI (pl)) ((fo)) ((lo)) ((fi)) ((se)) (u.2.1) (u.2.2) (wn) (wb) (fl) (fa) (rp))) H := hP
        have hD : va_D A ((wM zm d0 (nI (v.1)) (nI (pl)) (v.2)) ++ (wX z d0 d1 (nI (u.1)) (nI (pl)) ((fo)) ((lo)) ((fi)) ((se)) (u.2.1) (u.2.2) (wn) (wb) (fl) (fa) (rp))) := hD
        have hP := st_swapP hP
        have hD := st_swapD hD
        obtain ⟨hr1, hr2, hLR2⟩ := ag_text hLR hq_110 hq_119
        rw [hr2] at hP hD
        refine lv_icmp_eq (tgt := 402) hx hb dL_law_122 (by decide) (fun _ => ?_) (fun h => absurd hr1 h)
        refine lv_iinc (v := nI (i + 3)) (lv' := [(3, .int (nI (i + 3))), (0, .ref b), (1, .ref (z 0)), (2, .ref (zm 0))]) hx hb dL_law_402 hl (k := 0) rfl (ni_inc3 _) (by decide) rfl (fun ls hl => ?_)
        refine lv_goto (tgt := 18) hx hb dL_law_405 (by decide) ?_
        exact ih (i + 3) u.1 pl (fo) (lo) (fi) (se) u.2.1 u.2.2 wn wb fl fa rp v.2 (by omega) (by omega) hLR2 _ _ _ hP hD hS (lv_sub hl [0, 1, 2, 3] rfl)
      · refine lv_tableIn (off := 95) (tgt := 127) hx hb dL_law_32 (by decide) (by decide) (by decide +kernel) (by decide) ?_
        refine lv_aload_n hx hb dL_law_127 rfl (lv_at hl 2 rfl) ?_
        refine lv_aload_n hx hb dL_law_128 rfl (lv_at hl 1 rfl) ?_
        refine lv_iload_n hx hb dL_law_129 rfl (lv_at hl 0 rfl) ?_
        refine lv_iconst (v := nI 1) hx hb dL_law_130 (by decide) ?_
        refine ni_add hx hb dL_law_131 ?_
        refine ni_sld hx hb hX hbl hbA hS (by omega) dL_law_132 (by omega) ?_
        refine lv_aload_n hx hb dL_law_133 rfl (lv_at hl 1 rfl) ?_
        refine lv_iload_n hx hb dL_law_134 rfl (lv_at hl 0 rfl) ?_
        refine lv_iconst (v := nI 2) hx hb dL_law_135 (by decide) ?_
        refine ni_add hx hb dL_law_136 ?_
        refine ni_sld hx hb hX hbl hbA hS (by omega) dL_law_137 (by omega) ?_
        refine st_cVi (ci := 0) (qc := (RX0, TX0, 13)) (As := [.int (xs (i + 1)), .int (xs (i + 2))]) (rest := []) (wc := (wX z d0 d1 (nI (tl)) (nI (pl)) ((fo)) ((lo)) ((fi)) ((se)) (tk) (bk) (wn) (wb) (fl) (fa) (rp))) (wr := (wM zm d0 (nI (tl)) (nI (pl)) (g))) 2 ⟨hx, hb, hml, hown, hts⟩ (mX_change l D z d0 d1 tl pl fo lo fi se tk bk wn wb fl fa rp htl hpl  (xs (i + 1)) (xs (i + 2))) (lw_V q78 q79 q80 q15 q81) (by decide +kernel) ⟨Nat.le_of_ble_eq_true rfl, Nat.le_of_ble_eq_true rfl⟩ rfl rfl ⟨Nat.le_refl _, Nat.le_refl _⟩ hK hP hD hS hA rfl rfl rfl hl.1 rfl (Nat.le_of_ble_eq_true rfl) dL_law_138 (fun r_138 u H locs hq_138 hP hD hS => ?_)
        have hP : va_P D vwCl ((wX z d0 d1 (nI (tl)) (nI (pl)) ((fo)) ((lo)) ((fi)) ((se)) (u.1) (u.2) (wn) (wb) (fl) (fa) (rp)) ++ (wM zm d0 (nI (tl)) (nI (pl)) (g))) H := hP
        have hD : va_D A ((wX z d0 d1 (nI (tl)) (nI (pl)) ((fo)) ((lo)) ((fi)) ((se)) (u.1) (u.2) (wn) (wb) (fl) (fa) (rp)) ++ (wM zm d0 (nI (tl)) (nI (pl)) (g))) := hD
        refine lv_aload_n hx hb dL_law_141 rfl (lv_at hl 3 rfl) ?_
        refine lv_aload_n hx hb dL_law_142 rfl (lv_at hl 1 rfl) ?_
        refine lv_iload_n hx hb dL_law_143 rfl (lv_at hl 0 rfl) ?_
        refine lv_iconst (v := nI 1) hx hb dL_law_144 (by decide) ?_
        refine ni_add hx hb dL_law_145 ?_
        refine ni_sld hx hb hX hbl hbA hS (by omega) dL_law_146 (by omega) ?_
        refine lv_aload_n hx hb dL_law_147 rfl (lv_at hl 1 rfl) ?_
        refine lv_iload_n hx hb dL_law_148 rfl (lv_at hl 0 rfl) ?_
        refine lv_iconst (v := nI 2) hx hb dL_law_149 (by decide) ?_
        refine ni_add hx hb dL_law_150 ?_
        refine ni_sld hx hb hX hbl hbA hS (by omega) dL_law_151 (by omega) ?_
        have hP := st_swapP hP
        have hD := st_swapD hD
        refine st_cVi (ci := 1) (qc := (RX1, TX1, 3)) (As := [.int (xs (i + 1)), .int (xs (i + 2))]) (rest := [.int r_138]) (wc := (wM zm d0 (nI (tl)) (nI (pl)) (g))) (wr := (wX z d0 d1 (nI (tl)) (nI (pl)) ((fo)) ((lo)) ((fi)) ((se)) (u.1) (u.2) (wn) (wb) (fl) (fa) (rp))) 2 ⟨hx, hb, hml, hown, hts⟩ (mM_change l D zm d0 d1 tl pl g htl hpl (xs (i + 1)) (xs (i + 2))) (lw_V q182 q183 q184 q16 q185) (by decide +kernel) ⟨Nat.le_of_ble_eq_true rfl, Nat.le_of_ble_eq_true rfl⟩ rfl rfl ⟨Nat.le_refl _, Nat.le_refl _⟩ hK hP hD hS hA rfl rfl rfl hl.1 rfl (Nat.le_of_ble_eq_true rfl) dL_law_152 (fun r_152 v H locs hq_152 hP hD hS => ?_)
        have hP : va_P D vwCl ((wM zm d0 (nI (tl)) (nI (pl)) (v)) ++ (wX z d0 d1 (nI (tl)) (nI (pl)) ((fo)) ((lo)) ((fi)) ((se)) (u.1) (u.2) (wn) (wb) (fl) (fa) (rp))) H := hP
        have hD : va_D A ((wM zm d0 (nI (tl)) (nI (pl)) (v)) ++ (wX z d0 d1 (nI (tl)) (nI (pl)) ((fo)) ((lo)) ((fi)) ((se)) (u.1) (u.2) (wn) (wb) (fl) (fa) (rp))) := hD
        have hP := st_swapP hP
        have hD := st_swapD hD
        obtain ⟨hr1, hLR2⟩ := ag_change hLR hq_138 hq_152
        refine lv_icmp_eq (tgt := 402) hx hb dL_law_155 (by decide) (fun _ => ?_) (fun h => absurd hr1 h)
        refine lv_iinc (v := nI (i + 3)) (lv' := [(3, .int (nI (i + 3))), (0, .ref b), (1, .ref (z 0)), (2, .ref (zm 0))]) hx hb dL_law_402 hl (k := 0) rfl (ni_inc3 _) (by decide) rfl (fun ls hl => ?_)
        refine lv_goto (tgt := 18) hx hb dL_law_405 (by decide) ?_
        exact ih (i + 3) tl pl (fo) (lo) (fi) (se) u.1 u.2 wn wb fl fa rp v (by omega) (by omega) hLR2 _ _ _ hP hD hS (lv_sub hl [0, 1, 2, 3] rfl)
      · refine lv_tableIn (off := 128) (tgt := 160) hx hb dL_law_32 (by decide) (by decide) (by decide +kernel) (by decide) ?_
        refine lv_aload_n hx hb dL_law_160 rfl (lv_at hl 2 rfl) ?_
        refine lv_aload_n hx hb dL_law_161 rfl (lv_at hl 1 rfl) ?_
        refine lv_iload_n hx hb dL_law_162 rfl (lv_at hl 0 rfl) ?_
        refine lv_iconst (v := nI 1) hx hb dL_law_163 (by decide) ?_
        refine ni_add hx hb dL_law_164 ?_
        refine ni_sld hx hb hX hbl hbA hS (by omega) dL_law_165 (by omega) ?_
        refine st_cVi (ci := 0) (qc := (RX0, TX0, 13)) (As := [.int (xs (i + 1))]) (rest := []) (wc := (wX z d0 d1 (nI (tl)) (nI (pl)) ((fo)) ((lo)) ((fi)) ((se)) (tk) (bk) (wn) (wb) (fl) (fa) (rp))) (wr := (wM zm d0 (nI (tl)) (nI (pl)) (g))) 1 ⟨hx, hb, hml, hown, hts⟩ (mX_pattern l D z d0 d1 tl pl fo lo fi se tk bk wn wb fl fa rp htl hpl hLR.2.2.2.1 (xs (i + 1))) (lw_V q82 q83 q84 q15 q85) (by decide +kernel) ⟨Nat.le_of_ble_eq_true rfl, Nat.le_of_ble_eq_true rfl⟩ rfl rfl ⟨Nat.le_refl _, Nat.le_refl _⟩ hK hP hD hS hA rfl rfl rfl hl.1 rfl (Nat.le_of_ble_eq_true rfl) dL_law_166 (fun r_166 u H locs hq_166 hP hD hS => ?_)
        have hP : va_P D vwCl ((wX z d0 d1 (nI (tl)) (nI (u.1)) ((fo)) ((lo)) ((fi)) ((se)) (tk) (bk) (u.2.1) (u.2.2.1) (u.2.2.2) (fa) (rp)) ++ (wM zm d0 (nI (tl)) (nI (pl)) (g))) H := hP
        have hD : va_D A ((wX z d0 d1 (nI (tl)) (nI (u.1)) ((fo)) ((lo)) ((fi)) ((se)) (tk) (bk) (u.2.1) (u.2.2.1) (u.2.2.2) (fa) (rp)) ++ (wM zm d0 (nI (tl)) (nI (pl)) (g))) := hD
        refine lv_aload_n hx hb dL_law_169 rfl (lv_at hl 3 rfl) ?_
        refine lv_aload_n hx hb dL_law_170 rfl (lv_at hl 1 rfl) ?_
        refine lv_iload_n hx hb dL_law_171 rfl (lv_at hl 0 rfl) ?_
        refine lv_iconst (v := nI 1) hx hb dL_law_172 (by decide) ?_
        refine ni_add hx hb dL_law_173 ?_
        refine ni_sld hx hb hX hbl hbA hS (by omega) dL_law_174 (by omega) ?_
        have hP := st_swapP hP
        have hD := st_swapD hD
        refine st_cVi (ci := 1) (qc := (RX1, TX1, 3)) (As := [.int (xs (i + 1))]) (rest := [.int r_166]) (wc := (wM zm d0 (nI (tl)) (nI (pl)) (g))) (wr := (wX z d0 d1 (nI (tl)) (nI (u.1)) ((fo)) ((lo)) ((fi)) ((se)) (tk) (bk) (u.2.1) (u.2.2.1) (u.2.2.2) (fa) (rp))) 1 ⟨hx, hb, hml, hown, hts⟩ (mM_pattern l D zm d0 d1 tl pl g htl hpl (xs (i + 1))) (lw_V q190 q191 q192 q16 q193) (by decide +kernel) ⟨Nat.le_of_ble_eq_true rfl, Nat.le_of_ble_eq_true rfl⟩ rfl rfl ⟨Nat.le_refl _, Nat.le_refl _⟩ hK hP hD hS hA rfl rfl rfl hl.1 rfl (Nat.le_of_ble_eq_true rfl) dL_law_175 (fun r_175 v H locs hq_175 hP hD hS => ?_)
        have hP : va_P D vwCl ((wM zm d0 (nI (tl)) (nI (v.1)) (v.2)) ++ (wX z d0 d1 (nI (tl)) (nI (u.1)) ((fo)) ((lo)) ((fi)) ((se)) (tk) (bk) (u.2.1) (u.2.2.1) (u.2.2.2) (fa) (rp))) H := hP
        have hD : va_D A ((wM zm d0 (nI (tl)) (nI (v.1)) (v.2)) ++ (wX z d0 d1 (nI (tl)) (nI (u.1)) ((fo)) ((lo)) ((fi)) ((se)) (tk) (bk) (u.2.1) (u.2.2.1) (u.2.2.2) (fa) (rp))) := hD
        have hP := st_swapP hP
        have hD := st_swapD hD
        obtain ⟨hr1, hr2, hLR2⟩ := ag_pattern hLR hq_166 hq_175
        rw [hr2] at hP hD
        refine lv_icmp_eq (tgt := 402) hx hb dL_law_178 (by decide) (fun _ => ?_) (fun h => absurd hr1 h)
        refine lv_iinc (v := nI (i + 3)) (lv' := [(3, .int (nI (i + 3))), (0, .ref b), (1, .ref (z 0)), (2, .ref (zm 0))]) hx hb dL_law_402 hl (k := 0) rfl (ni_inc3 _) (by decide) rfl (fun ls hl => ?_)
        refine lv_goto (tgt := 18) hx hb dL_law_405 (by decide) ?_
        exact ih (i + 3) tl u.1 (fo) (lo) (fi) (se) tk bk u.2.1 u.2.2.1 u.2.2.2 fa rp v.2 (by omega) (by omega) hLR2 _ _ _ hP hD hS (lv_sub hl [0, 1, 2, 3] rfl)
      · refine lv_tableIn (off := 151) (tgt := 183) hx hb dL_law_32 (by decide) (by decide) (by decide +kernel) (by decide) ?_
        refine lv_aload_n hx hb dL_law_183 rfl (lv_at hl 2 rfl) ?_
        refine lv_aload_n hx hb dL_law_184 rfl (lv_at hl 1 rfl) ?_
        refine lv_iload_n hx hb dL_law_185 rfl (lv_at hl 0 rfl) ?_
        refine lv_iconst (v := nI 1) hx hb dL_law_186 (by decide) ?_
        refine ni_add hx hb dL_law_187 ?_
        refine ni_sld hx hb hX hbl hbA hS (by omega) dL_law_188 (by omega) ?_
        refine lv_aload_n hx hb dL_law_189 rfl (lv_at hl 1 rfl) ?_
        refine lv_iload_n hx hb dL_law_190 rfl (lv_at hl 0 rfl) ?_
        refine lv_iconst (v := nI 2) hx hb dL_law_191 (by decide) ?_
        refine ni_add hx hb dL_law_192 ?_
        refine ni_sld hx hb hX hbl hbA hS (by omega) dL_law_193 (by omega) ?_
        refine st_cVi (ci := 0) (qc := (RX0, TX0, 13)) (As := [.int (xs (i + 1)), .int (xs (i + 2))]) (rest := []) (wc := (wX z d0 d1 (nI (tl)) (nI (pl)) ((fo)) ((lo)) ((fi)) ((se)) (tk) (bk) (wn) (wb) (fl) (fa) (rp))) (wr := (wM zm d0 (nI (tl)) (nI (pl)) (g))) 2 ⟨hx, hb, hml, hown, hts⟩ (mX_patternFrom l D z d0 d1 tl pl fo lo fi se tk bk wn wb fl fa rp htl hpl hLR.2.2.1 (xs (i + 1)) (xs (i + 2))) (lw_V q97 q98 q99 q15 q100) (by decide +kernel) ⟨Nat.le_of_ble_eq_true rfl, Nat.le_of_ble_eq_true rfl⟩ rfl rfl ⟨Nat.le_refl _, Nat.le_refl _⟩ hK hP hD hS hA rfl rfl rfl hl.1 rfl (Nat.le_of_ble_eq_true rfl) dL_law_194 (fun r_194 u H locs hq_194 hP hD hS => ?_)
        have hP : va_P D vwCl ((wX z d0 d1 (nI (tl)) (nI (u.1)) ((fo)) ((lo)) ((fi)) ((se)) (tk) (bk) (u.2.1) (u.2.2.1) (u.2.2.2) (fa) (rp)) ++ (wM zm d0 (nI (tl)) (nI (pl)) (g))) H := hP
        have hD : va_D A ((wX z d0 d1 (nI (tl)) (nI (u.1)) ((fo)) ((lo)) ((fi)) ((se)) (tk) (bk) (u.2.1) (u.2.2.1) (u.2.2.2) (fa) (rp)) ++ (wM zm d0 (nI (tl)) (nI (pl)) (g))) := hD
        refine lv_aload_n hx hb dL_law_197 rfl (lv_at hl 3 rfl) ?_
        refine lv_aload_n hx hb dL_law_198 rfl (lv_at hl 1 rfl) ?_
        refine lv_iload_n hx hb dL_law_199 rfl (lv_at hl 0 rfl) ?_
        refine lv_iconst (v := nI 1) hx hb dL_law_200 (by decide) ?_
        refine ni_add hx hb dL_law_201 ?_
        refine ni_sld hx hb hX hbl hbA hS (by omega) dL_law_202 (by omega) ?_
        refine lv_aload_n hx hb dL_law_203 rfl (lv_at hl 1 rfl) ?_
        refine lv_iload_n hx hb dL_law_204 rfl (lv_at hl 0 rfl) ?_
        refine lv_iconst (v := nI 2) hx hb dL_law_205 (by decide) ?_
        refine ni_add hx hb dL_law_206 ?_
        refine ni_sld hx hb hX hbl hbA hS (by omega) dL_law_207 (by omega) ?_
        have hP := st_swapP hP
        have hD := st_swapD hD
        refine st_cVi (ci := 1) (qc := (RX1, TX1, 3)) (As := [.int (xs (i + 1)), .int (xs (i + 2))]) (rest := [.int r_194]) (wc := (wM zm d0 (nI (tl)) (nI (pl)) (g))) (wr := (wX z d0 d1 (nI (tl)) (nI (u.1)) ((fo)) ((lo)) ((fi)) ((se)) (tk) (bk) (u.2.1) (u.2.2.1) (u.2.2.2) (fa) (rp))) 2 ⟨hx, hb, hml, hown, hts⟩ (mM_patternFrom l D zm d0 d1 tl pl g htl hpl (xs (i + 1)) (xs (i + 2))) (lw_V q194 q195 q196 q16 q197) (by decide +kernel) ⟨Nat.le_of_ble_eq_true rfl, Nat.le_of_ble_eq_true rfl⟩ rfl rfl ⟨Nat.le_refl _, Nat.le_refl _⟩ hK hP hD hS hA rfl rfl rfl hl.1 rfl (Nat.le_of_ble_eq_true rfl) dL_law_208 (fun r_208 v H locs hq_208 hP hD hS => ?_)
        have hP : va_P D vwCl ((wM zm d0 (nI (tl)) (nI (v.1)) (v.2)) ++ (wX z d0 d1 (nI (tl)) (nI (u.1)) ((fo)) ((lo)) ((fi)) ((se)) (tk) (bk) (u.2.1) (u.2.2.1) (u.2.2.2) (fa) (rp))) H := hP
        have hD : va_D A ((wM zm d0 (nI (tl)) (nI (v.1)) (v.2)) ++ (wX z d0 d1 (nI (tl)) (nI (u.1)) ((fo)) ((lo)) ((fi)) ((se)) (tk) (bk) (u.2.1) (u.2.2.1) (u.2.2.2) (fa) (rp))) := hD
        have hP := st_swapP hP
        have hD := st_swapD hD
        obtain ⟨hr1, hr2, hLR2⟩ := ag_patternFrom hLR hq_194 hq_208
        rw [hr2] at hP hD
        refine lv_icmp_eq (tgt := 402) hx hb dL_law_211 (by decide) (fun _ => ?_) (fun h => absurd hr1 h)
        refine lv_iinc (v := nI (i + 3)) (lv' := [(3, .int (nI (i + 3))), (0, .ref b), (1, .ref (z 0)), (2, .ref (zm 0))]) hx hb dL_law_402 hl (k := 0) rfl (ni_inc3 _) (by decide) rfl (fun ls hl => ?_)
        refine lv_goto (tgt := 18) hx hb dL_law_405 (by decide) ?_
        exact ih (i + 3) tl u.1 (fo) (lo) (fi) (se) tk bk u.2.1 u.2.2.1 u.2.2.2 fa rp v.2 (by omega) (by omega) hLR2 _ _ _ hP hD hS (lv_sub hl [0, 1, 2, 3] rfl)
      · refine lv_tableIn (off := 184) (tgt := 216) hx hb dL_law_32 (by decide) (by decide) (by decide +kernel) (by decide) ?_
        refine lv_aload_n hx hb dL_law_216 rfl (lv_at hl 2 rfl) ?_
        refine st_cVv (ci := 0) (qc := (RX0, TX0, 13)) (As := []) (rest := []) (wc := (wX z d0 d1 (nI (tl)) (nI (pl)) ((fo)) ((lo)) ((fi)) ((se)) (tk) (bk) (wn) (wb) (fl) (fa) (rp))) (wr := (wM zm d0 (nI (tl)) (nI (pl)) (g))) 0 ⟨hx, hb, hml, hown, hts⟩ (mX_clearPattern l D z d0 d1 tl pl fo lo fi se tk bk wn wb fl fa rp htl hpl  ) (lw_V q102 q103 q104 q15 q105) (by decide +kernel) ⟨Nat.le_of_ble_eq_true rfl, Nat.le_of_ble_eq_true rfl⟩ rfl rfl ⟨Nat.le_refl _, Nat.le_refl _⟩ hK hP hD hS hA rfl rfl rfl hl.1 rfl (Nat.le_of_ble_eq_true rfl) dL_law_217 (fun u H locs hq_217 hP hD hS => ?_)
        have hP : va_P D vwCl ((wX z d0 d1 (nI (tl)) (nI (0)) ((fo)) ((lo)) ((fi)) ((se)) (tk) (bk) (wn) (wb) (fl) (fa) (rp)) ++ (wM zm d0 (nI (tl)) (nI (pl)) (g))) H := hP
        have hD : va_D A ((wX z d0 d1 (nI (tl)) (nI (0)) ((fo)) ((lo)) ((fi)) ((se)) (tk) (bk) (wn) (wb) (fl) (fa) (rp)) ++ (wM zm d0 (nI (tl)) (nI (pl)) (g))) := hD
        refine lv_aload_n hx hb dL_law_220 rfl (lv_at hl 3 rfl) ?_
        have hP := st_swapP hP
        have hD := st_swapD hD
        refine st_cVv (ci := 1) (qc := (RX1, TX1, 3)) (As := []) (rest := []) (wc := (wM zm d0 (nI (tl)) (nI (pl)) (g))) (wr := (wX z d0 d1 (nI (tl)) (nI (0)) ((fo)) ((lo)) ((fi)) ((se)) (tk) (bk) (wn) (wb) (fl) (fa) (rp))) 0 ⟨hx, hb, hml, hown, hts⟩ (mM_clearPattern l D zm d0 d1 tl pl g htl hpl ) (lw_V q198 q199 q200 q16 q201) (by decide +kernel) ⟨Nat.le_of_ble_eq_true rfl, Nat.le_of_ble_eq_true rfl⟩ rfl rfl ⟨Nat.le_refl _, Nat.le_refl _⟩ hK hP hD hS hA rfl rfl rfl hl.1 rfl (Nat.le_of_ble_eq_true rfl) dL_law_221 (fun v H locs hq_221 hP hD hS => ?_)
        have hP : va_P D vwCl ((wM zm d0 (nI (tl)) (nI (0)) (g)) ++ (wX z d0 d1 (nI (tl)) (nI (0)) ((fo)) ((lo)) ((fi)) ((se)) (tk) (bk) (wn) (wb) (fl) (fa) (rp))) H := hP
        have hD : va_D A ((wM zm d0 (nI (tl)) (nI (0)) (g)) ++ (wX z d0 d1 (nI (tl)) (nI (0)) ((fo)) ((lo)) ((fi)) ((se)) (tk) (bk) (wn) (wb) (fl) (fa) (rp))) := hD
        have hP := st_swapP hP
        have hD := st_swapD hD
        refine lv_goto (tgt := 402) hx hb dL_law_224 (by decide) ?_
        refine lv_iinc (v := nI (i + 3)) (lv' := [(3, .int (nI (i + 3))), (0, .ref b), (1, .ref (z 0)), (2, .ref (zm 0))]) hx hb dL_law_402 hl (k := 0) rfl (ni_inc3 _) (by decide) rfl (fun ls hl => ?_)
        refine lv_goto (tgt := 18) hx hb dL_law_405 (by decide) ?_
        exact ih (i + 3) tl 0 (fo) (lo) (fi) (se) tk bk wn wb fl fa rp g (by omega) (by omega) (LR_cP hLR) _ _ _ hP hD hS (lv_sub hl [0, 1, 2, 3] rfl)
      · refine lv_tableIn (off := 195) (tgt := 227) hx hb dL_law_32 (by decide) (by decide) (by decide +kernel) (by decide) ?_
        refine lv_aload_n hx hb dL_law_227 rfl (lv_at hl 2 rfl) ?_
        refine st_cVv (ci := 0) (qc := (RX0, TX0, 13)) (As := []) (rest := []) (wc := (wX z d0 d1 (nI (tl)) (nI (pl)) ((fo)) ((lo)) ((fi)) ((se)) (tk) (bk) (wn) (wb) (fl) (fa) (rp))) (wr := (wM zm d0 (nI (tl)) (nI (pl)) (g))) 0 ⟨hx, hb, hml, hown, hts⟩ (mX_clearText l D z d0 d1 tl pl fo lo fi se tk bk wn wb fl fa rp htl hpl  ) (lw_V q106 q107 q108 q15 q109) (by decide +kernel) ⟨Nat.le_of_ble_eq_true rfl, Nat.le_of_ble_eq_true rfl⟩ rfl rfl ⟨Nat.le_refl _, Nat.le_refl _⟩ hK hP hD hS hA rfl rfl rfl hl.1 rfl (Nat.le_of_ble_eq_true rfl) dL_law_228 (fun u H locs hq_228 hP hD hS => ?_)
        have hP : va_P D vwCl ((wX z d0 d1 (nI (0)) (nI (pl)) ((fo)) ((lo)) ((fi)) ((se)) (tk) (bk) (wn) (wb) (fl) (fa) (rp)) ++ (wM zm d0 (nI (tl)) (nI (pl)) (g))) H := hP
        have hD : va_D A ((wX z d0 d1 (nI (0)) (nI (pl)) ((fo)) ((lo)) ((fi)) ((se)) (tk) (bk) (wn) (wb) (fl) (fa) (rp)) ++ (wM zm d0 (nI (tl)) (nI (pl)) (g))) := hD
        refine lv_aload_n hx hb dL_law_231 rfl (lv_at hl 3 rfl) ?_
        have hP := st_swapP hP
        have hD := st_swapD hD
        refine st_cVv (ci := 1) (qc := (RX1, TX1, 3)) (As := []) (rest := []) (wc := (wM zm d0 (nI (tl)) (nI (pl)) (g))) (wr := (wX z d0 d1 (nI (0)) (nI (pl)) ((fo)) ((lo)) ((fi)) ((se)) (tk) (bk) (wn) (wb) (fl) (fa) (rp))) 0 ⟨hx, hb, hml, hown, hts⟩ (mM_clearText l D zm d0 d1 tl pl g htl hpl ) (lw_V q202 q203 q204 q16 q205) (by decide +kernel) ⟨Nat.le_of_ble_eq_true rfl, Nat.le_of_ble_eq_true rfl⟩ rfl rfl ⟨Nat.le_refl _, Nat.le_refl _⟩ hK hP hD hS hA rfl rfl rfl hl.1 rfl (Nat.le_of_ble_eq_true rfl) dL_law_232 (fun v H locs hq_232 hP hD hS => ?_)
        have hP : va_P D vwCl ((wM zm d0 (nI (0)) (nI (pl)) (g)) ++ (wX z d0 d1 (nI (0)) (nI (pl)) ((fo)) ((lo)) ((fi)) ((se)) (tk) (bk) (wn) (wb) (fl) (fa) (rp))) H := hP
        have hD : va_D A ((wM zm d0 (nI (0)) (nI (pl)) (g)) ++ (wX z d0 d1 (nI (0)) (nI (pl)) ((fo)) ((lo)) ((fi)) ((se)) (tk) (bk) (wn) (wb) (fl) (fa) (rp))) := hD
        have hP := st_swapP hP
        have hD := st_swapD hD
        refine lv_goto (tgt := 402) hx hb dL_law_235 (by decide) ?_
        refine lv_iinc (v := nI (i + 3)) (lv' := [(3, .int (nI (i + 3))), (0, .ref b), (1, .ref (z 0)), (2, .ref (zm 0))]) hx hb dL_law_402 hl (k := 0) rfl (ni_inc3 _) (by decide) rfl (fun ls hl => ?_)
        refine lv_goto (tgt := 18) hx hb dL_law_405 (by decide) ?_
        exact ih (i + 3) 0 pl (fo) (lo) (fi) (se) tk bk wn wb fl fa rp g (by omega) (by omega) (LR_cT hLR) _ _ _ hP hD hS (lv_sub hl [0, 1, 2, 3] rfl)
      · refine lv_tableIn (off := 206) (tgt := 238) hx hb dL_law_32 (by decide) (by decide) (by decide +kernel) (by decide) ?_
        refine lv_aload_n hx hb dL_law_238 rfl (lv_at hl 2 rfl) ?_
        refine st_cVi (ci := 0) (qc := (RX0, TX0, 13)) (As := []) (rest := []) (wc := (wX z d0 d1 (nI (tl)) (nI (pl)) ((fo)) ((lo)) ((fi)) ((se)) (tk) (bk) (wn) (wb) (fl) (fa) (rp))) (wr := (wM zm d0 (nI (tl)) (nI (pl)) (g))) 0 ⟨hx, hb, hml, hown, hts⟩ (mX_matches l D z d0 d1 tl pl fo lo fi se tk bk wn wb fl fa rp htl hpl hLR.2.2.2.1 ) (lw_V q110 q111 q112 q15 q113) (by decide +kernel) ⟨Nat.le_of_ble_eq_true rfl, Nat.le_of_ble_eq_true rfl⟩ rfl rfl ⟨Nat.le_refl _, Nat.le_refl _⟩ hK hP hD hS hA rfl rfl rfl hl.1 rfl (Nat.le_of_ble_eq_true rfl) dL_law_239 (fun r_239 u H locs hq_239 hP hD hS => ?_)
        have hP : va_P D vwCl ((wX z d0 d1 (nI (tl)) (nI (pl)) (nI (u.1)) ((lo)) ((fi)) ((se)) (tk) (bk) (wn) (wb) (fl) (u.2) (rp)) ++ (wM zm d0 (nI (tl)) (nI (pl)) (g))) H := hP
        have hD : va_D A ((wX z d0 d1 (nI (tl)) (nI (pl)) (nI (u.1)) ((lo)) ((fi)) ((se)) (tk) (bk) (wn) (wb) (fl) (u.2) (rp)) ++ (wM zm d0 (nI (tl)) (nI (pl)) (g))) := hD
        refine lv_aload_n hx hb dL_law_242 rfl (lv_at hl 3 rfl) ?_
        have hP := st_swapP hP
        have hD := st_swapD hD
        refine st_cVi (ci := 1) (qc := (RX1, TX1, 3)) (As := []) (rest := [.int r_239]) (wc := (wM zm d0 (nI (tl)) (nI (pl)) (g))) (wr := (wX z d0 d1 (nI (tl)) (nI (pl)) (nI (u.1)) ((lo)) ((fi)) ((se)) (tk) (bk) (wn) (wb) (fl) (u.2) (rp))) 0 ⟨hx, hb, hml, hown, hts⟩ (mM_matches l D zm d0 d1 tl pl g htl hpl ) (lw_V q206 q207 q208 q16 q209) (by decide +kernel) ⟨Nat.le_of_ble_eq_true rfl, Nat.le_of_ble_eq_true rfl⟩ rfl rfl ⟨Nat.le_refl _, Nat.le_refl _⟩ hK hP hD hS hA rfl rfl rfl hl.1 rfl (Nat.le_of_ble_eq_true rfl) dL_law_243 (fun r_243 v H locs hq_243 hP hD hS => ?_)
        have hP : va_P D vwCl ((wM zm d0 (nI (tl)) (nI (pl)) (g)) ++ (wX z d0 d1 (nI (tl)) (nI (pl)) (nI (u.1)) ((lo)) ((fi)) ((se)) (tk) (bk) (wn) (wb) (fl) (u.2) (rp))) H := hP
        have hD : va_D A ((wM zm d0 (nI (tl)) (nI (pl)) (g)) ++ (wX z d0 d1 (nI (tl)) (nI (pl)) (nI (u.1)) ((lo)) ((fi)) ((se)) (tk) (bk) (wn) (wb) (fl) (u.2) (rp))) := hD
        have hP := st_swapP hP
        have hD := st_swapD hD
        refine lv_icmp_eq (tgt := 402) hx hb dL_law_246 (by decide) (fun _ => ?_) (fun h => absurd (ag_matches hLR hq_239 hq_243) h)
        refine lv_iinc (v := nI (i + 3)) (lv' := [(3, .int (nI (i + 3))), (0, .ref b), (1, .ref (z 0)), (2, .ref (zm 0))]) hx hb dL_law_402 hl (k := 0) rfl (ni_inc3 _) (by decide) rfl (fun ls hl => ?_)
        refine lv_goto (tgt := 18) hx hb dL_law_405 (by decide) ?_
        exact ih (i + 3) tl pl (nI (u.1)) (lo) (fi) (se) tk bk wn wb fl u.2 rp g (by omega) (by omega) hLR _ _ _ hP hD hS (lv_sub hl [0, 1, 2, 3] rfl)
      · refine lv_tableIn (off := 219) (tgt := 251) hx hb dL_law_32 (by decide) (by decide) (by decide +kernel) (by decide) ?_
        refine lv_aload_n hx hb dL_law_251 rfl (lv_at hl 2 rfl) ?_
        refine lv_aload_n hx hb dL_law_252 rfl (lv_at hl 1 rfl) ?_
        refine lv_iload_n hx hb dL_law_253 rfl (lv_at hl 0 rfl) ?_
        refine lv_iconst (v := nI 1) hx hb dL_law_254 (by decide) ?_
        refine ni_add hx hb dL_law_255 ?_
        refine ni_sld hx hb hX hbl hbA hS (by omega) dL_law_256 (by omega) ?_
        refine st_cVi (ci := 0) (qc := (RX0, TX0, 13)) (As := [.int (xs (i + 1))]) (rest := []) (wc := (wX z d0 d1 (nI (tl)) (nI (pl)) ((fo)) ((lo)) ((fi)) ((se)) (tk) (bk) (wn) (wb) (fl) (fa) (rp))) (wr := (wM zm d0 (nI (tl)) (nI (pl)) (g))) 1 ⟨hx, hb, hml, hown, hts⟩ (mX_matchAt l D z d0 d1 tl pl fo lo fi se tk bk wn wb fl fa rp htl hpl hLR.2.2.2.1 (xs (i + 1))) (lw_V q118 q119 q120 q15 q121) (by decide +kernel) ⟨Nat.le_of_ble_eq_true rfl, Nat.le_of_ble_eq_true rfl⟩ rfl rfl ⟨Nat.le_refl _, Nat.le_refl _⟩ hK hP hD hS hA rfl rfl rfl hl.1 rfl (Nat.le_of_ble_eq_true rfl) dL_law_257 (fun r_257 u H locs hq_257 hP hD hS => ?_)
        have hP : va_P D vwCl ((wX z d0 d1 (nI (tl)) (nI (pl)) (nI (u.1)) ((lo)) ((fi)) ((se)) (tk) (bk) (wn) (wb) (fl) (u.2) (rp)) ++ (wM zm d0 (nI (tl)) (nI (pl)) (g))) H := hP
        have hD : va_D A ((wX z d0 d1 (nI (tl)) (nI (pl)) (nI (u.1)) ((lo)) ((fi)) ((se)) (tk) (bk) (wn) (wb) (fl) (u.2) (rp)) ++ (wM zm d0 (nI (tl)) (nI (pl)) (g))) := hD
        refine lv_aload_n hx hb dL_law_260 rfl (lv_at hl 3 rfl) ?_
        refine lv_aload_n hx hb dL_law_261 rfl (lv_at hl 1 rfl) ?_
        refine lv_iload_n hx hb dL_law_262 rfl (lv_at hl 0 rfl) ?_
        refine lv_iconst (v := nI 1) hx hb dL_law_263 (by decide) ?_
        refine ni_add hx hb dL_law_264 ?_
        refine ni_sld hx hb hX hbl hbA hS (by omega) dL_law_265 (by omega) ?_
        have hP := st_swapP hP
        have hD := st_swapD hD
        refine st_cVi (ci := 1) (qc := (RX1, TX1, 3)) (As := [.int (xs (i + 1))]) (rest := [.int r_257]) (wc := (wM zm d0 (nI (tl)) (nI (pl)) (g))) (wr := (wX z d0 d1 (nI (tl)) (nI (pl)) (nI (u.1)) ((lo)) ((fi)) ((se)) (tk) (bk) (wn) (wb) (fl) (u.2) (rp))) 1 ⟨hx, hb, hml, hown, hts⟩ (mM_matchAt l D zm d0 d1 tl pl g htl hpl (xs (i + 1))) (lw_V q222 q223 q224 q16 q225) (by decide +kernel) ⟨Nat.le_of_ble_eq_true rfl, Nat.le_of_ble_eq_true rfl⟩ rfl rfl ⟨Nat.le_refl _, Nat.le_refl _⟩ hK hP hD hS hA rfl rfl rfl hl.1 rfl (Nat.le_of_ble_eq_true rfl) dL_law_266 (fun r_266 v H locs hq_266 hP hD hS => ?_)
        have hP : va_P D vwCl ((wM zm d0 (nI (tl)) (nI (pl)) (g)) ++ (wX z d0 d1 (nI (tl)) (nI (pl)) (nI (u.1)) ((lo)) ((fi)) ((se)) (tk) (bk) (wn) (wb) (fl) (u.2) (rp))) H := hP
        have hD : va_D A ((wM zm d0 (nI (tl)) (nI (pl)) (g)) ++ (wX z d0 d1 (nI (tl)) (nI (pl)) (nI (u.1)) ((lo)) ((fi)) ((se)) (tk) (bk) (wn) (wb) (fl) (u.2) (rp))) := hD
        have hP := st_swapP hP
        have hD := st_swapD hD
        refine lv_icmp_eq (tgt := 402) hx hb dL_law_269 (by decide) (fun _ => ?_) (fun h => absurd (ag_matchAt hLR hq_257 hq_266) h)
        refine lv_iinc (v := nI (i + 3)) (lv' := [(3, .int (nI (i + 3))), (0, .ref b), (1, .ref (z 0)), (2, .ref (zm 0))]) hx hb dL_law_402 hl (k := 0) rfl (ni_inc3 _) (by decide) rfl (fun ls hl => ?_)
        refine lv_goto (tgt := 18) hx hb dL_law_405 (by decide) ?_
        exact ih (i + 3) tl pl (nI (u.1)) (lo) (fi) (se) tk bk wn wb fl u.2 rp g (by omega) (by omega) hLR _ _ _ hP hD hS (lv_sub hl [0, 1, 2, 3] rfl)
      · refine lv_tableIn (off := 242) (tgt := 274) hx hb dL_law_32 (by decide) (by decide) (by decide +kernel) (by decide) ?_
        refine lv_aload_n hx hb dL_law_274 rfl (lv_at hl 2 rfl) ?_
        refine lv_aload_n hx hb dL_law_275 rfl (lv_at hl 1 rfl) ?_
        refine lv_iload_n hx hb dL_law_276 rfl (lv_at hl 0 rfl) ?_
        refine lv_iconst (v := nI 1) hx hb dL_law_277 (by decide) ?_
        refine ni_add hx hb dL_law_278 ?_
        refine ni_sld hx hb hX hbl hbA hS (by omega) dL_law_279 (by omega) ?_
        refine lv_aload_n hx hb dL_law_280 rfl (lv_at hl 1 rfl) ?_
        refine lv_iload_n hx hb dL_law_281 rfl (lv_at hl 0 rfl) ?_
        refine lv_iconst (v := nI 2) hx hb dL_law_282 (by decide) ?_
        refine ni_add hx hb dL_law_283 ?_
        refine ni_sld hx hb hX hbl hbA hS (by omega) dL_law_284 (by omega) ?_
        refine st_cVi (ci := 0) (qc := (RX0, TX0, 13)) (As := [.int (xs (i + 1)), .int (xs (i + 2))]) (rest := []) (wc := (wX z d0 d1 (nI (tl)) (nI (pl)) ((fo)) ((lo)) ((fi)) ((se)) (tk) (bk) (wn) (wb) (fl) (fa) (rp))) (wr := (wM zm d0 (nI (tl)) (nI (pl)) (g))) 2 ⟨hx, hb, hml, hown, hts⟩ (mX_renamed l D z d0 d1 tl pl fo lo fi se tk bk wn wb fl fa rp htl hpl hLR.2.2.2.1 (xs (i + 1)) (xs (i + 2))) (lw_V q122 q123 q124 q15 q125) (by decide +kernel) ⟨Nat.le_of_ble_eq_true rfl, Nat.le_of_ble_eq_true rfl⟩ rfl rfl ⟨Nat.le_refl _, Nat.le_refl _⟩ hK hP hD hS hA rfl rfl rfl hl.1 rfl (Nat.le_of_ble_eq_true rfl) dL_law_285 (fun r_285 u H locs hq_285 hP hD hS => ?_)
        have hP : va_P D vwCl ((wX z d0 d1 (nI (tl)) (nI (pl)) (nI (u.1)) ((lo)) ((fi)) ((se)) (tk) (bk) (wn) (wb) (fl) (u.2) (rp)) ++ (wM zm d0 (nI (tl)) (nI (pl)) (g))) H := hP
        have hD : va_D A ((wX z d0 d1 (nI (tl)) (nI (pl)) (nI (u.1)) ((lo)) ((fi)) ((se)) (tk) (bk) (wn) (wb) (fl) (u.2) (rp)) ++ (wM zm d0 (nI (tl)) (nI (pl)) (g))) := hD
        refine lv_aload_n hx hb dL_law_288 rfl (lv_at hl 3 rfl) ?_
        refine lv_aload_n hx hb dL_law_289 rfl (lv_at hl 1 rfl) ?_
        refine lv_iload_n hx hb dL_law_290 rfl (lv_at hl 0 rfl) ?_
        refine lv_iconst (v := nI 1) hx hb dL_law_291 (by decide) ?_
        refine ni_add hx hb dL_law_292 ?_
        refine ni_sld hx hb hX hbl hbA hS (by omega) dL_law_293 (by omega) ?_
        refine lv_aload_n hx hb dL_law_294 rfl (lv_at hl 1 rfl) ?_
        refine lv_iload_n hx hb dL_law_295 rfl (lv_at hl 0 rfl) ?_
        refine lv_iconst (v := nI 2) hx hb dL_law_296 (by decide) ?_
        refine ni_add hx hb dL_law_297 ?_
        refine ni_sld hx hb hX hbl hbA hS (by omega) dL_law_298 (by omega) ?_
        have hP := st_swapP hP
        have hD := st_swapD hD
        refine st_cVi (ci := 1) (qc := (RX1, TX1, 3)) (As := [.int (xs (i + 1)), .int (xs (i + 2))]) (rest := [.int r_285]) (wc := (wM zm d0 (nI (tl)) (nI (pl)) (g))) (wr := (wX z d0 d1 (nI (tl)) (nI (pl)) (nI (u.1)) ((lo)) ((fi)) ((se)) (tk) (bk) (wn) (wb) (fl) (u.2) (rp))) 2 ⟨hx, hb, hml, hown, hts⟩ (mM_renamed l D zm d0 d1 tl pl g htl hpl (xs (i + 1)) (xs (i + 2))) (lw_V q226 q227 q228 q16 q229) (by decide +kernel) ⟨Nat.le_of_ble_eq_true rfl, Nat.le_of_ble_eq_true rfl⟩ rfl rfl ⟨Nat.le_refl _, Nat.le_refl _⟩ hK hP hD hS hA rfl rfl rfl hl.1 rfl (Nat.le_of_ble_eq_true rfl) dL_law_299 (fun r_299 v H locs hq_299 hP hD hS => ?_)
        have hP : va_P D vwCl ((wM zm d0 (nI (tl)) (nI (pl)) (g)) ++ (wX z d0 d1 (nI (tl)) (nI (pl)) (nI (u.1)) ((lo)) ((fi)) ((se)) (tk) (bk) (wn) (wb) (fl) (u.2) (rp))) H := hP
        have hD : va_D A ((wM zm d0 (nI (tl)) (nI (pl)) (g)) ++ (wX z d0 d1 (nI (tl)) (nI (pl)) (nI (u.1)) ((lo)) ((fi)) ((se)) (tk) (bk) (wn) (wb) (fl) (u.2) (rp))) := hD
        have hP := st_swapP hP
        have hD := st_swapD hD
        refine lv_icmp_eq (tgt := 402) hx hb dL_law_302 (by decide) (fun _ => ?_) (fun h => absurd (ag_renamed hLR hq_285 hq_299) h)
        refine lv_iinc (v := nI (i + 3)) (lv' := [(3, .int (nI (i + 3))), (0, .ref b), (1, .ref (z 0)), (2, .ref (zm 0))]) hx hb dL_law_402 hl (k := 0) rfl (ni_inc3 _) (by decide) rfl (fun ls hl => ?_)
        refine lv_goto (tgt := 18) hx hb dL_law_405 (by decide) ?_
        exact ih (i + 3) tl pl (nI (u.1)) (lo) (fi) (se) tk bk wn wb fl u.2 rp g (by omega) (by omega) hLR _ _ _ hP hD hS (lv_sub hl [0, 1, 2, 3] rfl)
      · refine lv_tableIn (off := 275) (tgt := 307) hx hb dL_law_32 (by decide) (by decide) (by decide +kernel) (by decide) ?_
        refine lv_aload_n hx hb dL_law_307 rfl (lv_at hl 2 rfl) ?_
        refine st_cVi (ci := 0) (qc := (RX0, TX0, 13)) (As := []) (rest := []) (wc := (wX z d0 d1 (nI (tl)) (nI (pl)) ((fo)) ((lo)) ((fi)) ((se)) (tk) (bk) (wn) (wb) (fl) (fa) (rp))) (wr := (wM zm d0 (nI (tl)) (nI (pl)) (g))) 0 ⟨hx, hb, hml, hown, hts⟩ (mX_longestClone l D z d0 d1 tl pl fo lo fi se tk bk wn wb fl fa rp htl hpl  ) (lw_V q126 q127 q128 q15 q129) (by decide +kernel) ⟨Nat.le_of_ble_eq_true rfl, Nat.le_of_ble_eq_true rfl⟩ rfl rfl ⟨Nat.le_refl _, Nat.le_refl _⟩ hK hP hD hS hA rfl rfl rfl hl.1 rfl (Nat.le_of_ble_eq_true rfl) dL_law_308 (fun r_308 u H locs hq_308 hP hD hS => ?_)
        have hP : va_P D vwCl ((wX z d0 d1 (nI (tl)) (nI (pl)) ((fo)) (nI (u.1)) ((u.2.1)) ((u.2.2.1)) (tk) (bk) (wn) (wb) (fl) (fa) (u.2.2.2)) ++ (wM zm d0 (nI (tl)) (nI (pl)) (g))) H := hP
        have hD : va_D A ((wX z d0 d1 (nI (tl)) (nI (pl)) ((fo)) (nI (u.1)) ((u.2.1)) ((u.2.2.1)) (tk) (bk) (wn) (wb) (fl) (fa) (u.2.2.2)) ++ (wM zm d0 (nI (tl)) (nI (pl)) (g))) := hD
        refine lv_aload_n hx hb dL_law_311 rfl (lv_at hl 3 rfl) ?_
        have hP := st_swapP hP
        have hD := st_swapD hD
        refine st_cVi (ci := 1) (qc := (RX1, TX1, 3)) (As := []) (rest := [.int r_308]) (wc := (wM zm d0 (nI (tl)) (nI (pl)) (g))) (wr := (wX z d0 d1 (nI (tl)) (nI (pl)) ((fo)) (nI (u.1)) ((u.2.1)) ((u.2.2.1)) (tk) (bk) (wn) (wb) (fl) (fa) (u.2.2.2))) 0 ⟨hx, hb, hml, hown, hts⟩ (mM_longestClone l D zm d0 d1 tl pl g htl hpl ) (lw_V q231 q232 q233 q16 q234) (by decide +kernel) ⟨Nat.le_of_ble_eq_true rfl, Nat.le_of_ble_eq_true rfl⟩ rfl rfl ⟨Nat.le_refl _, Nat.le_refl _⟩ hK hP hD hS hA rfl rfl rfl hl.1 rfl (Nat.le_of_ble_eq_true rfl) dL_law_312 (fun r_312 v H locs hq_312 hP hD hS => ?_)
        have hP : va_P D vwCl ((wM zm d0 (nI (tl)) (nI (pl)) (g)) ++ (wX z d0 d1 (nI (tl)) (nI (pl)) ((fo)) (nI (u.1)) ((u.2.1)) ((u.2.2.1)) (tk) (bk) (wn) (wb) (fl) (fa) (u.2.2.2))) H := hP
        have hD : va_D A ((wM zm d0 (nI (tl)) (nI (pl)) (g)) ++ (wX z d0 d1 (nI (tl)) (nI (pl)) ((fo)) (nI (u.1)) ((u.2.1)) ((u.2.2.1)) (tk) (bk) (wn) (wb) (fl) (fa) (u.2.2.2))) := hD
        have hP := st_swapP hP
        have hD := st_swapD hD
        refine lv_icmp_eq (tgt := 402) hx hb dL_law_315 (by decide) (fun _ => ?_) (fun h => absurd (ag_longestClone hLR hq_308 hq_312) h)
        refine lv_iinc (v := nI (i + 3)) (lv' := [(3, .int (nI (i + 3))), (0, .ref b), (1, .ref (z 0)), (2, .ref (zm 0))]) hx hb dL_law_402 hl (k := 0) rfl (ni_inc3 _) (by decide) rfl (fun ls hl => ?_)
        refine lv_goto (tgt := 18) hx hb dL_law_405 (by decide) ?_
        exact ih (i + 3) tl pl (fo) (nI (u.1)) (u.2.1) (u.2.2.1) tk bk wn wb fl fa u.2.2.2 g (by omega) (by omega) hLR _ _ _ hP hD hS (lv_sub hl [0, 1, 2, 3] rfl)
      · refine lv_tableIn (off := 288) (tgt := 320) hx hb dL_law_32 (by decide) (by decide) (by decide +kernel) (by decide) ?_
        refine lv_aload_n hx hb dL_law_320 rfl (lv_at hl 2 rfl) ?_
        refine st_cVi (ci := 0) (qc := (RX0, TX0, 13)) (As := []) (rest := []) (wc := (wX z d0 d1 (nI (tl)) (nI (pl)) ((fo)) ((lo)) ((fi)) ((se)) (tk) (bk) (wn) (wb) (fl) (fa) (rp))) (wr := (wM zm d0 (nI (tl)) (nI (pl)) (g))) 0 ⟨hx, hb, hml, hown, hts⟩ (mX_cloneFirst l D z d0 d1 tl pl fo lo fi se tk bk wn wb fl fa rp htl hpl  ) (lw_V q142 q143 q144 q15 q145) (by decide +kernel) ⟨Nat.le_of_ble_eq_true rfl, Nat.le_of_ble_eq_true rfl⟩ rfl rfl ⟨Nat.le_refl _, Nat.le_refl _⟩ hK hP hD hS hA rfl rfl rfl hl.1 rfl (Nat.le_of_ble_eq_true rfl) dL_law_321 (fun r_321 u H locs hq_321 hP hD hS => ?_)
        have hP : va_P D vwCl ((wX z d0 d1 (nI (tl)) (nI (pl)) ((fo)) (nI (u.1)) ((u.2.1)) ((u.2.2.1)) (tk) (bk) (wn) (wb) (fl) (fa) (u.2.2.2)) ++ (wM zm d0 (nI (tl)) (nI (pl)) (g))) H := hP
        have hD : va_D A ((wX z d0 d1 (nI (tl)) (nI (pl)) ((fo)) (nI (u.1)) ((u.2.1)) ((u.2.2.1)) (tk) (bk) (wn) (wb) (fl) (fa) (u.2.2.2)) ++ (wM zm d0 (nI (tl)) (nI (pl)) (g))) := hD
        refine lv_aload_n hx hb dL_law_324 rfl (lv_at hl 3 rfl) ?_
        have hP := st_swapP hP
        have hD := st_swapD hD
        refine st_cVi (ci := 1) (qc := (RX1, TX1, 3)) (As := []) (rest := [.int r_321]) (wc := (wM zm d0 (nI (tl)) (nI (pl)) (g))) (wr := (wX z d0 d1 (nI (tl)) (nI (pl)) ((fo)) (nI (u.1)) ((u.2.1)) ((u.2.2.1)) (tk) (bk) (wn) (wb) (fl) (fa) (u.2.2.2))) 0 ⟨hx, hb, hml, hown, hts⟩ (mM_cloneFirst l D zm d0 d1 tl pl g htl hpl ) (lw_V q243 q244 q245 q16 q246) (by decide +kernel) ⟨Nat.le_of_ble_eq_true rfl, Nat.le_of_ble_eq_true rfl⟩ rfl rfl ⟨Nat.le_refl _, Nat.le_refl _⟩ hK hP hD hS hA rfl rfl rfl hl.1 rfl (Nat.le_of_ble_eq_true rfl) dL_law_325 (fun r_325 v H locs hq_325 hP hD hS => ?_)
        have hP : va_P D vwCl ((wM zm d0 (nI (tl)) (nI (pl)) (g)) ++ (wX z d0 d1 (nI (tl)) (nI (pl)) ((fo)) (nI (u.1)) ((u.2.1)) ((u.2.2.1)) (tk) (bk) (wn) (wb) (fl) (fa) (u.2.2.2))) H := hP
        have hD : va_D A ((wM zm d0 (nI (tl)) (nI (pl)) (g)) ++ (wX z d0 d1 (nI (tl)) (nI (pl)) ((fo)) (nI (u.1)) ((u.2.1)) ((u.2.2.1)) (tk) (bk) (wn) (wb) (fl) (fa) (u.2.2.2))) := hD
        have hP := st_swapP hP
        have hD := st_swapD hD
        refine lv_icmp_eq (tgt := 402) hx hb dL_law_328 (by decide) (fun _ => ?_) (fun h => absurd (ag_cloneFirst hLR hq_321 hq_325) h)
        refine lv_iinc (v := nI (i + 3)) (lv' := [(3, .int (nI (i + 3))), (0, .ref b), (1, .ref (z 0)), (2, .ref (zm 0))]) hx hb dL_law_402 hl (k := 0) rfl (ni_inc3 _) (by decide) rfl (fun ls hl => ?_)
        refine lv_goto (tgt := 18) hx hb dL_law_405 (by decide) ?_
        exact ih (i + 3) tl pl (fo) (nI (u.1)) (u.2.1) (u.2.2.1) tk bk wn wb fl fa u.2.2.2 g (by omega) (by omega) hLR _ _ _ hP hD hS (lv_sub hl [0, 1, 2, 3] rfl)
      · refine lv_tableIn (off := 301) (tgt := 333) hx hb dL_law_32 (by decide) (by decide) (by decide +kernel) (by decide) ?_
        refine lv_aload_n hx hb dL_law_333 rfl (lv_at hl 2 rfl) ?_
        refine st_cVi (ci := 0) (qc := (RX0, TX0, 13)) (As := []) (rest := []) (wc := (wX z d0 d1 (nI (tl)) (nI (pl)) ((fo)) ((lo)) ((fi)) ((se)) (tk) (bk) (wn) (wb) (fl) (fa) (rp))) (wr := (wM zm d0 (nI (tl)) (nI (pl)) (g))) 0 ⟨hx, hb, hml, hown, hts⟩ (mX_cloneSecond l D z d0 d1 tl pl fo lo fi se tk bk wn wb fl fa rp htl hpl  ) (lw_V q146 q147 q148 q15 q149) (by decide +kernel) ⟨Nat.le_of_ble_eq_true rfl, Nat.le_of_ble_eq_true rfl⟩ rfl rfl ⟨Nat.le_refl _, Nat.le_refl _⟩ hK hP hD hS hA rfl rfl rfl hl.1 rfl (Nat.le_of_ble_eq_true rfl) dL_law_334 (fun r_334 u H locs hq_334 hP hD hS => ?_)
        have hP : va_P D vwCl ((wX z d0 d1 (nI (tl)) (nI (pl)) ((fo)) (nI (u.1)) ((u.2.1)) ((u.2.2.1)) (tk) (bk) (wn) (wb) (fl) (fa) (u.2.2.2)) ++ (wM zm d0 (nI (tl)) (nI (pl)) (g))) H := hP
        have hD : va_D A ((wX z d0 d1 (nI (tl)) (nI (pl)) ((fo)) (nI (u.1)) ((u.2.1)) ((u.2.2.1)) (tk) (bk) (wn) (wb) (fl) (fa) (u.2.2.2)) ++ (wM zm d0 (nI (tl)) (nI (pl)) (g))) := hD
        refine lv_aload_n hx hb dL_law_337 rfl (lv_at hl 3 rfl) ?_
        have hP := st_swapP hP
        have hD := st_swapD hD
        refine st_cVi (ci := 1) (qc := (RX1, TX1, 3)) (As := []) (rest := [.int r_334]) (wc := (wM zm d0 (nI (tl)) (nI (pl)) (g))) (wr := (wX z d0 d1 (nI (tl)) (nI (pl)) ((fo)) (nI (u.1)) ((u.2.1)) ((u.2.2.1)) (tk) (bk) (wn) (wb) (fl) (fa) (u.2.2.2))) 0 ⟨hx, hb, hml, hown, hts⟩ (mM_cloneSecond l D zm d0 d1 tl pl g htl hpl ) (lw_V q248 q249 q250 q16 q251) (by decide +kernel) ⟨Nat.le_of_ble_eq_true rfl, Nat.le_of_ble_eq_true rfl⟩ rfl rfl ⟨Nat.le_refl _, Nat.le_refl _⟩ hK hP hD hS hA rfl rfl rfl hl.1 rfl (Nat.le_of_ble_eq_true rfl) dL_law_338 (fun r_338 v H locs hq_338 hP hD hS => ?_)
        have hP : va_P D vwCl ((wM zm d0 (nI (tl)) (nI (pl)) (g)) ++ (wX z d0 d1 (nI (tl)) (nI (pl)) ((fo)) (nI (u.1)) ((u.2.1)) ((u.2.2.1)) (tk) (bk) (wn) (wb) (fl) (fa) (u.2.2.2))) H := hP
        have hD : va_D A ((wM zm d0 (nI (tl)) (nI (pl)) (g)) ++ (wX z d0 d1 (nI (tl)) (nI (pl)) ((fo)) (nI (u.1)) ((u.2.1)) ((u.2.2.1)) (tk) (bk) (wn) (wb) (fl) (fa) (u.2.2.2))) := hD
        have hP := st_swapP hP
        have hD := st_swapD hD
        refine lv_icmp_eq (tgt := 402) hx hb dL_law_341 (by decide) (fun _ => ?_) (fun h => absurd (ag_cloneSecond hLR hq_334 hq_338) h)
        refine lv_iinc (v := nI (i + 3)) (lv' := [(3, .int (nI (i + 3))), (0, .ref b), (1, .ref (z 0)), (2, .ref (zm 0))]) hx hb dL_law_402 hl (k := 0) rfl (ni_inc3 _) (by decide) rfl (fun ls hl => ?_)
        refine lv_goto (tgt := 18) hx hb dL_law_405 (by decide) ?_
        exact ih (i + 3) tl pl (fo) (nI (u.1)) (u.2.1) (u.2.2.1) tk bk wn wb fl fa u.2.2.2 g (by omega) (by omega) hLR _ _ _ hP hD hS (lv_sub hl [0, 1, 2, 3] rfl)
      · refine lv_tableIn (off := 314) (tgt := 346) hx hb dL_law_32 (by decide) (by decide) (by decide +kernel) (by decide) ?_
        refine lv_aload_n hx hb dL_law_346 rfl (lv_at hl 2 rfl) ?_
        refine lv_aload_n hx hb dL_law_347 rfl (lv_at hl 1 rfl) ?_
        refine lv_iload_n hx hb dL_law_348 rfl (lv_at hl 0 rfl) ?_
        refine lv_iconst (v := nI 1) hx hb dL_law_349 (by decide) ?_
        refine ni_add hx hb dL_law_350 ?_
        refine ni_sld hx hb hX hbl hbA hS (by omega) dL_law_351 (by omega) ?_
        refine st_cVi (ci := 0) (qc := (RX0, TX0, 13)) (As := [.int (xs (i + 1))]) (rest := []) (wc := (wX z d0 d1 (nI (tl)) (nI (pl)) ((fo)) ((lo)) ((fi)) ((se)) (tk) (bk) (wn) (wb) (fl) (fa) (rp))) (wr := (wM zm d0 (nI (tl)) (nI (pl)) (g))) 1 ⟨hx, hb, hml, hown, hts⟩ (mX_kinds l D z d0 d1 tl pl fo lo fi se tk bk wn wb fl fa rp htl hpl  (xs (i + 1))) (lw_V q150 q151 q152 q15 q153) (by decide +kernel) ⟨Nat.le_of_ble_eq_true rfl, Nat.le_of_ble_eq_true rfl⟩ rfl rfl ⟨Nat.le_refl _, Nat.le_refl _⟩ hK hP hD hS hA rfl rfl rfl hl.1 rfl (Nat.le_of_ble_eq_true rfl) dL_law_352 (fun r_352 u H locs hq_352 hP hD hS => ?_)
        have hP : va_P D vwCl ((wX z d0 d1 (nI (tl)) (nI (pl)) ((fo)) ((u.1)) ((u.2.1)) ((u.2.2.1)) (tk) (bk) (wn) (wb) (fl) (fa) (u.2.2.2)) ++ (wM zm d0 (nI (tl)) (nI (pl)) (g))) H := hP
        have hD : va_D A ((wX z d0 d1 (nI (tl)) (nI (pl)) ((fo)) ((u.1)) ((u.2.1)) ((u.2.2.1)) (tk) (bk) (wn) (wb) (fl) (fa) (u.2.2.2)) ++ (wM zm d0 (nI (tl)) (nI (pl)) (g))) := hD
        refine lv_aload_n hx hb dL_law_355 rfl (lv_at hl 3 rfl) ?_
        refine lv_aload_n hx hb dL_law_356 rfl (lv_at hl 1 rfl) ?_
        refine lv_iload_n hx hb dL_law_357 rfl (lv_at hl 0 rfl) ?_
        refine lv_iconst (v := nI 1) hx hb dL_law_358 (by decide) ?_
        refine ni_add hx hb dL_law_359 ?_
        refine ni_sld hx hb hX hbl hbA hS (by omega) dL_law_360 (by omega) ?_
        have hP := st_swapP hP
        have hD := st_swapD hD
        refine st_cVi (ci := 1) (qc := (RX1, TX1, 3)) (As := [.int (xs (i + 1))]) (rest := [.int r_352]) (wc := (wM zm d0 (nI (tl)) (nI (pl)) (g))) (wr := (wX z d0 d1 (nI (tl)) (nI (pl)) ((fo)) ((u.1)) ((u.2.1)) ((u.2.2.1)) (tk) (bk) (wn) (wb) (fl) (fa) (u.2.2.2))) 1 ⟨hx, hb, hml, hown, hts⟩ (mM_kinds l D zm d0 d1 tl pl g htl hpl (xs (i + 1))) (lw_V q252 q253 q254 q16 q255) (by decide +kernel) ⟨Nat.le_of_ble_eq_true rfl, Nat.le_of_ble_eq_true rfl⟩ rfl rfl ⟨Nat.le_refl _, Nat.le_refl _⟩ hK hP hD hS hA rfl rfl rfl hl.1 rfl (Nat.le_of_ble_eq_true rfl) dL_law_361 (fun r_361 v H locs hq_361 hP hD hS => ?_)
        have hP : va_P D vwCl ((wM zm d0 (nI (tl)) (nI (pl)) (g)) ++ (wX z d0 d1 (nI (tl)) (nI (pl)) ((fo)) ((u.1)) ((u.2.1)) ((u.2.2.1)) (tk) (bk) (wn) (wb) (fl) (fa) (u.2.2.2))) H := hP
        have hD : va_D A ((wM zm d0 (nI (tl)) (nI (pl)) (g)) ++ (wX z d0 d1 (nI (tl)) (nI (pl)) ((fo)) ((u.1)) ((u.2.1)) ((u.2.2.1)) (tk) (bk) (wn) (wb) (fl) (fa) (u.2.2.2))) := hD
        have hP := st_swapP hP
        have hD := st_swapD hD
        refine lv_icmp_eq (tgt := 402) hx hb dL_law_364 (by decide) (fun _ => ?_) (fun h => absurd (ag_kinds hLR hq_352 hq_361) h)
        refine lv_iinc (v := nI (i + 3)) (lv' := [(3, .int (nI (i + 3))), (0, .ref b), (1, .ref (z 0)), (2, .ref (zm 0))]) hx hb dL_law_402 hl (k := 0) rfl (ni_inc3 _) (by decide) rfl (fun ls hl => ?_)
        refine lv_goto (tgt := 18) hx hb dL_law_405 (by decide) ?_
        exact ih (i + 3) tl pl (fo) (u.1) (u.2.1) (u.2.2.1) tk bk wn wb fl fa u.2.2.2 g (by omega) (by omega) hLR _ _ _ hP hD hS (lv_sub hl [0, 1, 2, 3] rfl)
      · refine lv_tableIn (off := 337) (tgt := 369) hx hb dL_law_32 (by decide) (by decide) (by decide +kernel) (by decide) ?_
        refine lv_aload_n hx hb dL_law_369 rfl (lv_at hl 2 rfl) ?_
        refine lv_aload_n hx hb dL_law_370 rfl (lv_at hl 1 rfl) ?_
        refine lv_iload_n hx hb dL_law_371 rfl (lv_at hl 0 rfl) ?_
        refine lv_iconst (v := nI 1) hx hb dL_law_372 (by decide) ?_
        refine ni_add hx hb dL_law_373 ?_
        refine ni_sld hx hb hX hbl hbA hS (by omega) dL_law_374 (by omega) ?_
        refine lv_aload_n hx hb dL_law_375 rfl (lv_at hl 1 rfl) ?_
        refine lv_iload_n hx hb dL_law_376 rfl (lv_at hl 0 rfl) ?_
        refine lv_iconst (v := nI 2) hx hb dL_law_377 (by decide) ?_
        refine ni_add hx hb dL_law_378 ?_
        refine ni_sld hx hb hX hbl hbA hS (by omega) dL_law_379 (by omega) ?_
        refine st_cVi (ci := 0) (qc := (RX0, TX0, 13)) (As := [.int (xs (i + 1)), .int (xs (i + 2))]) (rest := []) (wc := (wX z d0 d1 (nI (tl)) (nI (pl)) ((fo)) ((lo)) ((fi)) ((se)) (tk) (bk) (wn) (wb) (fl) (fa) (rp))) (wr := (wM zm d0 (nI (tl)) (nI (pl)) (g))) 2 ⟨hx, hb, hml, hown, hts⟩ (mX_reach l D z d0 d1 tl pl fo lo fi se tk bk wn wb fl fa rp htl hpl  (xs (i + 1)) (xs (i + 2))) (lw_V q154 q155 q156 q15 q157) (by decide +kernel) ⟨Nat.le_of_ble_eq_true rfl, Nat.le_of_ble_eq_true rfl⟩ rfl rfl ⟨Nat.le_refl _, Nat.le_refl _⟩ hK hP hD hS hA rfl rfl rfl hl.1 rfl (Nat.le_of_ble_eq_true rfl) dL_law_380 (fun r_380 u H locs hq_380 hP hD hS => ?_)
        have hP : va_P D vwCl ((wX z d0 d1 (nI (tl)) (nI (pl)) ((fo)) ((lo)) ((fi)) ((se)) (tk) (bk) (wn) (wb) (fl) (fa) (rp)) ++ (wM zm d0 (nI (tl)) (nI (pl)) (g))) H := hP
        have hD : va_D A ((wX z d0 d1 (nI (tl)) (nI (pl)) ((fo)) ((lo)) ((fi)) ((se)) (tk) (bk) (wn) (wb) (fl) (fa) (rp)) ++ (wM zm d0 (nI (tl)) (nI (pl)) (g))) := hD
        refine lv_aload_n hx hb dL_law_383 rfl (lv_at hl 3 rfl) ?_
        refine lv_aload_n hx hb dL_law_384 rfl (lv_at hl 1 rfl) ?_
        refine lv_iload_n hx hb dL_law_385 rfl (lv_at hl 0 rfl) ?_
        refine lv_iconst (v := nI 1) hx hb dL_law_386 (by decide) ?_
        refine ni_add hx hb dL_law_387 ?_
        refine ni_sld hx hb hX hbl hbA hS (by omega) dL_law_388 (by omega) ?_
        refine lv_aload_n hx hb dL_law_389 rfl (lv_at hl 1 rfl) ?_
        refine lv_iload_n hx hb dL_law_390 rfl (lv_at hl 0 rfl) ?_
        refine lv_iconst (v := nI 2) hx hb dL_law_391 (by decide) ?_
        refine ni_add hx hb dL_law_392 ?_
        refine ni_sld hx hb hX hbl hbA hS (by omega) dL_law_393 (by omega) ?_
        have hP := st_swapP hP
        have hD := st_swapD hD
        refine st_cVi (ci := 1) (qc := (RX1, TX1, 3)) (As := [.int (xs (i + 1)), .int (xs (i + 2))]) (rest := [.int r_380]) (wc := (wM zm d0 (nI (tl)) (nI (pl)) (g))) (wr := (wX z d0 d1 (nI (tl)) (nI (pl)) ((fo)) ((lo)) ((fi)) ((se)) (tk) (bk) (wn) (wb) (fl) (fa) (rp))) 2 ⟨hx, hb, hml, hown, hts⟩ (mM_reach l D zm d0 d1 tl pl g htl hpl (xs (i + 1)) (xs (i + 2))) (lw_V q256 q257 q258 q16 q259) (by decide +kernel) ⟨Nat.le_of_ble_eq_true rfl, Nat.le_of_ble_eq_true rfl⟩ rfl rfl ⟨Nat.le_refl _, Nat.le_refl _⟩ hK hP hD hS hA rfl rfl rfl hl.1 rfl (Nat.le_of_ble_eq_true rfl) dL_law_394 (fun r_394 v H locs hq_394 hP hD hS => ?_)
        have hP : va_P D vwCl ((wM zm d0 (nI (tl)) (nI (pl)) (g)) ++ (wX z d0 d1 (nI (tl)) (nI (pl)) ((fo)) ((lo)) ((fi)) ((se)) (tk) (bk) (wn) (wb) (fl) (fa) (rp))) H := hP
        have hD : va_D A ((wM zm d0 (nI (tl)) (nI (pl)) (g)) ++ (wX z d0 d1 (nI (tl)) (nI (pl)) ((fo)) ((lo)) ((fi)) ((se)) (tk) (bk) (wn) (wb) (fl) (fa) (rp))) := hD
        have hP := st_swapP hP
        have hD := st_swapD hD
        refine lv_icmp_eq (tgt := 402) hx hb dL_law_397 (by decide) (fun _ => ?_) (fun h => absurd (ag_reach hLR hq_380 hq_394) h)
        refine lv_iinc (v := nI (i + 3)) (lv' := [(3, .int (nI (i + 3))), (0, .ref b), (1, .ref (z 0)), (2, .ref (zm 0))]) hx hb dL_law_402 hl (k := 0) rfl (ni_inc3 _) (by decide) rfl (fun ls hl => ?_)
        refine lv_goto (tgt := 18) hx hb dL_law_405 (by decide) ?_
        exact ih (i + 3) tl pl (fo) (lo) (fi) (se) tk bk wn wb fl fa rp g (by omega) (by omega) hLR _ _ _ hP hD hS (lv_sub hl [0, 1, 2, 3] rfl)
      · refine lv_tableOut (tgt := 402) hx hb dL_law_32 (by decide) (by decide) ?_
        refine lv_iinc (v := nI (i + 3)) (lv' := [(3, .int (nI (i + 3))), (0, .ref b), (1, .ref (z 0)), (2, .ref (zm 0))]) hx hb dL_law_402 hl (k := 0) rfl (ni_inc3 _) (by decide) rfl (fun ls hl => ?_)
        refine lv_goto (tgt := 18) hx hb dL_law_405 (by decide) ?_
        exact ih (i + 3) tl pl (fo) (lo) (fi) (se) tk bk wn wb fl fa rp g (by omega) (by omega) hLR _ _ _ hP hD hS (lv_sub hl [0, 1, 2, 3] rfl)
      · refine lv_tableOut (tgt := 402) hx hb dL_law_32 (by decide) (by decide) ?_
        refine lv_iinc (v := nI (i + 3)) (lv' := [(3, .int (nI (i + 3))), (0, .ref b), (1, .ref (z 0)), (2, .ref (zm 0))]) hx hb dL_law_402 hl (k := 0) rfl (ni_inc3 _) (by decide) rfl (fun ls hl => ?_)
        refine lv_goto (tgt := 18) hx hb dL_law_405 (by decide) ?_
        exact ih (i + 3) tl pl (fo) (lo) (fi) (se) tk bk wn wb fl fa rp g (by omega) (by omega) hLR _ _ _ hP hD hS (lv_sub hl [0, 1, 2, 3] rfl)
end
section
set_option maxRecDepth 100000
set_option maxHeartbeats 4000000 in
/-- YOUR PART: from the entry, for every script of at most 192 ints, the law comes to its end with true -/
theorem whole_start {p : Program} {e : Env} {s : State} {m : MethodId} {below : List Frame} {meth : Method} {c : Code} (l : Launch) {b L : Nat} {xs : Nat → Int32} (hL : L ≤ 192) (C0 : lw_At p s m meth c b L xs) : W p l e room_1 s m #[Value.ref b] below meth c s.heap [] 0 0 (lw_Z below #[Value.ref b] s) (entryFrame m ([Value.ref b] : List Value).toArray 4) := by
  obtain ⟨hx, hb, hr, hml, hown, hts0, hX, hbl, hlocks, hgv⟩ := C0
  have hts : ∀ w ∈ lw_all, w.before #[Value.ref b] s = true := fun w h => hts0 w (lw_all_tbl h)
  obtain ⟨c0_, iS0, hKn0⟩ := u_known (C := RX0) (T := TX0) (N := 13) (n := 13) hts in_X0 (hts _ q18)
  obtain ⟨c1_, iS1, hKn1⟩ := u_known (C := RX1) (T := TX1) (N := 3) (n := 3) hts in_X1 (hts _ q159)
  obtain ⟨D, hDd⟩ : ∃ D : va_G, D = (fun k => if k = 0 then c0_ else c1_, fun k => if k = 0 then iS0 else iS1) := ⟨_, rfl⟩
  have hK : va_K D vwCl [] s := by
    subst hDd
    refine ⟨fun k q hq => ?_, fun k q h => absurd h (by simp)⟩
    match k, hq with
    | 0, hq => cases hq; exact hKn0
    | 1, hq => cases hq; exact hKn1
    | k + 2, hq => simp [vwCl] at hq
  obtain ⟨A, hAd⟩ : ∃ A : Nat → Prop, A = fun q => s.heap.size ≤ q := ⟨_, rfl⟩
  have hA : ∀ q : Nat, s.heap.size ≤ q → A q := fun q h => by rw [hAd]; exact h
  have hA2 : ∀ q : Nat, A q → s.heap.size ≤ q := fun q h => by rw [hAd] at h; exact h
  have hbA : ¬ A b := fun h => absurd (hA2 b h) (by omega)
  have hP : va_P D vwCl [] s.heap := fun k q h => absurd h (by simp)
  have hD : va_D A [] := ⟨fun i j p q h => absurd h (by simp), fun k q h => absurd h (by simp)⟩
  have hS : va_S A s.heap s.heap [] := va_S.rf
  have hl := lv_entry ([.ref b]) (n := 4) (Nat.le_of_ble_eq_true rfl)
  rw [lg_entry_eq]
  generalize (lg_sl ([.ref b]) ++ List.replicate (4 - (lg_sl ([.ref b])).length) Slot.unset).toArray = ls at hl ⊢
  have hl : lv_has ls 4 [(0, .ref b)] := hl
  refine va_new (ci := 0) (fs := [.int 0, .null, .null, .int 0, .null, .null, .null, .int 0, .null, .int 0, .int 0, .int 0, .null]) (C := RX0) (T := TX0) (N := 13) hx hb hts in_X0 tyX0 tyX0_ok hown (hts _ q17) (hts _ q18) (hts _ q15) hK hP hD hS hA rfl (fun j hj => by rcases (show j = 0 ∨ j = 1 ∨ j = 2 ∨ j = 3 ∨ j = 4 ∨ j = 5 ∨ j = 6 ∨ j = 7 ∨ j = 8 ∨ j = 9 ∨ j = 10 ∨ j = 11 ∨ j = 12 by omega) with rfl | rfl | rfl | rfl | rfl | rfl | rfl | rfl | rfl | rfl | rfl | rfl | rfl <;> rfl) (Nat.le_of_ble_eq_true rfl) (Nat.le_of_ble_eq_true rfl) dL_law_0 (fun qx H hP hD hS => ?_)
  have hP : va_P D vwCl ([(qx, .inr (0, [.int 0, .null, .null, .int 0, .null, .null, .null, .int 0, .null, .int 0, .int 0, .int 0, .null]))] ++ []) H := hP
  have hD : va_D A ([(qx, .inr (0, [.int 0, .null, .null, .int 0, .null, .null, .null, .int 0, .null, .int 0, .int 0, .int 0, .null]))] ++ []) := hD
  refine lv_dup hx hb dL_law_3 rfl ?_
  refine st_cI (mc := 7) (ms := 228) (As := []) (rest := [.ref qx]) (wr := []) 0 ⟨hx, hb, hml, hown, hts⟩ (mX_init l D qx H.size) q21 q15 q19 q20 rfl (by decide +kernel) ⟨Nat.le_of_ble_eq_true rfl, Nat.le_of_ble_eq_true rfl⟩ rfl rfl ⟨Nat.le_of_ble_eq_true rfl, Nat.le_of_ble_eq_true rfl⟩ hK hP hD hS hA rfl hl.1 rfl (Nat.le_of_ble_eq_true rfl) dL_law_4 (fun u H locs hq hKx hP2 hD2 hS => ?_)
  obtain ⟨z, d0, d1⟩ := u
  have hq : z 0 = qx := hq
  subst hq
  have hKx : va_K D vwCl (tyA d0 d1) s := hKx
  have hP : va_P D vwCl (wX z d0 d1 (nI 0) (nI 0) 0 0 0 0 (fun _ => nI 0) (fun _ => nI 0) (fun _ => nI 0) (fun _ => nI 0) (fun _ => nI 0) (fun _ => nI 0) (fun _ => nI 0)) H := hP2
  have hD : va_D A (wX z d0 d1 (nI 0) (nI 0) 0 0 0 0 (fun _ => nI 0) (fun _ => nI 0) (fun _ => nI 0) (fun _ => nI 0) (fun _ => nI 0) (fun _ => nI 0) (fun _ => nI 0)) := hD2
  refine lv_astore_n (lv' := [(1, .ref (z 0)), (0, .ref b)]) hx hb dL_law_7 rfl hl (by decide) rfl (fun ls hl => ?_)
  refine va_new (ci := 1) (fs := [.null, .int 0, .int 0]) (C := RX1) (T := TX1) (N := 3) hx hb hts in_X1 tyX1 tyX1_ok hown (hts _ q158) (hts _ q159) (hts _ q16) hKx hP hD hS hA rfl (fun j hj => by rcases (show j = 0 ∨ j = 1 ∨ j = 2 by omega) with rfl | rfl | rfl <;> rfl) (Nat.le_of_ble_eq_true rfl) (Nat.le_of_ble_eq_true rfl) dL_law_8 (fun qm H hP hD hS => ?_)
  have hP := st_swapP hP
  have hD := st_swapD hD
  refine lv_dup hx hb dL_law_11 rfl ?_
  refine st_cI (mc := 1) (ms := 60) (As := []) (rest := [.ref qm]) (wc := [(qm, .inr (1, [.null, .int 0, .int 0]))]) (wr := wX z d0 d1 (nI 0) (nI 0) 0 0 0 0 (fun _ => nI 0) (fun _ => nI 0) (fun _ => nI 0) (fun _ => nI 0) (fun _ => nI 0) (fun _ => nI 0) (fun _ => nI 0)) 0 ⟨hx, hb, hml, hown, hts⟩ (mM_init l D qm H.size) q162 q16 q160 q161 rfl (by decide +kernel) ⟨Nat.le_of_ble_eq_true rfl, Nat.le_of_ble_eq_true rfl⟩ rfl rfl ⟨Nat.le_of_ble_eq_true rfl, Nat.le_of_ble_eq_true rfl⟩ hKx hP hD hS hA rfl hl.1 rfl (Nat.le_of_ble_eq_true rfl) dL_law_12 (fun u H locs hq hKm hP2 hD2 hS => ?_)
  obtain ⟨zm, d2, d3⟩ := u
  have hq : zm 0 = qm := hq
  subst hq
  have f0 : s.vm.findClass ("[" ++ FieldType.int.toString) = some d0 := (hKx.2 0 _ rfl).2
  have f2 : s.vm.findClass ("[" ++ FieldType.int.toString) = some d2 := (hKm.2 0 _ rfl).2
  have e2 : d0 = d2 := Option.some.inj (f0.symm.trans f2)
  subst e2
  have hP : va_P D vwCl (wM zm d0 (nI 0) (nI 0) (fun _ => nI 0) ++ wX z d0 d1 (nI 0) (nI 0) 0 0 0 0 (fun _ => nI 0) (fun _ => nI 0) (fun _ => nI 0) (fun _ => nI 0) (fun _ => nI 0) (fun _ => nI 0) (fun _ => nI 0)) H := hP2
  have hD : va_D A (wM zm d0 (nI 0) (nI 0) (fun _ => nI 0) ++ wX z d0 d1 (nI 0) (nI 0) 0 0 0 0 (fun _ => nI 0) (fun _ => nI 0) (fun _ => nI 0) (fun _ => nI 0) (fun _ => nI 0) (fun _ => nI 0) (fun _ => nI 0)) := hD2
  have hP := st_swapP hP
  have hD := st_swapD hD
  refine lv_astore_n (lv' := [(2, .ref (zm 0)), (1, .ref (z 0)), (0, .ref b)]) hx hb dL_law_15 rfl hl (by decide) rfl (fun ls hl => ?_)
  refine lv_iconst (v := nI 0) hx hb dL_law_16 (by decide) ?_
  refine lv_istore_n (lv' := [(3, .int (nI 0)), (2, .ref (zm 0)), (1, .ref (z 0)), (0, .ref b)]) hx hb dL_law_17 rfl hl (by decide) rfl (fun ls hl => ?_)
  refine W.widen (k := 600000) (n := 7290000) (Nat.le_of_ble_eq_true rfl) (Nat.le_of_ble_eq_true rfl) ?_
  exact law_loop z zm d0 d1 hL hx hb hr hml hown hts hX hbl hlocks hA hA2 hbA hKx (L + 1) 0 0 0 _ _ _ _ _ _ _ _ _ _ _ _ (by omega) (by omega) LR_0 _ _ _ hP hD hS (lv_sub hl [0, 3, 2, 1] rfl)
set_option maxHeartbeats 4000000 in
theorem lw_walk (l : Launch) (b : Addr) (xs : List Int32) : MetFree l x (headSpec (Jvm.Cond.code x code maxLocals ret :: tables_1) room_1) (lw_P b xs) (fun _ _ _ _ _ => True) lw_Q := by
  refine MetFree.of_bodyS (code := code) (maxLocals := maxLocals) (ret := ret) (by decide) ?_ ?_
  · intro args s m h hn
    obtain ⟨meth, c, h1, h2, h3, h4, h5, h6, -, -⟩ := Cond.code_spec hn (atoms_spec (ws := Jvm.Cond.code x code maxLocals ret :: tables_1) h _ List.mem_cons_self)
    exact ⟨meth, c, h1, h2, h3, h4, h5, h6⟩
  · intro p e s m args below meth c s₁ B hml0 hP _
    obtain ⟨rfl, hx, hbd, hgv⟩ := hP
    obtain ⟨scr, harrAt, hlist, hof, hsmall⟩ := hx
    obtain ⟨hcb, hkn, -, -⟩ := State.arrayAt?_spec harrAt
    have hown : s.vm.findClass R_law = some m.cls := findClass_of_methodNamed B.named
    have hts0 : ∀ c ∈ (Jvm.Cond.code x code maxLocals ret :: tables_1), c.before #[Value.ref b] s = true := atoms_spec (ws := Jvm.Cond.code x code maxLocals ret :: tables_1) B.pre
    have hts : ∀ w ∈ lw_tbl, w.before #[Value.ref b] s = true := k2_hts_sels lw_privs (fun w hw => hts0 w (List.mem_cons_of_mem _ hw)) lw_privs_ok
    have hml : c.maxLocals = 4 := B.maxLocals_eq (hts0 _ List.mem_cons_self)
    have X₀ : Stand p l e room_1 s m #[Value.ref b] below meth c s₁ [] 0 0 := Stand.of_body B
    have hh0 : s₁.heap = s.heap := by rw [B.state]; rfl
    have hsz : scr.slots.size = xs.length := by rw [← Array.length_toList, hlist, List.length_map]
    have hval : ∀ j : Nat, j < xs.length → scr.slots[j]? = some (.int (xs.getD j 0)) := fun j hj => by
      rw [← Array.getElem?_toList, hlist]
      simp [hj]
    have hbl : b < s.heap.size := (Array.getElem?_eq_some_iff.mp hcb).1
    have hX : va_X b xs.length (fun j => xs.getD j 0) s s.heap := ⟨scr, hcb, hof, hkn, hsz, hval⟩
    have K : W p l e room_1 s m #[Value.ref b] below meth c s₁.heap [] 0 0 (lw_Z below #[Value.ref b] s) (entryFrame m ([Value.ref b] : List Value).toArray 4) := by
      rw [hh0]
      exact whole_start l hbd ⟨B.exec, B.bytes, B.returns, hml, hown, hts, hX, hbl, B.notSynchronized, hgv⟩
    obtain ⟨t, a1, o, b1, b2, b3⟩ := K s₁ rfl X₀
    exact ⟨t, o, a1, b1, b2, b3⟩
theorem lw_pre_spec {args : Array Value} {s : State} (h : (Jvm.Cond.and given_1 narrow_1).before args s = true) (hr : rest_1_c.before args s = true) : ∃ (b : Addr) (xs : List Int32), lw_P b xs args s := by
  have hs := flat_of_before _ h
  have hq := flat_of_before _ hr
  have hc : (Cond.count 1).before args s = true := hs _ (by decide +kernel)
  have harr : (Cond.arrayOf (.arg 0) .int).before args s = true := hs _ (by decide +kernel)
  have hle : (Cond.le (.length (.arg 0)) (.int 192)).before args s = true := hs _ (by decide +kernel)
  have hlen : (Cond.isInt (.length (.arg 0))).before args s = true := hq _ (by decide +kernel)
  have hall : (Cond.all (.arg 0) (.isInt (.elem (.arg 0) (.index 0)))).before args s = true := hq _ (by decide +kernel)
  obtain ⟨b, xs, hb, hx⟩ := State.ints_of_pre rfl harr hlen hall
  have hsm : xs.length < 2 ^ 31 := hx.choose_spec.2.2.2
  have hev : (Term.length (.arg 0)).eval args s none [] s = some (.int xs.length.toInt32) := hx.length_eval hb
  have hv := Cond.le_ints hev (show (Term.int 192).eval args s none [] s = some (.int 192) from rfl)
  have hd : xs.length.toInt32 ≤ 192 := by
    simpa [Cond.before, Cond.holds, hv] using hle
  have hN : xs.length ≤ 192 := (Int32.ofNat_le_ofNat hsm (by decide)).mp (show Int32.ofNat xs.length ≤ Int32.ofNat 192 from hd)
  exact ⟨b, xs, Cond.one_arg hc (show args[0]? = some (.ref b) from hb), hx, hN, h⟩
theorem lw_comes (l : Launch) : Comes l x (Jvm.Cond.code x code maxLocals ret :: tables_1) room_1 (fun tb e args s => Calls_1 tb e args s ∧ rest_1 tb e args s ∧ Pre_1 tb e args s)
    (fun _ _ args s o t => lw_Q args s o t) := by
  intro p e ha hc hk s m args below hf hfit hheap happ hpre
  obtain ⟨b, xs, hP⟩ := lw_pre_spec hpre.2.2 hpre.2.1
  obtain ⟨k, o, h1, h2, h3, hQ⟩ := lw_walk l b xs p e ha hc hk s m args below hf ((Spec.applies_iff_loose hf).mp happ).1 hP trivial
  exact ⟨k, o, h1, h2, h3, hQ⟩
theorem lw_frame {s t : State} {o : Outcome} {args : Array Value} (h : Framed s o t [] 600000 7290000) :
    Framed s o t (fieldLocs frame_1_writes args s ++ arrayLocs frame_1_arrays args s ++ staticLocs frame_1_statics s) 600000 7290000 := h
theorem lw_limb (L : Cond) (hL : ∀ (args : Array Value) (s t : State), L.after args s (.returned (some (.int 1))) t = true) :
    ArmFor flags0 classFile x code maxLocals ret World_1 tables_1 room_1 Calls_1 rest_1 Pre_1
      (fun tb e a s o t => postC L tb e a s o t ∧ Framed s o t (fieldLocs frame_1_writes a s ++ arrayLocs frame_1_arrays a s ++ staticLocs frame_1_statics s) 600000 7290000) := by
  intro l _ _ _ p e ha hc hk s m args below hf hfit hheap happ hpre
  obtain ⟨k, o, h1, h2, h3, rfl, hF⟩ := lw_comes l p e ha hc hk s m args below hf hfit hheap happ hpre
  exact ⟨k, _, h1, h2, h3, hL args s _, lw_frame hF⟩
theorem i_vc : Claimed_1_1 ∧ Claimed_1_2 := ⟨lw_limb limb_1_1 (fun args s t => by simp [limb_1_1, Cond.after, Cond.holds, Cond.value]), lw_limb limb_1_2 (fun args s t => Cond.after_iff.mpr (by
  first | (rw [show limb_1_2 = Cond.eq .result (.int 1) from rfl, Cond.eq_ints (x := 1) (y := 1) rfl rfl]; simp; done) | (simp [limb_1_2, Cond.value, Term.eval]; done)))⟩
end
