section
-- ===== PART A: goes FIRST, ahead of the names: the tables' words, and 'selects' of the private methods out of them =====
/-- a private method of a class that the tables say can be made, by its rows of tables_1 -/
def lw_okq (q : MethodName × Nat) : Prop := (q.1.cls ≠ "java/lang/invoke/MethodHandle" ∧ q.1.cls ≠ "java/lang/invoke/VarHandle") ∧ Cond.instantiable q.1.cls q.2 ∈ tables_1 ∧ Cond.privateMethod q.1 ∈ tables_1 ∧ Cond.instanceMethod q.1 ∈ tables_1
set_option maxRecDepth 100000
theorem lw_t1 {w : Cond} (h : w ∈ tables_1_1) : w ∈ tables_1 := List.mem_append_left _ h
theorem lw_t2 {w : Cond} (h : w ∈ tables_1_2) : w ∈ tables_1 := List.mem_append_right _ h
theorem lw_p0 : lw_okq (⟨"SelectiveUndo", "textLength", "()I"⟩, 15) := ⟨⟨by decide +kernel, by decide +kernel⟩, lw_t1 (List.mem_of_getElem? (i := 4) rfl), lw_t1 (List.mem_of_getElem? (i := 65) rfl), lw_t1 (List.mem_of_getElem? (i := 66) rfl)⟩
theorem lw_p1 : lw_okq (⟨"SelectiveUndo", "nodeAt", "(I)I"⟩, 15) := ⟨⟨by decide +kernel, by decide +kernel⟩, lw_t1 (List.mem_of_getElem? (i := 4) rfl), lw_t1 (List.mem_of_getElem? (i := 69) rfl), lw_t1 (List.mem_of_getElem? (i := 70) rfl)⟩
theorem lw_p2 : lw_okq (⟨"SelectiveUndo", "shown", "(I)Z"⟩, 15) := ⟨⟨by decide +kernel, by decide +kernel⟩, lw_t1 (List.mem_of_getElem? (i := 4) rfl), lw_t1 (List.mem_of_getElem? (i := 73) rfl), lw_t1 (List.mem_of_getElem? (i := 74) rfl)⟩
theorem lw_p3 : lw_okq (⟨"SelectiveUndo", "hang", "(II)V"⟩, 15) := ⟨⟨by decide +kernel, by decide +kernel⟩, lw_t1 (List.mem_of_getElem? (i := 4) rfl), lw_t1 (List.mem_of_getElem? (i := 78) rfl), lw_t1 (List.mem_of_getElem? (i := 79) rfl)⟩
theorem lw_p4 : lw_okq (⟨"SelectiveUndo", "pullUp", "(I)V"⟩, 15) := ⟨⟨by decide +kernel, by decide +kernel⟩, lw_t1 (List.mem_of_getElem? (i := 4) rfl), lw_t1 (List.mem_of_getElem? (i := 82) rfl), lw_t1 (List.mem_of_getElem? (i := 83) rfl)⟩
theorem lw_p5 : lw_okq (⟨"SelectiveUndo", "pull", "(I)V"⟩, 15) := ⟨⟨by decide +kernel, by decide +kernel⟩, lw_t1 (List.mem_of_getElem? (i := 4) rfl), lw_t1 (List.mem_of_getElem? (i := 86) rfl), lw_t1 (List.mem_of_getElem? (i := 87) rfl)⟩
theorem lw_p6 : lw_okq (⟨"SelectiveUndo", "lift", "(I)V"⟩, 15) := ⟨⟨by decide +kernel, by decide +kernel⟩, lw_t1 (List.mem_of_getElem? (i := 4) rfl), lw_t1 (List.mem_of_getElem? (i := 90) rfl), lw_t1 (List.mem_of_getElem? (i := 91) rfl)⟩
theorem lw_p7 : lw_okq (⟨"SelectiveUndo", "replaceBelow", "(III)V"⟩, 15) := ⟨⟨by decide +kernel, by decide +kernel⟩, lw_t1 (List.mem_of_getElem? (i := 4) rfl), lw_t1 (List.mem_of_getElem? (i := 94) rfl), lw_t1 (List.mem_of_getElem? (i := 95) rfl)⟩
theorem lw_p8 : lw_okq (⟨"SelectiveUndo", "coverBy", "(JI)V"⟩, 15) := ⟨⟨by decide +kernel, by decide +kernel⟩, lw_t1 (List.mem_of_getElem? (i := 4) rfl), lw_t1 (List.mem_of_getElem? (i := 102) rfl), lw_t1 (List.mem_of_getElem? (i := 103) rfl)⟩
theorem lw_p9 : lw_okq (⟨"SelectiveUndo", "bad", "(I)Z"⟩, 15) := ⟨⟨by decide +kernel, by decide +kernel⟩, lw_t1 (List.mem_of_getElem? (i := 4) rfl), lw_t1 (List.mem_of_getElem? (i := 110) rfl), lw_t1 (List.mem_of_getElem? (i := 111) rfl)⟩
theorem lw_p10 : lw_okq (⟨"SelectiveUndo", "toggle", "(I)V"⟩, 15) := ⟨⟨by decide +kernel, by decide +kernel⟩, lw_t1 (List.mem_of_getElem? (i := 4) rfl), lw_t1 (List.mem_of_getElem? (i := 114) rfl), lw_t1 (List.mem_of_getElem? (i := 115) rfl)⟩
theorem lw_p11 : lw_okq (⟨"SelectiveUndo", "placeOf", "(I)I"⟩, 15) := ⟨⟨by decide +kernel, by decide +kernel⟩, lw_t1 (List.mem_of_getElem? (i := 4) rfl), lw_t1 (List.mem_of_getElem? (i := 154) rfl), lw_t1 (List.mem_of_getElem? (i := 155) rfl)⟩
theorem lw_p12 : lw_okq (⟨"SelectiveUndoModel", "isShown", "(I)Z"⟩, 7) := ⟨⟨by decide +kernel, by decide +kernel⟩, lw_t1 (List.mem_of_getElem? (i := 174) rfl), lw_t1 (List.mem_of_getElem? (i := 210) rfl), lw_t1 (List.mem_of_getElem? (i := 211) rfl)⟩
theorem lw_p13 : lw_okq (⟨"SelectiveUndoModel", "coversOf", "(I)I"⟩, 7) := ⟨⟨by decide +kernel, by decide +kernel⟩, lw_t1 (List.mem_of_getElem? (i := 174) rfl), lw_t1 (List.mem_of_getElem? (i := 214) rfl), lw_t1 (List.mem_of_getElem? (i := 215) rfl)⟩
theorem lw_p14 : lw_okq (⟨"SelectiveUndoModel", "charAt", "(I)I"⟩, 7) := ⟨⟨by decide +kernel, by decide +kernel⟩, lw_t1 (List.mem_of_getElem? (i := 174) rfl), lw_t1 (List.mem_of_getElem? (i := 218) rfl), lw_t1 (List.mem_of_getElem? (i := 219) rfl)⟩
theorem lw_p15 : lw_okq (⟨"SelectiveUndoModel", "isChange", "(I)Z"⟩, 7) := ⟨⟨by decide +kernel, by decide +kernel⟩, lw_t1 (List.mem_of_getElem? (i := 174) rfl), lw_t1 (List.mem_of_getElem? (i := 230) rfl), lw_t1 (List.mem_of_getElem? (i := 231) rfl)⟩
def lw_privs_1 : List (MethodName × Nat) := [(⟨"SelectiveUndo", "textLength", "()I"⟩, 15), (⟨"SelectiveUndo", "nodeAt", "(I)I"⟩, 15), (⟨"SelectiveUndo", "shown", "(I)Z"⟩, 15), (⟨"SelectiveUndo", "hang", "(II)V"⟩, 15), (⟨"SelectiveUndo", "pullUp", "(I)V"⟩, 15), (⟨"SelectiveUndo", "pull", "(I)V"⟩, 15), (⟨"SelectiveUndo", "lift", "(I)V"⟩, 15), (⟨"SelectiveUndo", "replaceBelow", "(III)V"⟩, 15), (⟨"SelectiveUndo", "coverBy", "(JI)V"⟩, 15), (⟨"SelectiveUndo", "bad", "(I)Z"⟩, 15), (⟨"SelectiveUndo", "toggle", "(I)V"⟩, 15), (⟨"SelectiveUndo", "placeOf", "(I)I"⟩, 15), (⟨"SelectiveUndoModel", "isShown", "(I)Z"⟩, 7), (⟨"SelectiveUndoModel", "coversOf", "(I)I"⟩, 7), (⟨"SelectiveUndoModel", "charAt", "(I)I"⟩, 7), (⟨"SelectiveUndoModel", "isChange", "(I)Z"⟩, 7)]
theorem lw_r1 : ∀ q ∈ lw_privs_1, lw_okq q := List.forall_mem_cons.mpr ⟨lw_p0, List.forall_mem_cons.mpr ⟨lw_p1, List.forall_mem_cons.mpr ⟨lw_p2, List.forall_mem_cons.mpr ⟨lw_p3, List.forall_mem_cons.mpr ⟨lw_p4, List.forall_mem_cons.mpr ⟨lw_p5, List.forall_mem_cons.mpr ⟨lw_p6, List.forall_mem_cons.mpr ⟨lw_p7, List.forall_mem_cons.mpr ⟨lw_p8, List.forall_mem_cons.mpr ⟨lw_p9, List.forall_mem_cons.mpr ⟨lw_p10, List.forall_mem_cons.mpr ⟨lw_p11, List.forall_mem_cons.mpr ⟨lw_p12, List.forall_mem_cons.mpr ⟨lw_p13, List.forall_mem_cons.mpr ⟨lw_p14, List.forall_mem_cons.mpr ⟨lw_p15, fun _ h => absurd h List.not_mem_nil⟩⟩⟩⟩⟩⟩⟩⟩⟩⟩⟩⟩⟩⟩⟩⟩
def lw_privs : List (MethodName × Nat) := lw_privs_1
def lw_tbl : List Cond := k2_sels lw_privs ++ tables_1
theorem lw_privs_ok : ∀ q ∈ lw_privs, lw_okq q := lw_r1
-- ===== ONE list of words for every method: the tables' words that hold all through a run =====
def lw_all : List Cond := lw_tbl.filter goodWord
/-- a word of the tables by its place: claim/WORDS.tsv -/
theorem lw_w {w : Cond} (i : Nat) (h : lw_tbl[i]? = some w) (g : goodWord w = true) : w ∈ lw_all := List.mem_filter.mpr ⟨List.mem_of_getElem? h, g⟩
theorem lw_all_tbl {w : Cond} (h : w ∈ lw_all) : w ∈ lw_tbl := (List.mem_filter.mp h).1
theorem lw_self : GoodIn lw_all lw_all := fun w h => ⟨h, good_of_word (List.mem_filter.mp h).2⟩
/-- a class's field words, by their places -/
theorem lw_in (ws : List Cond) (ps : List Nat) (hp : ws = ps.filterMap (fun i => lw_tbl[i]?)) (hg : ws.all goodWord = true) : ∀ w ∈ ws, w ∈ lw_all := by
  intro w h
  have h1 := List.all_eq_true.mp hg w h
  rw [hp] at h
  obtain ⟨i, -, hi⟩ := List.mem_filterMap.mp h
  exact lw_w i hi h1
/-- the words of a contract for the method y with code b, L locals, answer r -/
abbrev ws_ (y : MethodName) (b : ByteArray) (L : Nat) (r : Option FieldType) : List Cond := Cond.code y b L r :: lw_all
theorem lw_meth {y : MethodName} {b : ByteArray} {L : Nat} {r : Option FieldType} (h : Cond.code y b L r ∈ lw_all) : GoodIn lw_all (ws_ y b L r) := by
  intro w hw
  rcases List.mem_cons.mp hw with e | e
  · rw [e]
    exact lw_self _ h
  · exact lw_self _ e
theorem lw_app {a c : List Cond} (ha : ∀ w ∈ a, w ∈ lw_all) (hc : GoodIn lw_all c) : GoodIn lw_all (a ++ c) := by
  intro w hw
  rcases List.mem_append.mp hw with e | e
  · exact lw_self w (ha w e)
  · exact hc w e
/-- what a call through an object asks: cwV n hts (lw_V ..) -/
theorem lw_V {own : String} {idx : Nat} {C : String} {y : MethodName} {b : ByteArray} {L : Nat} {r : Option FieldType} (h1 : Cond.methodLink own idx y ∈ lw_all) (h2 : Cond.instanceMethod y ∈ lw_all) (h3 : Cond.selects C y y ∈ lw_all) (h4 : Cond.initialized C ∈ lw_all) (h5 : Cond.code y b L r ∈ lw_all) : GoodIn lw_all (wsV own idx C y (ws_ y b L r)) := by
  refine lw_app ?_ (lw_meth h5)
  intro w hw
  simp only [List.mem_cons, List.not_mem_nil, or_false] at hw
  rcases hw with e | e | e | e
  · rw [e]; exact h1
  · rw [e]; exact h2
  · rw [e]; exact h3
  · rw [e]; exact h4
/-- what a static call asks: va_cwS n hts (lw_S ..) -/
theorem lw_S {own : String} {idx : Nat} {y : MethodName} {b : ByteArray} {L : Nat} {r : Option FieldType} (h1 : Cond.methodLink own idx y ∈ lw_all) (h2 : Cond.static y ∈ lw_all) (h3 : Cond.initialized y.cls ∈ lw_all) (h4 : Cond.code y b L r ∈ lw_all) : GoodIn lw_all (va_wsS own idx y (ws_ y b L r)) := by
  refine lw_app ?_ (lw_meth h4)
  intro w hw
  simp only [List.mem_cons, List.not_mem_nil, or_false] at hw
  rcases hw with e | e | e
  · rw [e]; exact h1
  · rw [e]; exact h2
  · rw [e]; exact h3
/-- the words of a contract for a method WITH HANDLERS (hh: its table) -/
abbrev wsW_ (y : MethodName) (b : ByteArray) (L : Nat) (r : Option FieldType) (hh : List (Nat × Nat × Nat × Nat)) : List Cond := Cond.codeWith y b L r hh :: lw_all
theorem lw_methW {y : MethodName} {b : ByteArray} {L : Nat} {r : Option FieldType} {hh : List (Nat × Nat × Nat × Nat)} (h : Cond.codeWith y b L r hh ∈ lw_all) : GoodIn lw_all (wsW_ y b L r hh) := by
  intro w hw
  rcases List.mem_cons.mp hw with e | e
  · rw [e]
    exact lw_self _ h
  · exact lw_self _ e
/-- any list of words by their places (lw_in), good -/
theorem lw_good {ws : List Cond} (h : ∀ w ∈ ws, w ∈ lw_all) : GoodIn lw_all ws := fun w hw => lw_self w (h w hw)
/-- what a call of a method with handlers asks: vx_cwVW n hts (lw_VW ..), vx_cwSW n hts (lw_SW ..) -/
theorem lw_VW {own : String} {idx : Nat} {C : String} {y : MethodName} {b : ByteArray} {L : Nat} {r : Option FieldType} {hh : List (Nat × Nat × Nat × Nat)} (h1 : Cond.methodLink own idx y ∈ lw_all) (h2 : Cond.instanceMethod y ∈ lw_all) (h3 : Cond.selects C y y ∈ lw_all) (h4 : Cond.initialized C ∈ lw_all) (h5 : Cond.codeWith y b L r hh ∈ lw_all) : GoodIn lw_all (wsV own idx C y (wsW_ y b L r hh)) := by
  refine lw_app ?_ (lw_methW h5)
  intro w hw
  simp only [List.mem_cons, List.not_mem_nil, or_false] at hw
  rcases hw with e | e | e | e
  · rw [e]; exact h1
  · rw [e]; exact h2
  · rw [e]; exact h3
  · rw [e]; exact h4
theorem lw_SW {own : String} {idx : Nat} {y : MethodName} {b : ByteArray} {L : Nat} {r : Option FieldType} {hh : List (Nat × Nat × Nat × Nat)} (h1 : Cond.methodLink own idx y ∈ lw_all) (h2 : Cond.static y ∈ lw_all) (h3 : Cond.initialized y.cls ∈ lw_all) (h4 : Cond.codeWith y b L r hh ∈ lw_all) : GoodIn lw_all (va_wsS own idx y (wsW_ y b L r hh)) := by
  refine lw_app ?_ (lw_methW h4)
  intro w hw
  simp only [List.mem_cons, List.not_mem_nil, or_false] at hw
  rcases hw with e | e | e
  · rw [e]; exact h1
  · rw [e]; exact h2
  · rw [e]; exact h3
/-- a word by its place in its run of the tables -/
theorem lw_at {r : List Cond} (hr : ∀ w ∈ r, w ∈ lw_tbl) {w : Cond} (i : Nat) (h : r[i]? = some w) : w ∈ lw_tbl := hr w (List.mem_of_getElem? h)
theorem lw_g {w : Cond} (h : w ∈ lw_tbl) (g : goodWord w = true) : w ∈ lw_all := List.mem_filter.mpr ⟨h, g⟩
theorem lw_ms : ∀ w ∈ k2_sels lw_privs, w ∈ lw_tbl := fun w h => show w ∈ k2_sels lw_privs ++ tables_1 from List.mem_append_left _ h
theorem lw_m1 : ∀ w ∈ tables_1_1, w ∈ lw_tbl := fun w h => show w ∈ k2_sels lw_privs ++ tables_1 from List.mem_append_right (k2_sels lw_privs) (show w ∈ tables_1 from List.mem_append_left _ h)
theorem lw_m2 : ∀ w ∈ tables_1_2, w ∈ lw_tbl := fun w h => show w ∈ k2_sels lw_privs ++ tables_1 from List.mem_append_right (k2_sels lw_privs) (show w ∈ tables_1 from List.mem_append_right _ h)
theorem qs0 : (Cond.selects "SelectiveUndo" ⟨"SelectiveUndo", "textLength", "()I"⟩ ⟨"SelectiveUndo", "textLength", "()I"⟩) ∈ lw_all := lw_g (lw_at lw_ms 0 rfl) rfl
theorem qs1 : (Cond.selects "SelectiveUndo" ⟨"SelectiveUndo", "nodeAt", "(I)I"⟩ ⟨"SelectiveUndo", "nodeAt", "(I)I"⟩) ∈ lw_all := lw_g (lw_at lw_ms 1 rfl) rfl
theorem qs2 : (Cond.selects "SelectiveUndo" ⟨"SelectiveUndo", "shown", "(I)Z"⟩ ⟨"SelectiveUndo", "shown", "(I)Z"⟩) ∈ lw_all := lw_g (lw_at lw_ms 2 rfl) rfl
theorem qs3 : (Cond.selects "SelectiveUndo" ⟨"SelectiveUndo", "hang", "(II)V"⟩ ⟨"SelectiveUndo", "hang", "(II)V"⟩) ∈ lw_all := lw_g (lw_at lw_ms 3 rfl) rfl
theorem qs4 : (Cond.selects "SelectiveUndo" ⟨"SelectiveUndo", "pullUp", "(I)V"⟩ ⟨"SelectiveUndo", "pullUp", "(I)V"⟩) ∈ lw_all := lw_g (lw_at lw_ms 4 rfl) rfl
theorem qs5 : (Cond.selects "SelectiveUndo" ⟨"SelectiveUndo", "pull", "(I)V"⟩ ⟨"SelectiveUndo", "pull", "(I)V"⟩) ∈ lw_all := lw_g (lw_at lw_ms 5 rfl) rfl
theorem qs6 : (Cond.selects "SelectiveUndo" ⟨"SelectiveUndo", "lift", "(I)V"⟩ ⟨"SelectiveUndo", "lift", "(I)V"⟩) ∈ lw_all := lw_g (lw_at lw_ms 6 rfl) rfl
theorem qs7 : (Cond.selects "SelectiveUndo" ⟨"SelectiveUndo", "replaceBelow", "(III)V"⟩ ⟨"SelectiveUndo", "replaceBelow", "(III)V"⟩) ∈ lw_all := lw_g (lw_at lw_ms 7 rfl) rfl
theorem qs8 : (Cond.selects "SelectiveUndo" ⟨"SelectiveUndo", "coverBy", "(JI)V"⟩ ⟨"SelectiveUndo", "coverBy", "(JI)V"⟩) ∈ lw_all := lw_g (lw_at lw_ms 8 rfl) rfl
theorem qs9 : (Cond.selects "SelectiveUndo" ⟨"SelectiveUndo", "bad", "(I)Z"⟩ ⟨"SelectiveUndo", "bad", "(I)Z"⟩) ∈ lw_all := lw_g (lw_at lw_ms 9 rfl) rfl
theorem qs10 : (Cond.selects "SelectiveUndo" ⟨"SelectiveUndo", "toggle", "(I)V"⟩ ⟨"SelectiveUndo", "toggle", "(I)V"⟩) ∈ lw_all := lw_g (lw_at lw_ms 10 rfl) rfl
theorem qs11 : (Cond.selects "SelectiveUndo" ⟨"SelectiveUndo", "placeOf", "(I)I"⟩ ⟨"SelectiveUndo", "placeOf", "(I)I"⟩) ∈ lw_all := lw_g (lw_at lw_ms 11 rfl) rfl
theorem qs12 : (Cond.selects "SelectiveUndoModel" ⟨"SelectiveUndoModel", "isShown", "(I)Z"⟩ ⟨"SelectiveUndoModel", "isShown", "(I)Z"⟩) ∈ lw_all := lw_g (lw_at lw_ms 12 rfl) rfl
theorem qs13 : (Cond.selects "SelectiveUndoModel" ⟨"SelectiveUndoModel", "coversOf", "(I)I"⟩ ⟨"SelectiveUndoModel", "coversOf", "(I)I"⟩) ∈ lw_all := lw_g (lw_at lw_ms 13 rfl) rfl
theorem qs14 : (Cond.selects "SelectiveUndoModel" ⟨"SelectiveUndoModel", "charAt", "(I)I"⟩ ⟨"SelectiveUndoModel", "charAt", "(I)I"⟩) ∈ lw_all := lw_g (lw_at lw_ms 14 rfl) rfl
theorem qs15 : (Cond.selects "SelectiveUndoModel" ⟨"SelectiveUndoModel", "isChange", "(I)Z"⟩ ⟨"SelectiveUndoModel", "isChange", "(I)Z"⟩) ∈ lw_all := lw_g (lw_at lw_ms 15 rfl) rfl
end
section
/-! SelectiveUndo -/
set_option maxRecDepth 100000
def RX0 : String := "SelectiveUndo"
def TX0 : u_T := fun k => match k with
  | 0 => ("SelectiveUndo", "count", "I", false)
  | 1 => ("SelectiveUndo", "root", "I", false)
  | 2 => ("SelectiveUndo", "left", "[I", true)
  | 3 => ("SelectiveUndo", "right", "[I", true)
  | 4 => ("SelectiveUndo", "up", "[I", true)
  | 5 => ("SelectiveUndo", "rank", "[I", true)
  | 6 => ("SelectiveUndo", "shownIn", "[I", true)
  | 7 => ("SelectiveUndo", "letter", "[I", true)
  | 8 => ("SelectiveUndo", "typist", "[I", true)
  | 9 => ("SelectiveUndo", "covered", "[I", true)
  | 10 => ("SelectiveUndo", "changes", "I", false)
  | 11 => ("SelectiveUndo", "on", "[Z", true)
  | 12 => ("SelectiveUndo", "typed", "[I", true)
  | 13 => ("SelectiveUndo", "cover", "[J", true)
  | _ => ("SelectiveUndo", "seed", "I", false)
def tyX0 : Nat → FieldType := fun k => match k with
  | 0 => .int
  | 1 => .int
  | 2 => .array .int
  | 3 => .array .int
  | 4 => .array .int
  | 5 => .array .int
  | 6 => .array .int
  | 7 => .array .int
  | 8 => .array .int
  | 9 => .array .int
  | 10 => .int
  | 11 => .array .boolean
  | 12 => .array .int
  | 13 => .array .long
  | _ => .int
abbrev wsX00 : List Cond := u_ws RX0 TX0 15
set_option maxRecDepth 100000 in
theorem nmX0 : ∀ a, a < 15 → ∀ b, b < 15 → a ≠ b → (TX0 a).2.1 ≠ (TX0 b).2.1 := by decide +kernel
set_option maxRecDepth 100000 in
theorem tyX0_ok : ∀ k, k < 15 → parseFieldDescriptor (TX0 k).2.2.1 = some (tyX0 k) := by decide +kernel
abbrev cX0_init : ByteArray := prog_1_method_1_code
def yX0_init : MethodName := ⟨RX0, "<init>", "()V"⟩
abbrev cX0_type : ByteArray := prog_1_method_11_code
def yX0_type : MethodName := ⟨RX0, "type", "(II)I"⟩
abbrev cX0_textLength : ByteArray := prog_1_method_10_code
def yX0_textLength : MethodName := ⟨RX0, "textLength", "()I"⟩
abbrev cX0_nodeAt : ByteArray := prog_1_method_8_code
def yX0_nodeAt : MethodName := ⟨RX0, "nodeAt", "(I)I"⟩
abbrev cX0_shown : ByteArray := prog_1_method_2_code
def yX0_shown : MethodName := ⟨RX0, "shown", "(I)Z"⟩
abbrev cX0_hang : ByteArray := prog_1_method_7_code
def yX0_hang : MethodName := ⟨RX0, "hang", "(II)V"⟩
abbrev cX0_pullUp : ByteArray := prog_1_method_4_code
def yX0_pullUp : MethodName := ⟨RX0, "pullUp", "(I)V"⟩
abbrev cX0_pull : ByteArray := prog_1_method_3_code
def yX0_pull : MethodName := ⟨RX0, "pull", "(I)V"⟩
abbrev cX0_lift : ByteArray := prog_1_method_6_code
def yX0_lift : MethodName := ⟨RX0, "lift", "(I)V"⟩
abbrev cX0_replaceBelow : ByteArray := prog_1_method_5_code
def yX0_replaceBelow : MethodName := ⟨RX0, "replaceBelow", "(III)V"⟩
abbrev cX0_erase : ByteArray := prog_1_method_12_code
def yX0_erase : MethodName := ⟨RX0, "erase", "(II)I"⟩
abbrev cX0_coverBy : ByteArray := prog_1_method_13_code
def yX0_coverBy : MethodName := ⟨RX0, "coverBy", "(JI)V"⟩
abbrev cX0_put : ByteArray := prog_1_method_16_code
def yX0_put : MethodName := ⟨RX0, "put", "(II)I"⟩
abbrev cX0_bad : ByteArray := prog_1_method_14_code
def yX0_bad : MethodName := ⟨RX0, "bad", "(I)Z"⟩
abbrev cX0_toggle : ByteArray := prog_1_method_15_code
def yX0_toggle : MethodName := ⟨RX0, "toggle", "(I)V"⟩
abbrev cX0_undo : ByteArray := prog_1_method_17_code
def yX0_undo : MethodName := ⟨RX0, "undo", "()I"⟩
abbrev cX0_redo : ByteArray := prog_1_method_18_code
def yX0_redo : MethodName := ⟨RX0, "redo", "()I"⟩
abbrev cX0_flip : ByteArray := prog_1_method_19_code
def yX0_flip : MethodName := ⟨RX0, "flip", "(II)I"⟩
abbrev cX0_changes : ByteArray := prog_1_method_20_code
def yX0_changes : MethodName := ⟨RX0, "changes", "()I"⟩
abbrev cX0_isOn : ByteArray := prog_1_method_21_code
def yX0_isOn : MethodName := ⟨RX0, "isOn", "(I)Z"⟩
abbrev cX0_length : ByteArray := prog_1_method_22_code
def yX0_length : MethodName := ⟨RX0, "length", "()I"⟩
abbrev cX0_letter : ByteArray := prog_1_method_23_code
def yX0_letter : MethodName := ⟨RX0, "letter", "(I)I"⟩
abbrev cX0_origin : ByteArray := prog_1_method_24_code
def yX0_origin : MethodName := ⟨RX0, "origin", "(I)I"⟩
abbrev cX0_where : ByteArray := prog_1_method_25_code
def yX0_where : MethodName := ⟨RX0, "where", "(I)I"⟩
abbrev cX0_placeOf : ByteArray := prog_1_method_9_code
def yX0_placeOf : MethodName := ⟨RX0, "placeOf", "(I)I"⟩
abbrev cX0_covers : ByteArray := prog_1_method_26_code
def yX0_covers : MethodName := ⟨RX0, "covers", "(I)I"⟩
abbrev cX0_coveredBy : ByteArray := prog_1_method_27_code
def yX0_coveredBy : MethodName := ⟨RX0, "coveredBy", "(I)I"⟩
abbrev cX0_effect : ByteArray := prog_1_method_28_code
def yX0_effect : MethodName := ⟨RX0, "effect", "(I)I"⟩
abbrev cX0_digest : ByteArray := prog_1_method_29_code
def yX0_digest : MethodName := ⟨RX0, "digest", "()I"⟩
theorem q17 : (Jvm.Cond.initialized "SelectiveUndo") ∈ lw_all := lw_g (lw_at lw_m1 1 rfl) rfl
theorem q20 : (Jvm.Cond.instantiable "SelectiveUndo" (15 : Nat)) ∈ lw_all := lw_g (lw_at lw_m1 4 rfl) rfl
theorem q22 : (Jvm.Cond.instanceMethod ({ cls := "SelectiveUndo", name := "<init>", desc := "()V" } : Jvm.MethodName)) ∈ lw_all := lw_g (lw_at lw_m1 6 rfl) rfl
theorem q23 : (Jvm.Cond.code ({ cls := "SelectiveUndo", name := "<init>", desc := "()V" } : Jvm.MethodName) prog_1_method_1_code (1 : Nat) (Option.none : Option Jvm.ClassFile.FieldType)) ∈ lw_all := lw_g (lw_at lw_m1 7 rfl) rfl
theorem q24 : (Jvm.Cond.methodLink "SelectiveUndo" (1 : Nat) ({ cls := "java/lang/Object", name := "<init>", desc := "()V" } : Jvm.MethodName)) ∈ lw_all := lw_g (lw_at lw_m1 8 rfl) rfl
theorem q27 : (Jvm.Cond.fieldLink "SelectiveUndo" (77 : Nat) "SelectiveUndo" "count" "I") ∈ lw_all := lw_g (lw_at lw_m1 11 rfl) rfl
theorem q28 : (Jvm.Cond.fieldLink "SelectiveUndo" (57 : Nat) "SelectiveUndo" "root" "I") ∈ lw_all := lw_g (lw_at lw_m1 12 rfl) rfl
theorem q29 : (Jvm.Cond.fieldLink "SelectiveUndo" (7 : Nat) "SelectiveUndo" "left" "[I") ∈ lw_all := lw_g (lw_at lw_m1 13 rfl) rfl
theorem q30 : (Jvm.Cond.fieldLink "SelectiveUndo" (13 : Nat) "SelectiveUndo" "right" "[I") ∈ lw_all := lw_g (lw_at lw_m1 14 rfl) rfl
theorem q31 : (Jvm.Cond.fieldLink "SelectiveUndo" (16 : Nat) "SelectiveUndo" "up" "[I") ∈ lw_all := lw_g (lw_at lw_m1 15 rfl) rfl
theorem q32 : (Jvm.Cond.fieldLink "SelectiveUndo" (19 : Nat) "SelectiveUndo" "rank" "[I") ∈ lw_all := lw_g (lw_at lw_m1 16 rfl) rfl
theorem q33 : (Jvm.Cond.fieldLink "SelectiveUndo" (22 : Nat) "SelectiveUndo" "shownIn" "[I") ∈ lw_all := lw_g (lw_at lw_m1 17 rfl) rfl
theorem q34 : (Jvm.Cond.fieldLink "SelectiveUndo" (25 : Nat) "SelectiveUndo" "letter" "[I") ∈ lw_all := lw_g (lw_at lw_m1 18 rfl) rfl
theorem q35 : (Jvm.Cond.fieldLink "SelectiveUndo" (28 : Nat) "SelectiveUndo" "typist" "[I") ∈ lw_all := lw_g (lw_at lw_m1 19 rfl) rfl
theorem q36 : (Jvm.Cond.fieldLink "SelectiveUndo" (31 : Nat) "SelectiveUndo" "covered" "[I") ∈ lw_all := lw_g (lw_at lw_m1 20 rfl) rfl
theorem q37 : (Jvm.Cond.fieldLink "SelectiveUndo" (74 : Nat) "SelectiveUndo" "changes" "I") ∈ lw_all := lw_g (lw_at lw_m1 21 rfl) rfl
theorem q38 : (Jvm.Cond.fieldLink "SelectiveUndo" (34 : Nat) "SelectiveUndo" "on" "[Z") ∈ lw_all := lw_g (lw_at lw_m1 22 rfl) rfl
theorem q39 : (Jvm.Cond.fieldLink "SelectiveUndo" (38 : Nat) "SelectiveUndo" "typed" "[I") ∈ lw_all := lw_g (lw_at lw_m1 23 rfl) rfl
theorem q40 : (Jvm.Cond.fieldLink "SelectiveUndo" (41 : Nat) "SelectiveUndo" "cover" "[J") ∈ lw_all := lw_g (lw_at lw_m1 24 rfl) rfl
theorem q41 : (Jvm.Cond.fieldLink "SelectiveUndo" (45 : Nat) "SelectiveUndo" "seed" "I") ∈ lw_all := lw_g (lw_at lw_m1 25 rfl) rfl
theorem q42 : (Jvm.Cond.lays "SelectiveUndo" "SelectiveUndo" "count" "I") ∈ lw_all := lw_g (lw_at lw_m1 26 rfl) rfl
theorem q43 : (Jvm.Cond.soleField "SelectiveUndo" "count") ∈ lw_all := lw_g (lw_at lw_m1 27 rfl) rfl
theorem q44 : (Jvm.Cond.lays "SelectiveUndo" "SelectiveUndo" "root" "I") ∈ lw_all := lw_g (lw_at lw_m1 28 rfl) rfl
theorem q45 : (Jvm.Cond.soleField "SelectiveUndo" "root") ∈ lw_all := lw_g (lw_at lw_m1 29 rfl) rfl
theorem q46 : (Jvm.Cond.laysFinal "SelectiveUndo" "SelectiveUndo" "left" "[I") ∈ lw_all := lw_g (lw_at lw_m1 30 rfl) rfl
theorem q47 : (Jvm.Cond.soleField "SelectiveUndo" "left") ∈ lw_all := lw_g (lw_at lw_m1 31 rfl) rfl
theorem q48 : (Jvm.Cond.laysFinal "SelectiveUndo" "SelectiveUndo" "right" "[I") ∈ lw_all := lw_g (lw_at lw_m1 32 rfl) rfl
theorem q49 : (Jvm.Cond.soleField "SelectiveUndo" "right") ∈ lw_all := lw_g (lw_at lw_m1 33 rfl) rfl
theorem q50 : (Jvm.Cond.laysFinal "SelectiveUndo" "SelectiveUndo" "up" "[I") ∈ lw_all := lw_g (lw_at lw_m1 34 rfl) rfl
theorem q51 : (Jvm.Cond.soleField "SelectiveUndo" "up") ∈ lw_all := lw_g (lw_at lw_m1 35 rfl) rfl
theorem q52 : (Jvm.Cond.laysFinal "SelectiveUndo" "SelectiveUndo" "rank" "[I") ∈ lw_all := lw_g (lw_at lw_m1 36 rfl) rfl
theorem q53 : (Jvm.Cond.soleField "SelectiveUndo" "rank") ∈ lw_all := lw_g (lw_at lw_m1 37 rfl) rfl
theorem q54 : (Jvm.Cond.laysFinal "SelectiveUndo" "SelectiveUndo" "shownIn" "[I") ∈ lw_all := lw_g (lw_at lw_m1 38 rfl) rfl
theorem q55 : (Jvm.Cond.soleField "SelectiveUndo" "shownIn") ∈ lw_all := lw_g (lw_at lw_m1 39 rfl) rfl
theorem q56 : (Jvm.Cond.laysFinal "SelectiveUndo" "SelectiveUndo" "letter" "[I") ∈ lw_all := lw_g (lw_at lw_m1 40 rfl) rfl
theorem q57 : (Jvm.Cond.soleField "SelectiveUndo" "letter") ∈ lw_all := lw_g (lw_at lw_m1 41 rfl) rfl
theorem q58 : (Jvm.Cond.laysFinal "SelectiveUndo" "SelectiveUndo" "typist" "[I") ∈ lw_all := lw_g (lw_at lw_m1 42 rfl) rfl
theorem q59 : (Jvm.Cond.soleField "SelectiveUndo" "typist") ∈ lw_all := lw_g (lw_at lw_m1 43 rfl) rfl
theorem q60 : (Jvm.Cond.laysFinal "SelectiveUndo" "SelectiveUndo" "covered" "[I") ∈ lw_all := lw_g (lw_at lw_m1 44 rfl) rfl
theorem q61 : (Jvm.Cond.soleField "SelectiveUndo" "covered") ∈ lw_all := lw_g (lw_at lw_m1 45 rfl) rfl
theorem q62 : (Jvm.Cond.lays "SelectiveUndo" "SelectiveUndo" "changes" "I") ∈ lw_all := lw_g (lw_at lw_m1 46 rfl) rfl
theorem q63 : (Jvm.Cond.soleField "SelectiveUndo" "changes") ∈ lw_all := lw_g (lw_at lw_m1 47 rfl) rfl
theorem q64 : (Jvm.Cond.laysFinal "SelectiveUndo" "SelectiveUndo" "on" "[Z") ∈ lw_all := lw_g (lw_at lw_m1 48 rfl) rfl
theorem q65 : (Jvm.Cond.soleField "SelectiveUndo" "on") ∈ lw_all := lw_g (lw_at lw_m1 49 rfl) rfl
theorem q66 : (Jvm.Cond.laysFinal "SelectiveUndo" "SelectiveUndo" "typed" "[I") ∈ lw_all := lw_g (lw_at lw_m1 50 rfl) rfl
theorem q67 : (Jvm.Cond.soleField "SelectiveUndo" "typed") ∈ lw_all := lw_g (lw_at lw_m1 51 rfl) rfl
theorem q68 : (Jvm.Cond.laysFinal "SelectiveUndo" "SelectiveUndo" "cover" "[J") ∈ lw_all := lw_g (lw_at lw_m1 52 rfl) rfl
theorem q69 : (Jvm.Cond.soleField "SelectiveUndo" "cover") ∈ lw_all := lw_g (lw_at lw_m1 53 rfl) rfl
theorem q70 : (Jvm.Cond.lays "SelectiveUndo" "SelectiveUndo" "seed" "I") ∈ lw_all := lw_g (lw_at lw_m1 54 rfl) rfl
theorem q71 : (Jvm.Cond.soleField "SelectiveUndo" "seed") ∈ lw_all := lw_g (lw_at lw_m1 55 rfl) rfl
theorem q72 : (Jvm.Cond.superclass "SelectiveUndo" "java/lang/Object") ∈ lw_all := lw_g (lw_at lw_m1 56 rfl) rfl
theorem q77 : (Jvm.Cond.instanceMethod ({ cls := "SelectiveUndo", name := "type", desc := "(II)I" } : Jvm.MethodName)) ∈ lw_all := lw_g (lw_at lw_m1 61 rfl) rfl
theorem q78 : (Jvm.Cond.selects "SelectiveUndo" ({ cls := "SelectiveUndo", name := "type", desc := "(II)I" } : Jvm.MethodName) ({ cls := "SelectiveUndo", name := "type", desc := "(II)I" } : Jvm.MethodName)) ∈ lw_all := lw_g (lw_at lw_m1 62 rfl) rfl
theorem q79 : (Jvm.Cond.code ({ cls := "SelectiveUndo", name := "type", desc := "(II)I" } : Jvm.MethodName) prog_1_method_11_code (4 : Nat) (Option.some Jvm.ClassFile.FieldType.int)) ∈ lw_all := lw_g (lw_at lw_m1 63 rfl) rfl
theorem q80 : (Jvm.Cond.methodLink "SelectiveUndo" (70 : Nat) ({ cls := "SelectiveUndo", name := "textLength", desc := "()I" } : Jvm.MethodName)) ∈ lw_all := lw_g (lw_at lw_m1 64 rfl) rfl
theorem q81 : (Jvm.Cond.privateMethod ({ cls := "SelectiveUndo", name := "textLength", desc := "()I" } : Jvm.MethodName)) ∈ lw_tbl := lw_at lw_m1 65 rfl
theorem q82 : (Jvm.Cond.instanceMethod ({ cls := "SelectiveUndo", name := "textLength", desc := "()I" } : Jvm.MethodName)) ∈ lw_all := lw_g (lw_at lw_m1 66 rfl) rfl
theorem q83 : (Jvm.Cond.code ({ cls := "SelectiveUndo", name := "textLength", desc := "()I" } : Jvm.MethodName) prog_1_method_10_code (1 : Nat) (Option.some Jvm.ClassFile.FieldType.int)) ∈ lw_all := lw_g (lw_at lw_m1 67 rfl) rfl
theorem q84 : (Jvm.Cond.methodLink "SelectiveUndo" (80 : Nat) ({ cls := "SelectiveUndo", name := "nodeAt", desc := "(I)I" } : Jvm.MethodName)) ∈ lw_all := lw_g (lw_at lw_m1 68 rfl) rfl
theorem q85 : (Jvm.Cond.privateMethod ({ cls := "SelectiveUndo", name := "nodeAt", desc := "(I)I" } : Jvm.MethodName)) ∈ lw_tbl := lw_at lw_m1 69 rfl
theorem q86 : (Jvm.Cond.instanceMethod ({ cls := "SelectiveUndo", name := "nodeAt", desc := "(I)I" } : Jvm.MethodName)) ∈ lw_all := lw_g (lw_at lw_m1 70 rfl) rfl
theorem q87 : (Jvm.Cond.code ({ cls := "SelectiveUndo", name := "nodeAt", desc := "(I)I" } : Jvm.MethodName) prog_1_method_8_code (6 : Nat) (Option.some Jvm.ClassFile.FieldType.int)) ∈ lw_all := lw_g (lw_at lw_m1 71 rfl) rfl
theorem q88 : (Jvm.Cond.methodLink "SelectiveUndo" (49 : Nat) ({ cls := "SelectiveUndo", name := "shown", desc := "(I)Z" } : Jvm.MethodName)) ∈ lw_all := lw_g (lw_at lw_m1 72 rfl) rfl
theorem q89 : (Jvm.Cond.privateMethod ({ cls := "SelectiveUndo", name := "shown", desc := "(I)Z" } : Jvm.MethodName)) ∈ lw_tbl := lw_at lw_m1 73 rfl
theorem q90 : (Jvm.Cond.instanceMethod ({ cls := "SelectiveUndo", name := "shown", desc := "(I)Z" } : Jvm.MethodName)) ∈ lw_all := lw_g (lw_at lw_m1 74 rfl) rfl
theorem q91 : (Jvm.Cond.code ({ cls := "SelectiveUndo", name := "shown", desc := "(I)Z" } : Jvm.MethodName) prog_1_method_2_code (2 : Nat) (Option.some Jvm.ClassFile.FieldType.boolean)) ∈ lw_all := lw_g (lw_at lw_m1 75 rfl) rfl
theorem q92 : (Jvm.Cond.constant "SelectiveUndo" (84 : Nat) (1103515245 : Int32)) ∈ lw_all := lw_g (lw_at lw_m1 76 rfl) rfl
theorem q93 : (Jvm.Cond.methodLink "SelectiveUndo" (85 : Nat) ({ cls := "SelectiveUndo", name := "hang", desc := "(II)V" } : Jvm.MethodName)) ∈ lw_all := lw_g (lw_at lw_m1 77 rfl) rfl
theorem q94 : (Jvm.Cond.privateMethod ({ cls := "SelectiveUndo", name := "hang", desc := "(II)V" } : Jvm.MethodName)) ∈ lw_tbl := lw_at lw_m1 78 rfl
theorem q95 : (Jvm.Cond.instanceMethod ({ cls := "SelectiveUndo", name := "hang", desc := "(II)V" } : Jvm.MethodName)) ∈ lw_all := lw_g (lw_at lw_m1 79 rfl) rfl
theorem q96 : (Jvm.Cond.code ({ cls := "SelectiveUndo", name := "hang", desc := "(II)V" } : Jvm.MethodName) prog_1_method_7_code (5 : Nat) (Option.none : Option Jvm.ClassFile.FieldType)) ∈ lw_all := lw_g (lw_at lw_m1 80 rfl) rfl
theorem q97 : (Jvm.Cond.methodLink "SelectiveUndo" (64 : Nat) ({ cls := "SelectiveUndo", name := "pullUp", desc := "(I)V" } : Jvm.MethodName)) ∈ lw_all := lw_g (lw_at lw_m1 81 rfl) rfl
theorem q98 : (Jvm.Cond.privateMethod ({ cls := "SelectiveUndo", name := "pullUp", desc := "(I)V" } : Jvm.MethodName)) ∈ lw_tbl := lw_at lw_m1 82 rfl
theorem q99 : (Jvm.Cond.instanceMethod ({ cls := "SelectiveUndo", name := "pullUp", desc := "(I)V" } : Jvm.MethodName)) ∈ lw_all := lw_g (lw_at lw_m1 83 rfl) rfl
theorem q100 : (Jvm.Cond.code ({ cls := "SelectiveUndo", name := "pullUp", desc := "(I)V" } : Jvm.MethodName) prog_1_method_4_code (4 : Nat) (Option.none : Option Jvm.ClassFile.FieldType)) ∈ lw_all := lw_g (lw_at lw_m1 84 rfl) rfl
theorem q101 : (Jvm.Cond.methodLink "SelectiveUndo" (53 : Nat) ({ cls := "SelectiveUndo", name := "pull", desc := "(I)V" } : Jvm.MethodName)) ∈ lw_all := lw_g (lw_at lw_m1 85 rfl) rfl
theorem q102 : (Jvm.Cond.privateMethod ({ cls := "SelectiveUndo", name := "pull", desc := "(I)V" } : Jvm.MethodName)) ∈ lw_tbl := lw_at lw_m1 86 rfl
theorem q103 : (Jvm.Cond.instanceMethod ({ cls := "SelectiveUndo", name := "pull", desc := "(I)V" } : Jvm.MethodName)) ∈ lw_all := lw_g (lw_at lw_m1 87 rfl) rfl
theorem q104 : (Jvm.Cond.code ({ cls := "SelectiveUndo", name := "pull", desc := "(I)V" } : Jvm.MethodName) prog_1_method_3_code (3 : Nat) (Option.none : Option Jvm.ClassFile.FieldType)) ∈ lw_all := lw_g (lw_at lw_m1 88 rfl) rfl
theorem q105 : (Jvm.Cond.methodLink "SelectiveUndo" (67 : Nat) ({ cls := "SelectiveUndo", name := "lift", desc := "(I)V" } : Jvm.MethodName)) ∈ lw_all := lw_g (lw_at lw_m1 89 rfl) rfl
theorem q106 : (Jvm.Cond.privateMethod ({ cls := "SelectiveUndo", name := "lift", desc := "(I)V" } : Jvm.MethodName)) ∈ lw_tbl := lw_at lw_m1 90 rfl
theorem q107 : (Jvm.Cond.instanceMethod ({ cls := "SelectiveUndo", name := "lift", desc := "(I)V" } : Jvm.MethodName)) ∈ lw_all := lw_g (lw_at lw_m1 91 rfl) rfl
theorem q108 : (Jvm.Cond.code ({ cls := "SelectiveUndo", name := "lift", desc := "(I)V" } : Jvm.MethodName) prog_1_method_6_code (4 : Nat) (Option.none : Option Jvm.ClassFile.FieldType)) ∈ lw_all := lw_g (lw_at lw_m1 92 rfl) rfl
theorem q109 : (Jvm.Cond.methodLink "SelectiveUndo" (60 : Nat) ({ cls := "SelectiveUndo", name := "replaceBelow", desc := "(III)V" } : Jvm.MethodName)) ∈ lw_all := lw_g (lw_at lw_m1 93 rfl) rfl
theorem q110 : (Jvm.Cond.privateMethod ({ cls := "SelectiveUndo", name := "replaceBelow", desc := "(III)V" } : Jvm.MethodName)) ∈ lw_tbl := lw_at lw_m1 94 rfl
theorem q111 : (Jvm.Cond.instanceMethod ({ cls := "SelectiveUndo", name := "replaceBelow", desc := "(III)V" } : Jvm.MethodName)) ∈ lw_all := lw_g (lw_at lw_m1 95 rfl) rfl
theorem q112 : (Jvm.Cond.code ({ cls := "SelectiveUndo", name := "replaceBelow", desc := "(III)V" } : Jvm.MethodName) prog_1_method_5_code (4 : Nat) (Option.none : Option Jvm.ClassFile.FieldType)) ∈ lw_all := lw_g (lw_at lw_m1 96 rfl) rfl
theorem q114 : (Jvm.Cond.instanceMethod ({ cls := "SelectiveUndo", name := "erase", desc := "(II)I" } : Jvm.MethodName)) ∈ lw_all := lw_g (lw_at lw_m1 98 rfl) rfl
theorem q115 : (Jvm.Cond.selects "SelectiveUndo" ({ cls := "SelectiveUndo", name := "erase", desc := "(II)I" } : Jvm.MethodName) ({ cls := "SelectiveUndo", name := "erase", desc := "(II)I" } : Jvm.MethodName)) ∈ lw_all := lw_g (lw_at lw_m1 99 rfl) rfl
theorem q116 : (Jvm.Cond.code ({ cls := "SelectiveUndo", name := "erase", desc := "(II)I" } : Jvm.MethodName) prog_1_method_12_code (7 : Nat) (Option.some Jvm.ClassFile.FieldType.int)) ∈ lw_all := lw_g (lw_at lw_m1 100 rfl) rfl
theorem q117 : (Jvm.Cond.methodLink "SelectiveUndo" (89 : Nat) ({ cls := "SelectiveUndo", name := "coverBy", desc := "(JI)V" } : Jvm.MethodName)) ∈ lw_all := lw_g (lw_at lw_m1 101 rfl) rfl
theorem q118 : (Jvm.Cond.privateMethod ({ cls := "SelectiveUndo", name := "coverBy", desc := "(JI)V" } : Jvm.MethodName)) ∈ lw_tbl := lw_at lw_m1 102 rfl
theorem q119 : (Jvm.Cond.instanceMethod ({ cls := "SelectiveUndo", name := "coverBy", desc := "(JI)V" } : Jvm.MethodName)) ∈ lw_all := lw_g (lw_at lw_m1 103 rfl) rfl
theorem q120 : (Jvm.Cond.code ({ cls := "SelectiveUndo", name := "coverBy", desc := "(JI)V" } : Jvm.MethodName) prog_1_method_13_code (5 : Nat) (Option.none : Option Jvm.ClassFile.FieldType)) ∈ lw_all := lw_g (lw_at lw_m1 104 rfl) rfl
theorem q122 : (Jvm.Cond.instanceMethod ({ cls := "SelectiveUndo", name := "put", desc := "(II)I" } : Jvm.MethodName)) ∈ lw_all := lw_g (lw_at lw_m1 106 rfl) rfl
theorem q123 : (Jvm.Cond.selects "SelectiveUndo" ({ cls := "SelectiveUndo", name := "put", desc := "(II)I" } : Jvm.MethodName) ({ cls := "SelectiveUndo", name := "put", desc := "(II)I" } : Jvm.MethodName)) ∈ lw_all := lw_g (lw_at lw_m1 107 rfl) rfl
theorem q124 : (Jvm.Cond.code ({ cls := "SelectiveUndo", name := "put", desc := "(II)I" } : Jvm.MethodName) prog_1_method_16_code (4 : Nat) (Option.some Jvm.ClassFile.FieldType.int)) ∈ lw_all := lw_g (lw_at lw_m1 108 rfl) rfl
theorem q125 : (Jvm.Cond.methodLink "SelectiveUndo" (93 : Nat) ({ cls := "SelectiveUndo", name := "bad", desc := "(I)Z" } : Jvm.MethodName)) ∈ lw_all := lw_g (lw_at lw_m1 109 rfl) rfl
theorem q126 : (Jvm.Cond.privateMethod ({ cls := "SelectiveUndo", name := "bad", desc := "(I)Z" } : Jvm.MethodName)) ∈ lw_tbl := lw_at lw_m1 110 rfl
theorem q127 : (Jvm.Cond.instanceMethod ({ cls := "SelectiveUndo", name := "bad", desc := "(I)Z" } : Jvm.MethodName)) ∈ lw_all := lw_g (lw_at lw_m1 111 rfl) rfl
theorem q128 : (Jvm.Cond.code ({ cls := "SelectiveUndo", name := "bad", desc := "(I)Z" } : Jvm.MethodName) prog_1_method_14_code (2 : Nat) (Option.some Jvm.ClassFile.FieldType.boolean)) ∈ lw_all := lw_g (lw_at lw_m1 112 rfl) rfl
theorem q129 : (Jvm.Cond.methodLink "SelectiveUndo" (96 : Nat) ({ cls := "SelectiveUndo", name := "toggle", desc := "(I)V" } : Jvm.MethodName)) ∈ lw_all := lw_g (lw_at lw_m1 113 rfl) rfl
theorem q130 : (Jvm.Cond.privateMethod ({ cls := "SelectiveUndo", name := "toggle", desc := "(I)V" } : Jvm.MethodName)) ∈ lw_tbl := lw_at lw_m1 114 rfl
theorem q131 : (Jvm.Cond.instanceMethod ({ cls := "SelectiveUndo", name := "toggle", desc := "(I)V" } : Jvm.MethodName)) ∈ lw_all := lw_g (lw_at lw_m1 115 rfl) rfl
theorem q132 : (Jvm.Cond.code ({ cls := "SelectiveUndo", name := "toggle", desc := "(I)V" } : Jvm.MethodName) prog_1_method_15_code (2 : Nat) (Option.none : Option Jvm.ClassFile.FieldType)) ∈ lw_all := lw_g (lw_at lw_m1 116 rfl) rfl
theorem q134 : (Jvm.Cond.instanceMethod ({ cls := "SelectiveUndo", name := "undo", desc := "()I" } : Jvm.MethodName)) ∈ lw_all := lw_g (lw_at lw_m1 118 rfl) rfl
theorem q135 : (Jvm.Cond.selects "SelectiveUndo" ({ cls := "SelectiveUndo", name := "undo", desc := "()I" } : Jvm.MethodName) ({ cls := "SelectiveUndo", name := "undo", desc := "()I" } : Jvm.MethodName)) ∈ lw_all := lw_g (lw_at lw_m1 119 rfl) rfl
theorem q136 : (Jvm.Cond.code ({ cls := "SelectiveUndo", name := "undo", desc := "()I" } : Jvm.MethodName) prog_1_method_17_code (2 : Nat) (Option.some Jvm.ClassFile.FieldType.int)) ∈ lw_all := lw_g (lw_at lw_m1 120 rfl) rfl
theorem q138 : (Jvm.Cond.instanceMethod ({ cls := "SelectiveUndo", name := "redo", desc := "()I" } : Jvm.MethodName)) ∈ lw_all := lw_g (lw_at lw_m1 122 rfl) rfl
theorem q139 : (Jvm.Cond.selects "SelectiveUndo" ({ cls := "SelectiveUndo", name := "redo", desc := "()I" } : Jvm.MethodName) ({ cls := "SelectiveUndo", name := "redo", desc := "()I" } : Jvm.MethodName)) ∈ lw_all := lw_g (lw_at lw_m1 123 rfl) rfl
theorem q140 : (Jvm.Cond.code ({ cls := "SelectiveUndo", name := "redo", desc := "()I" } : Jvm.MethodName) prog_1_method_18_code (2 : Nat) (Option.some Jvm.ClassFile.FieldType.int)) ∈ lw_all := lw_g (lw_at lw_m1 124 rfl) rfl
theorem q142 : (Jvm.Cond.instanceMethod ({ cls := "SelectiveUndo", name := "flip", desc := "(II)I" } : Jvm.MethodName)) ∈ lw_all := lw_g (lw_at lw_m1 126 rfl) rfl
theorem q143 : (Jvm.Cond.selects "SelectiveUndo" ({ cls := "SelectiveUndo", name := "flip", desc := "(II)I" } : Jvm.MethodName) ({ cls := "SelectiveUndo", name := "flip", desc := "(II)I" } : Jvm.MethodName)) ∈ lw_all := lw_g (lw_at lw_m1 127 rfl) rfl
theorem q144 : (Jvm.Cond.code ({ cls := "SelectiveUndo", name := "flip", desc := "(II)I" } : Jvm.MethodName) prog_1_method_19_code (5 : Nat) (Option.some Jvm.ClassFile.FieldType.int)) ∈ lw_all := lw_g (lw_at lw_m1 128 rfl) rfl
theorem q146 : (Jvm.Cond.instanceMethod ({ cls := "SelectiveUndo", name := "changes", desc := "()I" } : Jvm.MethodName)) ∈ lw_all := lw_g (lw_at lw_m1 130 rfl) rfl
theorem q147 : (Jvm.Cond.selects "SelectiveUndo" ({ cls := "SelectiveUndo", name := "changes", desc := "()I" } : Jvm.MethodName) ({ cls := "SelectiveUndo", name := "changes", desc := "()I" } : Jvm.MethodName)) ∈ lw_all := lw_g (lw_at lw_m1 131 rfl) rfl
theorem q148 : (Jvm.Cond.code ({ cls := "SelectiveUndo", name := "changes", desc := "()I" } : Jvm.MethodName) prog_1_method_20_code (1 : Nat) (Option.some Jvm.ClassFile.FieldType.int)) ∈ lw_all := lw_g (lw_at lw_m1 132 rfl) rfl
theorem q150 : (Jvm.Cond.instanceMethod ({ cls := "SelectiveUndo", name := "isOn", desc := "(I)Z" } : Jvm.MethodName)) ∈ lw_all := lw_g (lw_at lw_m1 134 rfl) rfl
theorem q151 : (Jvm.Cond.selects "SelectiveUndo" ({ cls := "SelectiveUndo", name := "isOn", desc := "(I)Z" } : Jvm.MethodName) ({ cls := "SelectiveUndo", name := "isOn", desc := "(I)Z" } : Jvm.MethodName)) ∈ lw_all := lw_g (lw_at lw_m1 135 rfl) rfl
theorem q152 : (Jvm.Cond.code ({ cls := "SelectiveUndo", name := "isOn", desc := "(I)Z" } : Jvm.MethodName) prog_1_method_21_code (2 : Nat) (Option.some Jvm.ClassFile.FieldType.boolean)) ∈ lw_all := lw_g (lw_at lw_m1 136 rfl) rfl
theorem q154 : (Jvm.Cond.instanceMethod ({ cls := "SelectiveUndo", name := "length", desc := "()I" } : Jvm.MethodName)) ∈ lw_all := lw_g (lw_at lw_m1 138 rfl) rfl
theorem q155 : (Jvm.Cond.selects "SelectiveUndo" ({ cls := "SelectiveUndo", name := "length", desc := "()I" } : Jvm.MethodName) ({ cls := "SelectiveUndo", name := "length", desc := "()I" } : Jvm.MethodName)) ∈ lw_all := lw_g (lw_at lw_m1 139 rfl) rfl
theorem q156 : (Jvm.Cond.code ({ cls := "SelectiveUndo", name := "length", desc := "()I" } : Jvm.MethodName) prog_1_method_22_code (1 : Nat) (Option.some Jvm.ClassFile.FieldType.int)) ∈ lw_all := lw_g (lw_at lw_m1 140 rfl) rfl
theorem q158 : (Jvm.Cond.instanceMethod ({ cls := "SelectiveUndo", name := "letter", desc := "(I)I" } : Jvm.MethodName)) ∈ lw_all := lw_g (lw_at lw_m1 142 rfl) rfl
theorem q159 : (Jvm.Cond.selects "SelectiveUndo" ({ cls := "SelectiveUndo", name := "letter", desc := "(I)I" } : Jvm.MethodName) ({ cls := "SelectiveUndo", name := "letter", desc := "(I)I" } : Jvm.MethodName)) ∈ lw_all := lw_g (lw_at lw_m1 143 rfl) rfl
theorem q160 : (Jvm.Cond.code ({ cls := "SelectiveUndo", name := "letter", desc := "(I)I" } : Jvm.MethodName) prog_1_method_23_code (3 : Nat) (Option.some Jvm.ClassFile.FieldType.int)) ∈ lw_all := lw_g (lw_at lw_m1 144 rfl) rfl
theorem q162 : (Jvm.Cond.instanceMethod ({ cls := "SelectiveUndo", name := "origin", desc := "(I)I" } : Jvm.MethodName)) ∈ lw_all := lw_g (lw_at lw_m1 146 rfl) rfl
theorem q163 : (Jvm.Cond.selects "SelectiveUndo" ({ cls := "SelectiveUndo", name := "origin", desc := "(I)I" } : Jvm.MethodName) ({ cls := "SelectiveUndo", name := "origin", desc := "(I)I" } : Jvm.MethodName)) ∈ lw_all := lw_g (lw_at lw_m1 147 rfl) rfl
theorem q164 : (Jvm.Cond.code ({ cls := "SelectiveUndo", name := "origin", desc := "(I)I" } : Jvm.MethodName) prog_1_method_24_code (3 : Nat) (Option.some Jvm.ClassFile.FieldType.int)) ∈ lw_all := lw_g (lw_at lw_m1 148 rfl) rfl
theorem q166 : (Jvm.Cond.instanceMethod ({ cls := "SelectiveUndo", name := "where", desc := "(I)I" } : Jvm.MethodName)) ∈ lw_all := lw_g (lw_at lw_m1 150 rfl) rfl
theorem q167 : (Jvm.Cond.selects "SelectiveUndo" ({ cls := "SelectiveUndo", name := "where", desc := "(I)I" } : Jvm.MethodName) ({ cls := "SelectiveUndo", name := "where", desc := "(I)I" } : Jvm.MethodName)) ∈ lw_all := lw_g (lw_at lw_m1 151 rfl) rfl
theorem q168 : (Jvm.Cond.code ({ cls := "SelectiveUndo", name := "where", desc := "(I)I" } : Jvm.MethodName) prog_1_method_25_code (3 : Nat) (Option.some Jvm.ClassFile.FieldType.int)) ∈ lw_all := lw_g (lw_at lw_m1 152 rfl) rfl
theorem q169 : (Jvm.Cond.methodLink "SelectiveUndo" (99 : Nat) ({ cls := "SelectiveUndo", name := "placeOf", desc := "(I)I" } : Jvm.MethodName)) ∈ lw_all := lw_g (lw_at lw_m1 153 rfl) rfl
theorem q170 : (Jvm.Cond.privateMethod ({ cls := "SelectiveUndo", name := "placeOf", desc := "(I)I" } : Jvm.MethodName)) ∈ lw_tbl := lw_at lw_m1 154 rfl
theorem q171 : (Jvm.Cond.instanceMethod ({ cls := "SelectiveUndo", name := "placeOf", desc := "(I)I" } : Jvm.MethodName)) ∈ lw_all := lw_g (lw_at lw_m1 155 rfl) rfl
theorem q172 : (Jvm.Cond.code ({ cls := "SelectiveUndo", name := "placeOf", desc := "(I)I" } : Jvm.MethodName) prog_1_method_9_code (6 : Nat) (Option.some Jvm.ClassFile.FieldType.int)) ∈ lw_all := lw_g (lw_at lw_m1 156 rfl) rfl
theorem q174 : (Jvm.Cond.instanceMethod ({ cls := "SelectiveUndo", name := "covers", desc := "(I)I" } : Jvm.MethodName)) ∈ lw_all := lw_g (lw_at lw_m1 158 rfl) rfl
theorem q175 : (Jvm.Cond.selects "SelectiveUndo" ({ cls := "SelectiveUndo", name := "covers", desc := "(I)I" } : Jvm.MethodName) ({ cls := "SelectiveUndo", name := "covers", desc := "(I)I" } : Jvm.MethodName)) ∈ lw_all := lw_g (lw_at lw_m1 159 rfl) rfl
theorem q176 : (Jvm.Cond.code ({ cls := "SelectiveUndo", name := "covers", desc := "(I)I" } : Jvm.MethodName) prog_1_method_26_code (4 : Nat) (Option.some Jvm.ClassFile.FieldType.int)) ∈ lw_all := lw_g (lw_at lw_m1 160 rfl) rfl
theorem q178 : (Jvm.Cond.instanceMethod ({ cls := "SelectiveUndo", name := "coveredBy", desc := "(I)I" } : Jvm.MethodName)) ∈ lw_all := lw_g (lw_at lw_m1 162 rfl) rfl
theorem q179 : (Jvm.Cond.selects "SelectiveUndo" ({ cls := "SelectiveUndo", name := "coveredBy", desc := "(I)I" } : Jvm.MethodName) ({ cls := "SelectiveUndo", name := "coveredBy", desc := "(I)I" } : Jvm.MethodName)) ∈ lw_all := lw_g (lw_at lw_m1 163 rfl) rfl
theorem q180 : (Jvm.Cond.code ({ cls := "SelectiveUndo", name := "coveredBy", desc := "(I)I" } : Jvm.MethodName) prog_1_method_27_code (2 : Nat) (Option.some Jvm.ClassFile.FieldType.int)) ∈ lw_all := lw_g (lw_at lw_m1 164 rfl) rfl
theorem q182 : (Jvm.Cond.instanceMethod ({ cls := "SelectiveUndo", name := "effect", desc := "(I)I" } : Jvm.MethodName)) ∈ lw_all := lw_g (lw_at lw_m1 166 rfl) rfl
theorem q183 : (Jvm.Cond.selects "SelectiveUndo" ({ cls := "SelectiveUndo", name := "effect", desc := "(I)I" } : Jvm.MethodName) ({ cls := "SelectiveUndo", name := "effect", desc := "(I)I" } : Jvm.MethodName)) ∈ lw_all := lw_g (lw_at lw_m1 167 rfl) rfl
theorem q184 : (Jvm.Cond.code ({ cls := "SelectiveUndo", name := "effect", desc := "(I)I" } : Jvm.MethodName) prog_1_method_28_code (6 : Nat) (Option.some Jvm.ClassFile.FieldType.int)) ∈ lw_all := lw_g (lw_at lw_m1 168 rfl) rfl
theorem q186 : (Jvm.Cond.instanceMethod ({ cls := "SelectiveUndo", name := "digest", desc := "()I" } : Jvm.MethodName)) ∈ lw_all := lw_g (lw_at lw_m1 170 rfl) rfl
theorem q187 : (Jvm.Cond.selects "SelectiveUndo" ({ cls := "SelectiveUndo", name := "digest", desc := "()I" } : Jvm.MethodName) ({ cls := "SelectiveUndo", name := "digest", desc := "()I" } : Jvm.MethodName)) ∈ lw_all := lw_g (lw_at lw_m1 171 rfl) rfl
theorem q188 : (Jvm.Cond.code ({ cls := "SelectiveUndo", name := "digest", desc := "()I" } : Jvm.MethodName) prog_1_method_29_code (5 : Nat) (Option.some Jvm.ClassFile.FieldType.int)) ∈ lw_all := lw_g (lw_at lw_m1 172 rfl) rfl
theorem in_X0 : ∀ w ∈ wsX00, w ∈ lw_all := lw_in wsX00 [42, 44, 46, 48, 50, 52, 54, 56, 58, 60, 62, 64, 66, 68, 70] (by decide +kernel) (by decide +kernel)

/-! java/lang/Object -/
set_option maxRecDepth 100000
def RJ0 : String := "java/lang/Object"
abbrev cJ0_init : ByteArray := object_method_1_code
def yJ0_init : MethodName := ⟨RJ0, "<init>", "()V"⟩
theorem q25 : (Jvm.Cond.instanceMethod ({ cls := "java/lang/Object", name := "<init>", desc := "()V" } : Jvm.MethodName)) ∈ lw_all := lw_g (lw_at lw_m1 9 rfl) rfl
theorem q26 : (Jvm.Cond.code ({ cls := "java/lang/Object", name := "<init>", desc := "()V" } : Jvm.MethodName) object_method_1_code (1 : Nat) (Option.none : Option Jvm.ClassFile.FieldType)) ∈ lw_all := lw_g (lw_at lw_m1 10 rfl) rfl

/-! SelectiveUndoModel -/
set_option maxRecDepth 100000
def RX1 : String := "SelectiveUndoModel"
def TX1 : u_T := fun k => match k with
  | 0 => ("SelectiveUndoModel", "list", "[I", true)
  | 1 => ("SelectiveUndoModel", "listed", "I", false)
  | 2 => ("SelectiveUndoModel", "types", "[Z", true)
  | 3 => ("SelectiveUndoModel", "letters", "[I", true)
  | 4 => ("SelectiveUndoModel", "covered", "[I", true)
  | 5 => ("SelectiveUndoModel", "on", "[Z", true)
  | _ => ("SelectiveUndoModel", "count", "I", false)
def tyX1 : Nat → FieldType := fun k => match k with
  | 0 => .array .int
  | 1 => .int
  | 2 => .array .boolean
  | 3 => .array .int
  | 4 => .array .int
  | 5 => .array .boolean
  | _ => .int
abbrev wsX10 : List Cond := u_ws RX1 TX1 7
theorem nmX1 : ∀ a, a < 7 → ∀ b, b < 7 → a ≠ b → (TX1 a).2.1 ≠ (TX1 b).2.1 := by decide +kernel
theorem tyX1_ok : ∀ k, k < 7 → parseFieldDescriptor (TX1 k).2.2.1 = some (tyX1 k) := by decide +kernel
abbrev cX1_init : ByteArray := prog_3_method_1_code
def yX1_init : MethodName := ⟨RX1, "<init>", "()V"⟩
abbrev cX1_type : ByteArray := prog_3_method_6_code
def yX1_type : MethodName := ⟨RX1, "type", "(II)I"⟩
abbrev cX1_length : ByteArray := prog_3_method_14_code
def yX1_length : MethodName := ⟨RX1, "length", "()I"⟩
abbrev cX1_isShown : ByteArray := prog_3_method_4_code
def yX1_isShown : MethodName := ⟨RX1, "isShown", "(I)Z"⟩
abbrev cX1_coversOf : ByteArray := prog_3_method_3_code
def yX1_coversOf : MethodName := ⟨RX1, "coversOf", "(I)I"⟩
abbrev cX1_charAt : ByteArray := prog_3_method_5_code
def yX1_charAt : MethodName := ⟨RX1, "charAt", "(I)I"⟩
abbrev cX1_erase : ByteArray := prog_3_method_7_code
def yX1_erase : MethodName := ⟨RX1, "erase", "(II)I"⟩
abbrev cX1_put : ByteArray := prog_3_method_8_code
def yX1_put : MethodName := ⟨RX1, "put", "(II)I"⟩
abbrev cX1_isChange : ByteArray := prog_3_method_2_code
def yX1_isChange : MethodName := ⟨RX1, "isChange", "(I)Z"⟩
abbrev cX1_undo : ByteArray := prog_3_method_9_code
def yX1_undo : MethodName := ⟨RX1, "undo", "()I"⟩
abbrev cX1_redo : ByteArray := prog_3_method_10_code
def yX1_redo : MethodName := ⟨RX1, "redo", "()I"⟩
abbrev cX1_flip : ByteArray := prog_3_method_11_code
def yX1_flip : MethodName := ⟨RX1, "flip", "(II)I"⟩
abbrev cX1_changes : ByteArray := prog_3_method_12_code
def yX1_changes : MethodName := ⟨RX1, "changes", "()I"⟩
abbrev cX1_isOn : ByteArray := prog_3_method_13_code
def yX1_isOn : MethodName := ⟨RX1, "isOn", "(I)Z"⟩
abbrev cX1_letter : ByteArray := prog_3_method_15_code
def yX1_letter : MethodName := ⟨RX1, "letter", "(I)I"⟩
abbrev cX1_origin : ByteArray := prog_3_method_16_code
def yX1_origin : MethodName := ⟨RX1, "origin", "(I)I"⟩
abbrev cX1_where : ByteArray := prog_3_method_17_code
def yX1_where : MethodName := ⟨RX1, "where", "(I)I"⟩
abbrev cX1_covers : ByteArray := prog_3_method_18_code
def yX1_covers : MethodName := ⟨RX1, "covers", "(I)I"⟩
abbrev cX1_coveredBy : ByteArray := prog_3_method_19_code
def yX1_coveredBy : MethodName := ⟨RX1, "coveredBy", "(I)I"⟩
abbrev cX1_effect : ByteArray := prog_3_method_20_code
def yX1_effect : MethodName := ⟨RX1, "effect", "(I)I"⟩
abbrev cX1_digest : ByteArray := prog_3_method_21_code
def yX1_digest : MethodName := ⟨RX1, "digest", "()I"⟩
theorem q18 : (Jvm.Cond.initialized "SelectiveUndoModel") ∈ lw_all := lw_g (lw_at lw_m1 2 rfl) rfl
theorem q190 : (Jvm.Cond.instantiable "SelectiveUndoModel" (7 : Nat)) ∈ lw_all := lw_g (lw_at lw_m1 174 rfl) rfl
theorem q192 : (Jvm.Cond.instanceMethod ({ cls := "SelectiveUndoModel", name := "<init>", desc := "()V" } : Jvm.MethodName)) ∈ lw_all := lw_g (lw_at lw_m1 176 rfl) rfl
theorem q193 : (Jvm.Cond.code ({ cls := "SelectiveUndoModel", name := "<init>", desc := "()V" } : Jvm.MethodName) prog_3_method_1_code (1 : Nat) (Option.none : Option Jvm.ClassFile.FieldType)) ∈ lw_all := lw_g (lw_at lw_m1 177 rfl) rfl
theorem q194 : (Jvm.Cond.methodLink "SelectiveUndoModel" (1 : Nat) ({ cls := "java/lang/Object", name := "<init>", desc := "()V" } : Jvm.MethodName)) ∈ lw_all := lw_g (lw_at lw_m1 178 rfl) rfl
theorem q195 : (Jvm.Cond.fieldLink "SelectiveUndoModel" (7 : Nat) "SelectiveUndoModel" "list" "[I") ∈ lw_all := lw_g (lw_at lw_m1 179 rfl) rfl
theorem q196 : (Jvm.Cond.fieldLink "SelectiveUndoModel" (34 : Nat) "SelectiveUndoModel" "listed" "I") ∈ lw_all := lw_g (lw_at lw_m1 180 rfl) rfl
theorem q197 : (Jvm.Cond.fieldLink "SelectiveUndoModel" (13 : Nat) "SelectiveUndoModel" "types" "[Z") ∈ lw_all := lw_g (lw_at lw_m1 181 rfl) rfl
theorem q198 : (Jvm.Cond.fieldLink "SelectiveUndoModel" (17 : Nat) "SelectiveUndoModel" "letters" "[I") ∈ lw_all := lw_g (lw_at lw_m1 182 rfl) rfl
theorem q199 : (Jvm.Cond.fieldLink "SelectiveUndoModel" (20 : Nat) "SelectiveUndoModel" "covered" "[I") ∈ lw_all := lw_g (lw_at lw_m1 183 rfl) rfl
theorem q200 : (Jvm.Cond.fieldLink "SelectiveUndoModel" (23 : Nat) "SelectiveUndoModel" "on" "[Z") ∈ lw_all := lw_g (lw_at lw_m1 184 rfl) rfl
theorem q201 : (Jvm.Cond.fieldLink "SelectiveUndoModel" (26 : Nat) "SelectiveUndoModel" "count" "I") ∈ lw_all := lw_g (lw_at lw_m1 185 rfl) rfl
theorem q202 : (Jvm.Cond.laysFinal "SelectiveUndoModel" "SelectiveUndoModel" "list" "[I") ∈ lw_all := lw_g (lw_at lw_m1 186 rfl) rfl
theorem q203 : (Jvm.Cond.soleField "SelectiveUndoModel" "list") ∈ lw_all := lw_g (lw_at lw_m1 187 rfl) rfl
theorem q204 : (Jvm.Cond.lays "SelectiveUndoModel" "SelectiveUndoModel" "listed" "I") ∈ lw_all := lw_g (lw_at lw_m1 188 rfl) rfl
theorem q205 : (Jvm.Cond.soleField "SelectiveUndoModel" "listed") ∈ lw_all := lw_g (lw_at lw_m1 189 rfl) rfl
theorem q206 : (Jvm.Cond.laysFinal "SelectiveUndoModel" "SelectiveUndoModel" "types" "[Z") ∈ lw_all := lw_g (lw_at lw_m1 190 rfl) rfl
theorem q207 : (Jvm.Cond.soleField "SelectiveUndoModel" "types") ∈ lw_all := lw_g (lw_at lw_m1 191 rfl) rfl
theorem q208 : (Jvm.Cond.laysFinal "SelectiveUndoModel" "SelectiveUndoModel" "letters" "[I") ∈ lw_all := lw_g (lw_at lw_m1 192 rfl) rfl
theorem q209 : (Jvm.Cond.soleField "SelectiveUndoModel" "letters") ∈ lw_all := lw_g (lw_at lw_m1 193 rfl) rfl
theorem q210 : (Jvm.Cond.laysFinal "SelectiveUndoModel" "SelectiveUndoModel" "covered" "[I") ∈ lw_all := lw_g (lw_at lw_m1 194 rfl) rfl
theorem q211 : (Jvm.Cond.soleField "SelectiveUndoModel" "covered") ∈ lw_all := lw_g (lw_at lw_m1 195 rfl) rfl
theorem q212 : (Jvm.Cond.laysFinal "SelectiveUndoModel" "SelectiveUndoModel" "on" "[Z") ∈ lw_all := lw_g (lw_at lw_m1 196 rfl) rfl
theorem q213 : (Jvm.Cond.soleField "SelectiveUndoModel" "on") ∈ lw_all := lw_g (lw_at lw_m1 197 rfl) rfl
theorem q214 : (Jvm.Cond.lays "SelectiveUndoModel" "SelectiveUndoModel" "count" "I") ∈ lw_all := lw_g (lw_at lw_m1 198 rfl) rfl
theorem q215 : (Jvm.Cond.soleField "SelectiveUndoModel" "count") ∈ lw_all := lw_g (lw_at lw_m1 199 rfl) rfl
theorem q216 : (Jvm.Cond.superclass "SelectiveUndoModel" "java/lang/Object") ∈ lw_all := lw_g (lw_at lw_m1 200 rfl) rfl
theorem q218 : (Jvm.Cond.instanceMethod ({ cls := "SelectiveUndoModel", name := "type", desc := "(II)I" } : Jvm.MethodName)) ∈ lw_all := lw_g (lw_at lw_m1 202 rfl) rfl
theorem q219 : (Jvm.Cond.selects "SelectiveUndoModel" ({ cls := "SelectiveUndoModel", name := "type", desc := "(II)I" } : Jvm.MethodName) ({ cls := "SelectiveUndoModel", name := "type", desc := "(II)I" } : Jvm.MethodName)) ∈ lw_all := lw_g (lw_at lw_m1 203 rfl) rfl
theorem q220 : (Jvm.Cond.code ({ cls := "SelectiveUndoModel", name := "type", desc := "(II)I" } : Jvm.MethodName) prog_3_method_6_code (5 : Nat) (Option.some Jvm.ClassFile.FieldType.int)) ∈ lw_all := lw_g (lw_at lw_m1 204 rfl) rfl
theorem q221 : (Jvm.Cond.methodLink "SelectiveUndoModel" (41 : Nat) ({ cls := "SelectiveUndoModel", name := "length", desc := "()I" } : Jvm.MethodName)) ∈ lw_all := lw_g (lw_at lw_m1 205 rfl) rfl
theorem q222 : (Jvm.Cond.instanceMethod ({ cls := "SelectiveUndoModel", name := "length", desc := "()I" } : Jvm.MethodName)) ∈ lw_all := lw_g (lw_at lw_m1 206 rfl) rfl
theorem q223 : (Jvm.Cond.selects "SelectiveUndoModel" ({ cls := "SelectiveUndoModel", name := "length", desc := "()I" } : Jvm.MethodName) ({ cls := "SelectiveUndoModel", name := "length", desc := "()I" } : Jvm.MethodName)) ∈ lw_all := lw_g (lw_at lw_m1 207 rfl) rfl
theorem q224 : (Jvm.Cond.code ({ cls := "SelectiveUndoModel", name := "length", desc := "()I" } : Jvm.MethodName) prog_3_method_14_code (3 : Nat) (Option.some Jvm.ClassFile.FieldType.int)) ∈ lw_all := lw_g (lw_at lw_m1 208 rfl) rfl
theorem q225 : (Jvm.Cond.methodLink "SelectiveUndoModel" (37 : Nat) ({ cls := "SelectiveUndoModel", name := "isShown", desc := "(I)Z" } : Jvm.MethodName)) ∈ lw_all := lw_g (lw_at lw_m1 209 rfl) rfl
theorem q226 : (Jvm.Cond.privateMethod ({ cls := "SelectiveUndoModel", name := "isShown", desc := "(I)Z" } : Jvm.MethodName)) ∈ lw_tbl := lw_at lw_m1 210 rfl
theorem q227 : (Jvm.Cond.instanceMethod ({ cls := "SelectiveUndoModel", name := "isShown", desc := "(I)Z" } : Jvm.MethodName)) ∈ lw_all := lw_g (lw_at lw_m1 211 rfl) rfl
theorem q228 : (Jvm.Cond.code ({ cls := "SelectiveUndoModel", name := "isShown", desc := "(I)Z" } : Jvm.MethodName) prog_3_method_4_code (2 : Nat) (Option.some Jvm.ClassFile.FieldType.boolean)) ∈ lw_all := lw_g (lw_at lw_m1 212 rfl) rfl
theorem q229 : (Jvm.Cond.methodLink "SelectiveUndoModel" (30 : Nat) ({ cls := "SelectiveUndoModel", name := "coversOf", desc := "(I)I" } : Jvm.MethodName)) ∈ lw_all := lw_g (lw_at lw_m1 213 rfl) rfl
theorem q230 : (Jvm.Cond.privateMethod ({ cls := "SelectiveUndoModel", name := "coversOf", desc := "(I)I" } : Jvm.MethodName)) ∈ lw_tbl := lw_at lw_m1 214 rfl
theorem q231 : (Jvm.Cond.instanceMethod ({ cls := "SelectiveUndoModel", name := "coversOf", desc := "(I)I" } : Jvm.MethodName)) ∈ lw_all := lw_g (lw_at lw_m1 215 rfl) rfl
theorem q232 : (Jvm.Cond.code ({ cls := "SelectiveUndoModel", name := "coversOf", desc := "(I)I" } : Jvm.MethodName) prog_3_method_3_code (4 : Nat) (Option.some Jvm.ClassFile.FieldType.int)) ∈ lw_all := lw_g (lw_at lw_m1 216 rfl) rfl
theorem q233 : (Jvm.Cond.methodLink "SelectiveUndoModel" (45 : Nat) ({ cls := "SelectiveUndoModel", name := "charAt", desc := "(I)I" } : Jvm.MethodName)) ∈ lw_all := lw_g (lw_at lw_m1 217 rfl) rfl
theorem q234 : (Jvm.Cond.privateMethod ({ cls := "SelectiveUndoModel", name := "charAt", desc := "(I)I" } : Jvm.MethodName)) ∈ lw_tbl := lw_at lw_m1 218 rfl
theorem q235 : (Jvm.Cond.instanceMethod ({ cls := "SelectiveUndoModel", name := "charAt", desc := "(I)I" } : Jvm.MethodName)) ∈ lw_all := lw_g (lw_at lw_m1 219 rfl) rfl
theorem q236 : (Jvm.Cond.code ({ cls := "SelectiveUndoModel", name := "charAt", desc := "(I)I" } : Jvm.MethodName) prog_3_method_5_code (4 : Nat) (Option.some Jvm.ClassFile.FieldType.int)) ∈ lw_all := lw_g (lw_at lw_m1 220 rfl) rfl
theorem q238 : (Jvm.Cond.instanceMethod ({ cls := "SelectiveUndoModel", name := "erase", desc := "(II)I" } : Jvm.MethodName)) ∈ lw_all := lw_g (lw_at lw_m1 222 rfl) rfl
theorem q239 : (Jvm.Cond.selects "SelectiveUndoModel" ({ cls := "SelectiveUndoModel", name := "erase", desc := "(II)I" } : Jvm.MethodName) ({ cls := "SelectiveUndoModel", name := "erase", desc := "(II)I" } : Jvm.MethodName)) ∈ lw_all := lw_g (lw_at lw_m1 223 rfl) rfl
theorem q240 : (Jvm.Cond.code ({ cls := "SelectiveUndoModel", name := "erase", desc := "(II)I" } : Jvm.MethodName) prog_3_method_7_code (6 : Nat) (Option.some Jvm.ClassFile.FieldType.int)) ∈ lw_all := lw_g (lw_at lw_m1 224 rfl) rfl
theorem q242 : (Jvm.Cond.instanceMethod ({ cls := "SelectiveUndoModel", name := "put", desc := "(II)I" } : Jvm.MethodName)) ∈ lw_all := lw_g (lw_at lw_m1 226 rfl) rfl
theorem q243 : (Jvm.Cond.selects "SelectiveUndoModel" ({ cls := "SelectiveUndoModel", name := "put", desc := "(II)I" } : Jvm.MethodName) ({ cls := "SelectiveUndoModel", name := "put", desc := "(II)I" } : Jvm.MethodName)) ∈ lw_all := lw_g (lw_at lw_m1 227 rfl) rfl
theorem q244 : (Jvm.Cond.code ({ cls := "SelectiveUndoModel", name := "put", desc := "(II)I" } : Jvm.MethodName) prog_3_method_8_code (4 : Nat) (Option.some Jvm.ClassFile.FieldType.int)) ∈ lw_all := lw_g (lw_at lw_m1 228 rfl) rfl
theorem q245 : (Jvm.Cond.methodLink "SelectiveUndoModel" (48 : Nat) ({ cls := "SelectiveUndoModel", name := "isChange", desc := "(I)Z" } : Jvm.MethodName)) ∈ lw_all := lw_g (lw_at lw_m1 229 rfl) rfl
theorem q246 : (Jvm.Cond.privateMethod ({ cls := "SelectiveUndoModel", name := "isChange", desc := "(I)Z" } : Jvm.MethodName)) ∈ lw_tbl := lw_at lw_m1 230 rfl
theorem q247 : (Jvm.Cond.instanceMethod ({ cls := "SelectiveUndoModel", name := "isChange", desc := "(I)Z" } : Jvm.MethodName)) ∈ lw_all := lw_g (lw_at lw_m1 231 rfl) rfl
theorem q248 : (Jvm.Cond.code ({ cls := "SelectiveUndoModel", name := "isChange", desc := "(I)Z" } : Jvm.MethodName) prog_3_method_2_code (2 : Nat) (Option.some Jvm.ClassFile.FieldType.boolean)) ∈ lw_all := lw_g (lw_at lw_m1 232 rfl) rfl
theorem q250 : (Jvm.Cond.instanceMethod ({ cls := "SelectiveUndoModel", name := "undo", desc := "()I" } : Jvm.MethodName)) ∈ lw_all := lw_g (lw_at lw_m1 234 rfl) rfl
theorem q251 : (Jvm.Cond.selects "SelectiveUndoModel" ({ cls := "SelectiveUndoModel", name := "undo", desc := "()I" } : Jvm.MethodName) ({ cls := "SelectiveUndoModel", name := "undo", desc := "()I" } : Jvm.MethodName)) ∈ lw_all := lw_g (lw_at lw_m1 235 rfl) rfl
theorem q252 : (Jvm.Cond.code ({ cls := "SelectiveUndoModel", name := "undo", desc := "()I" } : Jvm.MethodName) prog_3_method_9_code (2 : Nat) (Option.some Jvm.ClassFile.FieldType.int)) ∈ lw_all := lw_g (lw_at lw_m1 236 rfl) rfl
theorem q254 : (Jvm.Cond.instanceMethod ({ cls := "SelectiveUndoModel", name := "redo", desc := "()I" } : Jvm.MethodName)) ∈ lw_all := lw_g (lw_at lw_m1 238 rfl) rfl
theorem q255 : (Jvm.Cond.selects "SelectiveUndoModel" ({ cls := "SelectiveUndoModel", name := "redo", desc := "()I" } : Jvm.MethodName) ({ cls := "SelectiveUndoModel", name := "redo", desc := "()I" } : Jvm.MethodName)) ∈ lw_all := lw_g (lw_at lw_m1 239 rfl) rfl
theorem q256 : (Jvm.Cond.code ({ cls := "SelectiveUndoModel", name := "redo", desc := "()I" } : Jvm.MethodName) prog_3_method_10_code (2 : Nat) (Option.some Jvm.ClassFile.FieldType.int)) ∈ lw_all := lw_g (lw_at lw_m2 0 rfl) rfl
theorem q258 : (Jvm.Cond.instanceMethod ({ cls := "SelectiveUndoModel", name := "flip", desc := "(II)I" } : Jvm.MethodName)) ∈ lw_all := lw_g (lw_at lw_m2 2 rfl) rfl
theorem q259 : (Jvm.Cond.selects "SelectiveUndoModel" ({ cls := "SelectiveUndoModel", name := "flip", desc := "(II)I" } : Jvm.MethodName) ({ cls := "SelectiveUndoModel", name := "flip", desc := "(II)I" } : Jvm.MethodName)) ∈ lw_all := lw_g (lw_at lw_m2 3 rfl) rfl
theorem q260 : (Jvm.Cond.code ({ cls := "SelectiveUndoModel", name := "flip", desc := "(II)I" } : Jvm.MethodName) prog_3_method_11_code (5 : Nat) (Option.some Jvm.ClassFile.FieldType.int)) ∈ lw_all := lw_g (lw_at lw_m2 4 rfl) rfl
theorem q262 : (Jvm.Cond.instanceMethod ({ cls := "SelectiveUndoModel", name := "changes", desc := "()I" } : Jvm.MethodName)) ∈ lw_all := lw_g (lw_at lw_m2 6 rfl) rfl
theorem q263 : (Jvm.Cond.selects "SelectiveUndoModel" ({ cls := "SelectiveUndoModel", name := "changes", desc := "()I" } : Jvm.MethodName) ({ cls := "SelectiveUndoModel", name := "changes", desc := "()I" } : Jvm.MethodName)) ∈ lw_all := lw_g (lw_at lw_m2 7 rfl) rfl
theorem q264 : (Jvm.Cond.code ({ cls := "SelectiveUndoModel", name := "changes", desc := "()I" } : Jvm.MethodName) prog_3_method_12_code (1 : Nat) (Option.some Jvm.ClassFile.FieldType.int)) ∈ lw_all := lw_g (lw_at lw_m2 8 rfl) rfl
theorem q266 : (Jvm.Cond.instanceMethod ({ cls := "SelectiveUndoModel", name := "isOn", desc := "(I)Z" } : Jvm.MethodName)) ∈ lw_all := lw_g (lw_at lw_m2 10 rfl) rfl
theorem q267 : (Jvm.Cond.selects "SelectiveUndoModel" ({ cls := "SelectiveUndoModel", name := "isOn", desc := "(I)Z" } : Jvm.MethodName) ({ cls := "SelectiveUndoModel", name := "isOn", desc := "(I)Z" } : Jvm.MethodName)) ∈ lw_all := lw_g (lw_at lw_m2 11 rfl) rfl
theorem q268 : (Jvm.Cond.code ({ cls := "SelectiveUndoModel", name := "isOn", desc := "(I)Z" } : Jvm.MethodName) prog_3_method_13_code (2 : Nat) (Option.some Jvm.ClassFile.FieldType.boolean)) ∈ lw_all := lw_g (lw_at lw_m2 12 rfl) rfl
theorem q271 : (Jvm.Cond.instanceMethod ({ cls := "SelectiveUndoModel", name := "letter", desc := "(I)I" } : Jvm.MethodName)) ∈ lw_all := lw_g (lw_at lw_m2 15 rfl) rfl
theorem q272 : (Jvm.Cond.selects "SelectiveUndoModel" ({ cls := "SelectiveUndoModel", name := "letter", desc := "(I)I" } : Jvm.MethodName) ({ cls := "SelectiveUndoModel", name := "letter", desc := "(I)I" } : Jvm.MethodName)) ∈ lw_all := lw_g (lw_at lw_m2 16 rfl) rfl
theorem q273 : (Jvm.Cond.code ({ cls := "SelectiveUndoModel", name := "letter", desc := "(I)I" } : Jvm.MethodName) prog_3_method_15_code (3 : Nat) (Option.some Jvm.ClassFile.FieldType.int)) ∈ lw_all := lw_g (lw_at lw_m2 17 rfl) rfl
theorem q275 : (Jvm.Cond.instanceMethod ({ cls := "SelectiveUndoModel", name := "origin", desc := "(I)I" } : Jvm.MethodName)) ∈ lw_all := lw_g (lw_at lw_m2 19 rfl) rfl
theorem q276 : (Jvm.Cond.selects "SelectiveUndoModel" ({ cls := "SelectiveUndoModel", name := "origin", desc := "(I)I" } : Jvm.MethodName) ({ cls := "SelectiveUndoModel", name := "origin", desc := "(I)I" } : Jvm.MethodName)) ∈ lw_all := lw_g (lw_at lw_m2 20 rfl) rfl
theorem q277 : (Jvm.Cond.code ({ cls := "SelectiveUndoModel", name := "origin", desc := "(I)I" } : Jvm.MethodName) prog_3_method_16_code (2 : Nat) (Option.some Jvm.ClassFile.FieldType.int)) ∈ lw_all := lw_g (lw_at lw_m2 21 rfl) rfl
theorem q279 : (Jvm.Cond.instanceMethod ({ cls := "SelectiveUndoModel", name := "where", desc := "(I)I" } : Jvm.MethodName)) ∈ lw_all := lw_g (lw_at lw_m2 23 rfl) rfl
theorem q280 : (Jvm.Cond.selects "SelectiveUndoModel" ({ cls := "SelectiveUndoModel", name := "where", desc := "(I)I" } : Jvm.MethodName) ({ cls := "SelectiveUndoModel", name := "where", desc := "(I)I" } : Jvm.MethodName)) ∈ lw_all := lw_g (lw_at lw_m2 24 rfl) rfl
theorem q281 : (Jvm.Cond.code ({ cls := "SelectiveUndoModel", name := "where", desc := "(I)I" } : Jvm.MethodName) prog_3_method_17_code (4 : Nat) (Option.some Jvm.ClassFile.FieldType.int)) ∈ lw_all := lw_g (lw_at lw_m2 25 rfl) rfl
theorem q283 : (Jvm.Cond.instanceMethod ({ cls := "SelectiveUndoModel", name := "covers", desc := "(I)I" } : Jvm.MethodName)) ∈ lw_all := lw_g (lw_at lw_m2 27 rfl) rfl
theorem q284 : (Jvm.Cond.selects "SelectiveUndoModel" ({ cls := "SelectiveUndoModel", name := "covers", desc := "(I)I" } : Jvm.MethodName) ({ cls := "SelectiveUndoModel", name := "covers", desc := "(I)I" } : Jvm.MethodName)) ∈ lw_all := lw_g (lw_at lw_m2 28 rfl) rfl
theorem q285 : (Jvm.Cond.code ({ cls := "SelectiveUndoModel", name := "covers", desc := "(I)I" } : Jvm.MethodName) prog_3_method_18_code (4 : Nat) (Option.some Jvm.ClassFile.FieldType.int)) ∈ lw_all := lw_g (lw_at lw_m2 29 rfl) rfl
theorem q287 : (Jvm.Cond.instanceMethod ({ cls := "SelectiveUndoModel", name := "coveredBy", desc := "(I)I" } : Jvm.MethodName)) ∈ lw_all := lw_g (lw_at lw_m2 31 rfl) rfl
theorem q288 : (Jvm.Cond.selects "SelectiveUndoModel" ({ cls := "SelectiveUndoModel", name := "coveredBy", desc := "(I)I" } : Jvm.MethodName) ({ cls := "SelectiveUndoModel", name := "coveredBy", desc := "(I)I" } : Jvm.MethodName)) ∈ lw_all := lw_g (lw_at lw_m2 32 rfl) rfl
theorem q289 : (Jvm.Cond.code ({ cls := "SelectiveUndoModel", name := "coveredBy", desc := "(I)I" } : Jvm.MethodName) prog_3_method_19_code (2 : Nat) (Option.some Jvm.ClassFile.FieldType.int)) ∈ lw_all := lw_g (lw_at lw_m2 33 rfl) rfl
theorem q291 : (Jvm.Cond.instanceMethod ({ cls := "SelectiveUndoModel", name := "effect", desc := "(I)I" } : Jvm.MethodName)) ∈ lw_all := lw_g (lw_at lw_m2 35 rfl) rfl
theorem q292 : (Jvm.Cond.selects "SelectiveUndoModel" ({ cls := "SelectiveUndoModel", name := "effect", desc := "(I)I" } : Jvm.MethodName) ({ cls := "SelectiveUndoModel", name := "effect", desc := "(I)I" } : Jvm.MethodName)) ∈ lw_all := lw_g (lw_at lw_m2 36 rfl) rfl
theorem q293 : (Jvm.Cond.code ({ cls := "SelectiveUndoModel", name := "effect", desc := "(I)I" } : Jvm.MethodName) prog_3_method_20_code (4 : Nat) (Option.some Jvm.ClassFile.FieldType.int)) ∈ lw_all := lw_g (lw_at lw_m2 37 rfl) rfl
theorem q295 : (Jvm.Cond.instanceMethod ({ cls := "SelectiveUndoModel", name := "digest", desc := "()I" } : Jvm.MethodName)) ∈ lw_all := lw_g (lw_at lw_m2 39 rfl) rfl
theorem q296 : (Jvm.Cond.selects "SelectiveUndoModel" ({ cls := "SelectiveUndoModel", name := "digest", desc := "()I" } : Jvm.MethodName) ({ cls := "SelectiveUndoModel", name := "digest", desc := "()I" } : Jvm.MethodName)) ∈ lw_all := lw_g (lw_at lw_m2 40 rfl) rfl
theorem q297 : (Jvm.Cond.code ({ cls := "SelectiveUndoModel", name := "digest", desc := "()I" } : Jvm.MethodName) prog_3_method_21_code (4 : Nat) (Option.some Jvm.ClassFile.FieldType.int)) ∈ lw_all := lw_g (lw_at lw_m2 41 rfl) rfl
theorem in_X1 : ∀ w ∈ wsX10, w ∈ lw_all := lw_in wsX10 [202, 204, 206, 208, 210, 212, 214] (by decide +kernel) (by decide +kernel)

/-! the law's own entry -/
set_option maxRecDepth 100000
abbrev cL_law : ByteArray := code

theorem q73 : (Jvm.Cond.arrayClass Jvm.ClassFile.FieldType.int) ∈ lw_all := lw_g (lw_at lw_m1 57 rfl) rfl
set_option maxRecDepth 100000
theorem q74 : (Jvm.Cond.arrayClass Jvm.ClassFile.FieldType.boolean) ∈ lw_all := lw_g (lw_at lw_m1 58 rfl) rfl
theorem q75 : (Jvm.Cond.arrayClass Jvm.ClassFile.FieldType.long) ∈ lw_all := lw_g (lw_at lw_m1 59 rfl) rfl

theorem q16 : (Jvm.Cond.initialized "SelectiveUndoLaw") ∈ lw_all := lw_g (lw_at lw_m1 0 rfl) rfl
set_option maxRecDepth 100000
theorem q19 : (Jvm.Cond.classLink "SelectiveUndoLaw" (7 : Nat) "SelectiveUndo") ∈ lw_all := lw_g (lw_at lw_m1 3 rfl) rfl
theorem q21 : (Jvm.Cond.methodLink "SelectiveUndoLaw" (9 : Nat) ({ cls := "SelectiveUndo", name := "<init>", desc := "()V" } : Jvm.MethodName)) ∈ lw_all := lw_g (lw_at lw_m1 5 rfl) rfl
theorem q76 : (Jvm.Cond.methodLink "SelectiveUndoLaw" (13 : Nat) ({ cls := "SelectiveUndo", name := "type", desc := "(II)I" } : Jvm.MethodName)) ∈ lw_all := lw_g (lw_at lw_m1 60 rfl) rfl
theorem q113 : (Jvm.Cond.methodLink "SelectiveUndoLaw" (18 : Nat) ({ cls := "SelectiveUndo", name := "erase", desc := "(II)I" } : Jvm.MethodName)) ∈ lw_all := lw_g (lw_at lw_m1 97 rfl) rfl
theorem q121 : (Jvm.Cond.methodLink "SelectiveUndoLaw" (22 : Nat) ({ cls := "SelectiveUndo", name := "put", desc := "(II)I" } : Jvm.MethodName)) ∈ lw_all := lw_g (lw_at lw_m1 105 rfl) rfl
theorem q133 : (Jvm.Cond.methodLink "SelectiveUndoLaw" (26 : Nat) ({ cls := "SelectiveUndo", name := "undo", desc := "()I" } : Jvm.MethodName)) ∈ lw_all := lw_g (lw_at lw_m1 117 rfl) rfl
theorem q137 : (Jvm.Cond.methodLink "SelectiveUndoLaw" (31 : Nat) ({ cls := "SelectiveUndo", name := "redo", desc := "()I" } : Jvm.MethodName)) ∈ lw_all := lw_g (lw_at lw_m1 121 rfl) rfl
theorem q141 : (Jvm.Cond.methodLink "SelectiveUndoLaw" (35 : Nat) ({ cls := "SelectiveUndo", name := "flip", desc := "(II)I" } : Jvm.MethodName)) ∈ lw_all := lw_g (lw_at lw_m1 125 rfl) rfl
theorem q145 : (Jvm.Cond.methodLink "SelectiveUndoLaw" (39 : Nat) ({ cls := "SelectiveUndo", name := "changes", desc := "()I" } : Jvm.MethodName)) ∈ lw_all := lw_g (lw_at lw_m1 129 rfl) rfl
theorem q149 : (Jvm.Cond.methodLink "SelectiveUndoLaw" (43 : Nat) ({ cls := "SelectiveUndo", name := "isOn", desc := "(I)Z" } : Jvm.MethodName)) ∈ lw_all := lw_g (lw_at lw_m1 133 rfl) rfl
theorem q153 : (Jvm.Cond.methodLink "SelectiveUndoLaw" (48 : Nat) ({ cls := "SelectiveUndo", name := "length", desc := "()I" } : Jvm.MethodName)) ∈ lw_all := lw_g (lw_at lw_m1 137 rfl) rfl
theorem q157 : (Jvm.Cond.methodLink "SelectiveUndoLaw" (52 : Nat) ({ cls := "SelectiveUndo", name := "letter", desc := "(I)I" } : Jvm.MethodName)) ∈ lw_all := lw_g (lw_at lw_m1 141 rfl) rfl
theorem q161 : (Jvm.Cond.methodLink "SelectiveUndoLaw" (57 : Nat) ({ cls := "SelectiveUndo", name := "origin", desc := "(I)I" } : Jvm.MethodName)) ∈ lw_all := lw_g (lw_at lw_m1 145 rfl) rfl
theorem q165 : (Jvm.Cond.methodLink "SelectiveUndoLaw" (61 : Nat) ({ cls := "SelectiveUndo", name := "where", desc := "(I)I" } : Jvm.MethodName)) ∈ lw_all := lw_g (lw_at lw_m1 149 rfl) rfl
theorem q173 : (Jvm.Cond.methodLink "SelectiveUndoLaw" (65 : Nat) ({ cls := "SelectiveUndo", name := "covers", desc := "(I)I" } : Jvm.MethodName)) ∈ lw_all := lw_g (lw_at lw_m1 157 rfl) rfl
theorem q177 : (Jvm.Cond.methodLink "SelectiveUndoLaw" (69 : Nat) ({ cls := "SelectiveUndo", name := "coveredBy", desc := "(I)I" } : Jvm.MethodName)) ∈ lw_all := lw_g (lw_at lw_m1 161 rfl) rfl
theorem q181 : (Jvm.Cond.methodLink "SelectiveUndoLaw" (73 : Nat) ({ cls := "SelectiveUndo", name := "effect", desc := "(I)I" } : Jvm.MethodName)) ∈ lw_all := lw_g (lw_at lw_m1 165 rfl) rfl
theorem q185 : (Jvm.Cond.methodLink "SelectiveUndoLaw" (77 : Nat) ({ cls := "SelectiveUndo", name := "digest", desc := "()I" } : Jvm.MethodName)) ∈ lw_all := lw_g (lw_at lw_m1 169 rfl) rfl
theorem q189 : (Jvm.Cond.classLink "SelectiveUndoLaw" (10 : Nat) "SelectiveUndoModel") ∈ lw_all := lw_g (lw_at lw_m1 173 rfl) rfl
theorem q191 : (Jvm.Cond.methodLink "SelectiveUndoLaw" (12 : Nat) ({ cls := "SelectiveUndoModel", name := "<init>", desc := "()V" } : Jvm.MethodName)) ∈ lw_all := lw_g (lw_at lw_m1 175 rfl) rfl
theorem q217 : (Jvm.Cond.methodLink "SelectiveUndoLaw" (17 : Nat) ({ cls := "SelectiveUndoModel", name := "type", desc := "(II)I" } : Jvm.MethodName)) ∈ lw_all := lw_g (lw_at lw_m1 201 rfl) rfl
theorem q237 : (Jvm.Cond.methodLink "SelectiveUndoLaw" (21 : Nat) ({ cls := "SelectiveUndoModel", name := "erase", desc := "(II)I" } : Jvm.MethodName)) ∈ lw_all := lw_g (lw_at lw_m1 221 rfl) rfl
theorem q241 : (Jvm.Cond.methodLink "SelectiveUndoLaw" (25 : Nat) ({ cls := "SelectiveUndoModel", name := "put", desc := "(II)I" } : Jvm.MethodName)) ∈ lw_all := lw_g (lw_at lw_m1 225 rfl) rfl
theorem q249 : (Jvm.Cond.methodLink "SelectiveUndoLaw" (30 : Nat) ({ cls := "SelectiveUndoModel", name := "undo", desc := "()I" } : Jvm.MethodName)) ∈ lw_all := lw_g (lw_at lw_m1 233 rfl) rfl
theorem q253 : (Jvm.Cond.methodLink "SelectiveUndoLaw" (34 : Nat) ({ cls := "SelectiveUndoModel", name := "redo", desc := "()I" } : Jvm.MethodName)) ∈ lw_all := lw_g (lw_at lw_m1 237 rfl) rfl
theorem q257 : (Jvm.Cond.methodLink "SelectiveUndoLaw" (38 : Nat) ({ cls := "SelectiveUndoModel", name := "flip", desc := "(II)I" } : Jvm.MethodName)) ∈ lw_all := lw_g (lw_at lw_m2 1 rfl) rfl
theorem q261 : (Jvm.Cond.methodLink "SelectiveUndoLaw" (42 : Nat) ({ cls := "SelectiveUndoModel", name := "changes", desc := "()I" } : Jvm.MethodName)) ∈ lw_all := lw_g (lw_at lw_m2 5 rfl) rfl
theorem q265 : (Jvm.Cond.methodLink "SelectiveUndoLaw" (47 : Nat) ({ cls := "SelectiveUndoModel", name := "isOn", desc := "(I)Z" } : Jvm.MethodName)) ∈ lw_all := lw_g (lw_at lw_m2 9 rfl) rfl
theorem q269 : (Jvm.Cond.methodLink "SelectiveUndoLaw" (51 : Nat) ({ cls := "SelectiveUndoModel", name := "length", desc := "()I" } : Jvm.MethodName)) ∈ lw_all := lw_g (lw_at lw_m2 13 rfl) rfl
theorem q270 : (Jvm.Cond.methodLink "SelectiveUndoLaw" (56 : Nat) ({ cls := "SelectiveUndoModel", name := "letter", desc := "(I)I" } : Jvm.MethodName)) ∈ lw_all := lw_g (lw_at lw_m2 14 rfl) rfl
theorem q274 : (Jvm.Cond.methodLink "SelectiveUndoLaw" (60 : Nat) ({ cls := "SelectiveUndoModel", name := "origin", desc := "(I)I" } : Jvm.MethodName)) ∈ lw_all := lw_g (lw_at lw_m2 18 rfl) rfl
theorem q278 : (Jvm.Cond.methodLink "SelectiveUndoLaw" (64 : Nat) ({ cls := "SelectiveUndoModel", name := "where", desc := "(I)I" } : Jvm.MethodName)) ∈ lw_all := lw_g (lw_at lw_m2 22 rfl) rfl
theorem q282 : (Jvm.Cond.methodLink "SelectiveUndoLaw" (68 : Nat) ({ cls := "SelectiveUndoModel", name := "covers", desc := "(I)I" } : Jvm.MethodName)) ∈ lw_all := lw_g (lw_at lw_m2 26 rfl) rfl
theorem q286 : (Jvm.Cond.methodLink "SelectiveUndoLaw" (72 : Nat) ({ cls := "SelectiveUndoModel", name := "coveredBy", desc := "(I)I" } : Jvm.MethodName)) ∈ lw_all := lw_g (lw_at lw_m2 30 rfl) rfl
theorem q290 : (Jvm.Cond.methodLink "SelectiveUndoLaw" (76 : Nat) ({ cls := "SelectiveUndoModel", name := "effect", desc := "(I)I" } : Jvm.MethodName)) ∈ lw_all := lw_g (lw_at lw_m2 34 rfl) rfl
theorem q294 : (Jvm.Cond.methodLink "SelectiveUndoLaw" (80 : Nat) ({ cls := "SelectiveUndoModel", name := "digest", desc := "()I" } : Jvm.MethodName)) ∈ lw_all := lw_g (lw_at lw_m2 38 rfl) rfl
end
section
set_option maxRecDepth 100000
theorem dX0_init_0 : decode cX0_init 0 = .ok (.aload_n 0, 1) := by decide +kernel
theorem dX0_init_1 : decode cX0_init 1 = .ok (.invokespecial 1, 3) := by decide +kernel
theorem dX0_init_4 : decode cX0_init 4 = .ok (.aload_n 0, 1) := by decide +kernel
theorem dX0_init_5 : decode cX0_init 5 = .ok (.bipush 49, 2) := by decide +kernel
theorem dX0_init_7 : decode cX0_init 7 = .ok (.newarray .int, 2) := by decide +kernel
theorem dX0_init_9 : decode cX0_init 9 = .ok (.putfield 7, 3) := by decide +kernel
theorem dX0_init_12 : decode cX0_init 12 = .ok (.aload_n 0, 1) := by decide +kernel
theorem dX0_init_13 : decode cX0_init 13 = .ok (.bipush 49, 2) := by decide +kernel
theorem dX0_init_15 : decode cX0_init 15 = .ok (.newarray .int, 2) := by decide +kernel
theorem dX0_init_17 : decode cX0_init 17 = .ok (.putfield 13, 3) := by decide +kernel
theorem dX0_init_20 : decode cX0_init 20 = .ok (.aload_n 0, 1) := by decide +kernel
theorem dX0_init_21 : decode cX0_init 21 = .ok (.bipush 49, 2) := by decide +kernel
theorem dX0_init_23 : decode cX0_init 23 = .ok (.newarray .int, 2) := by decide +kernel
theorem dX0_init_25 : decode cX0_init 25 = .ok (.putfield 16, 3) := by decide +kernel
theorem dX0_init_28 : decode cX0_init 28 = .ok (.aload_n 0, 1) := by decide +kernel
theorem dX0_init_29 : decode cX0_init 29 = .ok (.bipush 49, 2) := by decide +kernel
theorem dX0_init_31 : decode cX0_init 31 = .ok (.newarray .int, 2) := by decide +kernel
theorem dX0_init_33 : decode cX0_init 33 = .ok (.putfield 19, 3) := by decide +kernel
theorem dX0_init_36 : decode cX0_init 36 = .ok (.aload_n 0, 1) := by decide +kernel
theorem dX0_init_37 : decode cX0_init 37 = .ok (.bipush 49, 2) := by decide +kernel
theorem dX0_init_39 : decode cX0_init 39 = .ok (.newarray .int, 2) := by decide +kernel
theorem dX0_init_41 : decode cX0_init 41 = .ok (.putfield 22, 3) := by decide +kernel
theorem dX0_init_44 : decode cX0_init 44 = .ok (.aload_n 0, 1) := by decide +kernel
theorem dX0_init_45 : decode cX0_init 45 = .ok (.bipush 49, 2) := by decide +kernel
theorem dX0_init_47 : decode cX0_init 47 = .ok (.newarray .int, 2) := by decide +kernel
theorem dX0_init_49 : decode cX0_init 49 = .ok (.putfield 25, 3) := by decide +kernel
theorem dX0_init_52 : decode cX0_init 52 = .ok (.aload_n 0, 1) := by decide +kernel
theorem dX0_init_53 : decode cX0_init 53 = .ok (.bipush 49, 2) := by decide +kernel
theorem dX0_init_55 : decode cX0_init 55 = .ok (.newarray .int, 2) := by decide +kernel
theorem dX0_init_57 : decode cX0_init 57 = .ok (.putfield 28, 3) := by decide +kernel
theorem dX0_init_60 : decode cX0_init 60 = .ok (.aload_n 0, 1) := by decide +kernel
theorem dX0_init_61 : decode cX0_init 61 = .ok (.bipush 49, 2) := by decide +kernel
theorem dX0_init_63 : decode cX0_init 63 = .ok (.newarray .int, 2) := by decide +kernel
theorem dX0_init_65 : decode cX0_init 65 = .ok (.putfield 31, 3) := by decide +kernel
theorem dX0_init_68 : decode cX0_init 68 = .ok (.aload_n 0, 1) := by decide +kernel
theorem dX0_init_69 : decode cX0_init 69 = .ok (.bipush 32, 2) := by decide +kernel
theorem dX0_init_71 : decode cX0_init 71 = .ok (.newarray .boolean, 2) := by decide +kernel
theorem dX0_init_73 : decode cX0_init 73 = .ok (.putfield 34, 3) := by decide +kernel
theorem dX0_init_76 : decode cX0_init 76 = .ok (.aload_n 0, 1) := by decide +kernel
theorem dX0_init_77 : decode cX0_init 77 = .ok (.bipush 32, 2) := by decide +kernel
theorem dX0_init_79 : decode cX0_init 79 = .ok (.newarray .int, 2) := by decide +kernel
theorem dX0_init_81 : decode cX0_init 81 = .ok (.putfield 38, 3) := by decide +kernel
theorem dX0_init_84 : decode cX0_init 84 = .ok (.aload_n 0, 1) := by decide +kernel
theorem dX0_init_85 : decode cX0_init 85 = .ok (.bipush 32, 2) := by decide +kernel
theorem dX0_init_87 : decode cX0_init 87 = .ok (.newarray .long, 2) := by decide +kernel
theorem dX0_init_89 : decode cX0_init 89 = .ok (.putfield 41, 3) := by decide +kernel
theorem dX0_init_92 : decode cX0_init 92 = .ok (.aload_n 0, 1) := by decide +kernel
theorem dX0_init_93 : decode cX0_init 93 = .ok (.sipush 12345, 3) := by decide +kernel
theorem dX0_init_96 : decode cX0_init 96 = .ok (.putfield 45, 3) := by decide +kernel
theorem dX0_init_99 : decode cX0_init 99 = .ok (.return_, 1) := by decide +kernel
theorem dX0_type_0 : decode cX0_type 0 = .ok (.iload_n 2, 1) := by decide +kernel
theorem dX0_type_1 : decode cX0_type 1 = .ok (.ifCond .lt 21, 3) := by decide +kernel
theorem dX0_type_4 : decode cX0_type 4 = .ok (.iload_n 2, 1) := by decide +kernel
theorem dX0_type_5 : decode cX0_type 5 = .ok (.bipush 25, 2) := by decide +kernel
theorem dX0_type_7 : decode cX0_type 7 = .ok (.if_icmp .gt 15, 3) := by decide +kernel
theorem dX0_type_10 : decode cX0_type 10 = .ok (.iload_n 1, 1) := by decide +kernel
theorem dX0_type_11 : decode cX0_type 11 = .ok (.ifCond .lt 11, 3) := by decide +kernel
theorem dX0_type_14 : decode cX0_type 14 = .ok (.iload_n 1, 1) := by decide +kernel
theorem dX0_type_15 : decode cX0_type 15 = .ok (.aload_n 0, 1) := by decide +kernel
theorem dX0_type_16 : decode cX0_type 16 = .ok (.invokevirtual 70, 3) := by decide +kernel
theorem dX0_type_19 : decode cX0_type 19 = .ok (.if_icmp .le 5, 3) := by decide +kernel
theorem dX0_type_22 : decode cX0_type 22 = .ok (.iconst (-1), 1) := by decide +kernel
theorem dX0_type_23 : decode cX0_type 23 = .ok (.ireturn, 1) := by decide +kernel
theorem dX0_type_24 : decode cX0_type 24 = .ok (.aload_n 0, 1) := by decide +kernel
theorem dX0_type_25 : decode cX0_type 25 = .ok (.getfield 74, 3) := by decide +kernel
theorem dX0_type_28 : decode cX0_type 28 = .ok (.bipush 32, 2) := by decide +kernel
theorem dX0_type_30 : decode cX0_type 30 = .ok (.if_icmp .eq 12, 3) := by decide +kernel
theorem dX0_type_33 : decode cX0_type 33 = .ok (.aload_n 0, 1) := by decide +kernel
theorem dX0_type_34 : decode cX0_type 34 = .ok (.getfield 77, 3) := by decide +kernel
theorem dX0_type_37 : decode cX0_type 37 = .ok (.bipush 48, 2) := by decide +kernel
theorem dX0_type_39 : decode cX0_type 39 = .ok (.if_icmp .ne 6, 3) := by decide +kernel
theorem dX0_type_42 : decode cX0_type 42 = .ok (.bipush (-2), 2) := by decide +kernel
theorem dX0_type_44 : decode cX0_type 44 = .ok (.ireturn, 1) := by decide +kernel
theorem dX0_type_45 : decode cX0_type 45 = .ok (.iload_n 1, 1) := by decide +kernel
theorem dX0_type_46 : decode cX0_type 46 = .ok (.ifCond .ne 7, 3) := by decide +kernel
theorem dX0_type_49 : decode cX0_type 49 = .ok (.iconst 0, 1) := by decide +kernel
theorem dX0_type_50 : decode cX0_type 50 = .ok (.goto 10, 3) := by decide +kernel
theorem dX0_type_53 : decode cX0_type 53 = .ok (.aload_n 0, 1) := by decide +kernel
theorem dX0_type_54 : decode cX0_type 54 = .ok (.iload_n 1, 1) := by decide +kernel
theorem dX0_type_55 : decode cX0_type 55 = .ok (.iconst 1, 1) := by decide +kernel
theorem dX0_type_56 : decode cX0_type 56 = .ok (.isub, 1) := by decide +kernel
theorem dX0_type_57 : decode cX0_type 57 = .ok (.invokevirtual 80, 3) := by decide +kernel
theorem dX0_type_60 : decode cX0_type 60 = .ok (.istore_n 3, 1) := by decide +kernel
theorem dX0_type_61 : decode cX0_type 61 = .ok (.aload_n 0, 1) := by decide +kernel
theorem dX0_type_62 : decode cX0_type 62 = .ok (.dup, 1) := by decide +kernel
theorem dX0_type_63 : decode cX0_type 63 = .ok (.getfield 77, 3) := by decide +kernel
theorem dX0_type_66 : decode cX0_type 66 = .ok (.iconst 1, 1) := by decide +kernel
theorem dX0_type_67 : decode cX0_type 67 = .ok (.iadd, 1) := by decide +kernel
theorem dX0_type_68 : decode cX0_type 68 = .ok (.putfield 77, 3) := by decide +kernel
theorem dX0_type_71 : decode cX0_type 71 = .ok (.aload_n 0, 1) := by decide +kernel
theorem dX0_type_72 : decode cX0_type 72 = .ok (.getfield 25, 3) := by decide +kernel
theorem dX0_type_75 : decode cX0_type 75 = .ok (.aload_n 0, 1) := by decide +kernel
theorem dX0_type_76 : decode cX0_type 76 = .ok (.getfield 77, 3) := by decide +kernel
theorem dX0_type_79 : decode cX0_type 79 = .ok (.iload_n 2, 1) := by decide +kernel
theorem dX0_type_80 : decode cX0_type 80 = .ok (.iastore, 1) := by decide +kernel
theorem dX0_type_81 : decode cX0_type 81 = .ok (.aload_n 0, 1) := by decide +kernel
theorem dX0_type_82 : decode cX0_type 82 = .ok (.getfield 28, 3) := by decide +kernel
theorem dX0_type_85 : decode cX0_type 85 = .ok (.aload_n 0, 1) := by decide +kernel
theorem dX0_type_86 : decode cX0_type 86 = .ok (.getfield 77, 3) := by decide +kernel
theorem dX0_type_89 : decode cX0_type 89 = .ok (.aload_n 0, 1) := by decide +kernel
theorem dX0_type_90 : decode cX0_type 90 = .ok (.getfield 74, 3) := by decide +kernel
theorem dX0_type_93 : decode cX0_type 93 = .ok (.iastore, 1) := by decide +kernel
theorem dX0_type_94 : decode cX0_type 94 = .ok (.aload_n 0, 1) := by decide +kernel
theorem dX0_type_95 : decode cX0_type 95 = .ok (.aload_n 0, 1) := by decide +kernel
theorem dX0_type_96 : decode cX0_type 96 = .ok (.getfield 45, 3) := by decide +kernel
theorem dX0_type_99 : decode cX0_type 99 = .ok (.ldc 84, 2) := by decide +kernel
theorem dX0_type_101 : decode cX0_type 101 = .ok (.imul, 1) := by decide +kernel
theorem dX0_type_102 : decode cX0_type 102 = .ok (.sipush 12345, 3) := by decide +kernel
theorem dX0_type_105 : decode cX0_type 105 = .ok (.iadd, 1) := by decide +kernel
theorem dX0_type_106 : decode cX0_type 106 = .ok (.putfield 45, 3) := by decide +kernel
theorem dX0_type_109 : decode cX0_type 109 = .ok (.aload_n 0, 1) := by decide +kernel
theorem dX0_type_110 : decode cX0_type 110 = .ok (.getfield 19, 3) := by decide +kernel
theorem dX0_type_113 : decode cX0_type 113 = .ok (.aload_n 0, 1) := by decide +kernel
theorem dX0_type_114 : decode cX0_type 114 = .ok (.getfield 77, 3) := by decide +kernel
theorem dX0_type_117 : decode cX0_type 117 = .ok (.aload_n 0, 1) := by decide +kernel
theorem dX0_type_118 : decode cX0_type 118 = .ok (.getfield 45, 3) := by decide +kernel
theorem dX0_type_121 : decode cX0_type 121 = .ok (.bipush 8, 2) := by decide +kernel
theorem dX0_type_123 : decode cX0_type 123 = .ok (.iushr, 1) := by decide +kernel
theorem dX0_type_124 : decode cX0_type 124 = .ok (.iastore, 1) := by decide +kernel
theorem dX0_type_125 : decode cX0_type 125 = .ok (.aload_n 0, 1) := by decide +kernel
theorem dX0_type_126 : decode cX0_type 126 = .ok (.getfield 34, 3) := by decide +kernel
theorem dX0_type_129 : decode cX0_type 129 = .ok (.aload_n 0, 1) := by decide +kernel
theorem dX0_type_130 : decode cX0_type 130 = .ok (.getfield 74, 3) := by decide +kernel
theorem dX0_type_133 : decode cX0_type 133 = .ok (.iconst 1, 1) := by decide +kernel
theorem dX0_type_134 : decode cX0_type 134 = .ok (.bastore, 1) := by decide +kernel
theorem dX0_type_135 : decode cX0_type 135 = .ok (.aload_n 0, 1) := by decide +kernel
theorem dX0_type_136 : decode cX0_type 136 = .ok (.getfield 38, 3) := by decide +kernel
theorem dX0_type_139 : decode cX0_type 139 = .ok (.aload_n 0, 1) := by decide +kernel
theorem dX0_type_140 : decode cX0_type 140 = .ok (.getfield 74, 3) := by decide +kernel
theorem dX0_type_143 : decode cX0_type 143 = .ok (.aload_n 0, 1) := by decide +kernel
theorem dX0_type_144 : decode cX0_type 144 = .ok (.getfield 77, 3) := by decide +kernel
theorem dX0_type_147 : decode cX0_type 147 = .ok (.iastore, 1) := by decide +kernel
theorem dX0_type_148 : decode cX0_type 148 = .ok (.aload_n 0, 1) := by decide +kernel
theorem dX0_type_149 : decode cX0_type 149 = .ok (.getfield 41, 3) := by decide +kernel
theorem dX0_type_152 : decode cX0_type 152 = .ok (.aload_n 0, 1) := by decide +kernel
theorem dX0_type_153 : decode cX0_type 153 = .ok (.getfield 74, 3) := by decide +kernel
theorem dX0_type_156 : decode cX0_type 156 = .ok (.lconst 0, 1) := by decide +kernel
theorem dX0_type_157 : decode cX0_type 157 = .ok (.lastore, 1) := by decide +kernel
theorem dX0_type_158 : decode cX0_type 158 = .ok (.aload_n 0, 1) := by decide +kernel
theorem dX0_type_159 : decode cX0_type 159 = .ok (.dup, 1) := by decide +kernel
theorem dX0_type_160 : decode cX0_type 160 = .ok (.getfield 74, 3) := by decide +kernel
theorem dX0_type_163 : decode cX0_type 163 = .ok (.iconst 1, 1) := by decide +kernel
theorem dX0_type_164 : decode cX0_type 164 = .ok (.iadd, 1) := by decide +kernel
theorem dX0_type_165 : decode cX0_type 165 = .ok (.putfield 74, 3) := by decide +kernel
theorem dX0_type_168 : decode cX0_type 168 = .ok (.aload_n 0, 1) := by decide +kernel
theorem dX0_type_169 : decode cX0_type 169 = .ok (.aload_n 0, 1) := by decide +kernel
theorem dX0_type_170 : decode cX0_type 170 = .ok (.getfield 77, 3) := by decide +kernel
theorem dX0_type_173 : decode cX0_type 173 = .ok (.iload_n 3, 1) := by decide +kernel
theorem dX0_type_174 : decode cX0_type 174 = .ok (.invokevirtual 85, 3) := by decide +kernel
theorem dX0_type_177 : decode cX0_type 177 = .ok (.aload_n 0, 1) := by decide +kernel
theorem dX0_type_178 : decode cX0_type 178 = .ok (.getfield 74, 3) := by decide +kernel
theorem dX0_type_181 : decode cX0_type 181 = .ok (.iconst 1, 1) := by decide +kernel
theorem dX0_type_182 : decode cX0_type 182 = .ok (.isub, 1) := by decide +kernel
theorem dX0_type_183 : decode cX0_type 183 = .ok (.ireturn, 1) := by decide +kernel
theorem dX0_textLength_0 : decode cX0_textLength 0 = .ok (.aload_n 0, 1) := by decide +kernel
theorem dX0_textLength_1 : decode cX0_textLength 1 = .ok (.getfield 22, 3) := by decide +kernel
theorem dX0_textLength_4 : decode cX0_textLength 4 = .ok (.aload_n 0, 1) := by decide +kernel
theorem dX0_textLength_5 : decode cX0_textLength 5 = .ok (.getfield 57, 3) := by decide +kernel
theorem dX0_textLength_8 : decode cX0_textLength 8 = .ok (.iaload, 1) := by decide +kernel
theorem dX0_textLength_9 : decode cX0_textLength 9 = .ok (.ireturn, 1) := by decide +kernel
theorem dX0_nodeAt_0 : decode cX0_nodeAt 0 = .ok (.aload_n 0, 1) := by decide +kernel
theorem dX0_nodeAt_1 : decode cX0_nodeAt 1 = .ok (.getfield 57, 3) := by decide +kernel
theorem dX0_nodeAt_4 : decode cX0_nodeAt 4 = .ok (.istore_n 2, 1) := by decide +kernel
theorem dX0_nodeAt_5 : decode cX0_nodeAt 5 = .ok (.iload_n 1, 1) := by decide +kernel
theorem dX0_nodeAt_6 : decode cX0_nodeAt 6 = .ok (.istore_n 3, 1) := by decide +kernel
theorem dX0_nodeAt_7 : decode cX0_nodeAt 7 = .ok (.iconst 0, 1) := by decide +kernel
theorem dX0_nodeAt_8 : decode cX0_nodeAt 8 = .ok (.istore 4, 2) := by decide +kernel
theorem dX0_nodeAt_10 : decode cX0_nodeAt 10 = .ok (.iload 4, 2) := by decide +kernel
theorem dX0_nodeAt_12 : decode cX0_nodeAt 12 = .ok (.bipush 48, 2) := by decide +kernel
theorem dX0_nodeAt_14 : decode cX0_nodeAt 14 = .ok (.if_icmp .ge 80, 3) := by decide +kernel
theorem dX0_nodeAt_17 : decode cX0_nodeAt 17 = .ok (.aload_n 0, 1) := by decide +kernel
theorem dX0_nodeAt_18 : decode cX0_nodeAt 18 = .ok (.getfield 22, 3) := by decide +kernel
theorem dX0_nodeAt_21 : decode cX0_nodeAt 21 = .ok (.aload_n 0, 1) := by decide +kernel
theorem dX0_nodeAt_22 : decode cX0_nodeAt 22 = .ok (.getfield 7, 3) := by decide +kernel
theorem dX0_nodeAt_25 : decode cX0_nodeAt 25 = .ok (.iload_n 2, 1) := by decide +kernel
theorem dX0_nodeAt_26 : decode cX0_nodeAt 26 = .ok (.iaload, 1) := by decide +kernel
theorem dX0_nodeAt_27 : decode cX0_nodeAt 27 = .ok (.iaload, 1) := by decide +kernel
theorem dX0_nodeAt_28 : decode cX0_nodeAt 28 = .ok (.istore 5, 2) := by decide +kernel
theorem dX0_nodeAt_30 : decode cX0_nodeAt 30 = .ok (.iload_n 3, 1) := by decide +kernel
theorem dX0_nodeAt_31 : decode cX0_nodeAt 31 = .ok (.iload 5, 2) := by decide +kernel
theorem dX0_nodeAt_33 : decode cX0_nodeAt 33 = .ok (.if_icmp .ge 13, 3) := by decide +kernel
theorem dX0_nodeAt_36 : decode cX0_nodeAt 36 = .ok (.aload_n 0, 1) := by decide +kernel
theorem dX0_nodeAt_37 : decode cX0_nodeAt 37 = .ok (.getfield 7, 3) := by decide +kernel
theorem dX0_nodeAt_40 : decode cX0_nodeAt 40 = .ok (.iload_n 2, 1) := by decide +kernel
theorem dX0_nodeAt_41 : decode cX0_nodeAt 41 = .ok (.iaload, 1) := by decide +kernel
theorem dX0_nodeAt_42 : decode cX0_nodeAt 42 = .ok (.istore_n 2, 1) := by decide +kernel
theorem dX0_nodeAt_43 : decode cX0_nodeAt 43 = .ok (.goto 45, 3) := by decide +kernel
theorem dX0_nodeAt_46 : decode cX0_nodeAt 46 = .ok (.iload_n 3, 1) := by decide +kernel
theorem dX0_nodeAt_47 : decode cX0_nodeAt 47 = .ok (.iload 5, 2) := by decide +kernel
theorem dX0_nodeAt_49 : decode cX0_nodeAt 49 = .ok (.if_icmp .ne 13, 3) := by decide +kernel
theorem dX0_nodeAt_52 : decode cX0_nodeAt 52 = .ok (.aload_n 0, 1) := by decide +kernel
theorem dX0_nodeAt_53 : decode cX0_nodeAt 53 = .ok (.iload_n 2, 1) := by decide +kernel
theorem dX0_nodeAt_54 : decode cX0_nodeAt 54 = .ok (.invokevirtual 49, 3) := by decide +kernel
theorem dX0_nodeAt_57 : decode cX0_nodeAt 57 = .ok (.ifCond .eq 5, 3) := by decide +kernel
theorem dX0_nodeAt_60 : decode cX0_nodeAt 60 = .ok (.iload_n 2, 1) := by decide +kernel
theorem dX0_nodeAt_61 : decode cX0_nodeAt 61 = .ok (.ireturn, 1) := by decide +kernel
theorem dX0_nodeAt_62 : decode cX0_nodeAt 62 = .ok (.iload_n 3, 1) := by decide +kernel
theorem dX0_nodeAt_63 : decode cX0_nodeAt 63 = .ok (.iload 5, 2) := by decide +kernel
theorem dX0_nodeAt_65 : decode cX0_nodeAt 65 = .ok (.isub, 1) := by decide +kernel
theorem dX0_nodeAt_66 : decode cX0_nodeAt 66 = .ok (.aload_n 0, 1) := by decide +kernel
theorem dX0_nodeAt_67 : decode cX0_nodeAt 67 = .ok (.iload_n 2, 1) := by decide +kernel
theorem dX0_nodeAt_68 : decode cX0_nodeAt 68 = .ok (.invokevirtual 49, 3) := by decide +kernel
theorem dX0_nodeAt_71 : decode cX0_nodeAt 71 = .ok (.ifCond .eq 7, 3) := by decide +kernel
theorem dX0_nodeAt_74 : decode cX0_nodeAt 74 = .ok (.iconst 1, 1) := by decide +kernel
theorem dX0_nodeAt_75 : decode cX0_nodeAt 75 = .ok (.goto 4, 3) := by decide +kernel
theorem dX0_nodeAt_78 : decode cX0_nodeAt 78 = .ok (.iconst 0, 1) := by decide +kernel
theorem dX0_nodeAt_79 : decode cX0_nodeAt 79 = .ok (.isub, 1) := by decide +kernel
theorem dX0_nodeAt_80 : decode cX0_nodeAt 80 = .ok (.istore_n 3, 1) := by decide +kernel
theorem dX0_nodeAt_81 : decode cX0_nodeAt 81 = .ok (.aload_n 0, 1) := by decide +kernel
theorem dX0_nodeAt_82 : decode cX0_nodeAt 82 = .ok (.getfield 13, 3) := by decide +kernel
theorem dX0_nodeAt_85 : decode cX0_nodeAt 85 = .ok (.iload_n 2, 1) := by decide +kernel
theorem dX0_nodeAt_86 : decode cX0_nodeAt 86 = .ok (.iaload, 1) := by decide +kernel
theorem dX0_nodeAt_87 : decode cX0_nodeAt 87 = .ok (.istore_n 2, 1) := by decide +kernel
theorem dX0_nodeAt_88 : decode cX0_nodeAt 88 = .ok (.iinc 4 1, 3) := by decide +kernel
theorem dX0_nodeAt_91 : decode cX0_nodeAt 91 = .ok (.goto (-81), 3) := by decide +kernel
theorem dX0_nodeAt_94 : decode cX0_nodeAt 94 = .ok (.iload_n 2, 1) := by decide +kernel
theorem dX0_nodeAt_95 : decode cX0_nodeAt 95 = .ok (.ireturn, 1) := by decide +kernel
theorem dX0_shown_0 : decode cX0_shown 0 = .ok (.iload_n 1, 1) := by decide +kernel
theorem dX0_shown_1 : decode cX0_shown 1 = .ok (.ifCond .eq 30, 3) := by decide +kernel
theorem dX0_shown_4 : decode cX0_shown 4 = .ok (.aload_n 0, 1) := by decide +kernel
theorem dX0_shown_5 : decode cX0_shown 5 = .ok (.getfield 34, 3) := by decide +kernel
theorem dX0_shown_8 : decode cX0_shown 8 = .ok (.aload_n 0, 1) := by decide +kernel
theorem dX0_shown_9 : decode cX0_shown 9 = .ok (.getfield 28, 3) := by decide +kernel
theorem dX0_shown_12 : decode cX0_shown 12 = .ok (.iload_n 1, 1) := by decide +kernel
theorem dX0_shown_13 : decode cX0_shown 13 = .ok (.iaload, 1) := by decide +kernel
theorem dX0_shown_14 : decode cX0_shown 14 = .ok (.baload, 1) := by decide +kernel
theorem dX0_shown_15 : decode cX0_shown 15 = .ok (.ifCond .eq 16, 3) := by decide +kernel
theorem dX0_shown_18 : decode cX0_shown 18 = .ok (.aload_n 0, 1) := by decide +kernel
theorem dX0_shown_19 : decode cX0_shown 19 = .ok (.getfield 31, 3) := by decide +kernel
theorem dX0_shown_22 : decode cX0_shown 22 = .ok (.iload_n 1, 1) := by decide +kernel
theorem dX0_shown_23 : decode cX0_shown 23 = .ok (.iaload, 1) := by decide +kernel
theorem dX0_shown_24 : decode cX0_shown 24 = .ok (.ifCond .ne 7, 3) := by decide +kernel
theorem dX0_shown_27 : decode cX0_shown 27 = .ok (.iconst 1, 1) := by decide +kernel
theorem dX0_shown_28 : decode cX0_shown 28 = .ok (.goto 4, 3) := by decide +kernel
theorem dX0_shown_31 : decode cX0_shown 31 = .ok (.iconst 0, 1) := by decide +kernel
theorem dX0_shown_32 : decode cX0_shown 32 = .ok (.ireturn, 1) := by decide +kernel
theorem dX0_hang_0 : decode cX0_hang 0 = .ok (.aload_n 0, 1) := by decide +kernel
theorem dX0_hang_1 : decode cX0_hang 1 = .ok (.getfield 57, 3) := by decide +kernel
theorem dX0_hang_4 : decode cX0_hang 4 = .ok (.ifCond .ne 11, 3) := by decide +kernel
theorem dX0_hang_7 : decode cX0_hang 7 = .ok (.aload_n 0, 1) := by decide +kernel
theorem dX0_hang_8 : decode cX0_hang 8 = .ok (.iload_n 1, 1) := by decide +kernel
theorem dX0_hang_9 : decode cX0_hang 9 = .ok (.putfield 57, 3) := by decide +kernel
theorem dX0_hang_12 : decode cX0_hang 12 = .ok (.goto 97, 3) := by decide +kernel
theorem dX0_hang_15 : decode cX0_hang 15 = .ok (.iload_n 2, 1) := by decide +kernel
theorem dX0_hang_16 : decode cX0_hang 16 = .ok (.ifCond .eq 29, 3) := by decide +kernel
theorem dX0_hang_19 : decode cX0_hang 19 = .ok (.aload_n 0, 1) := by decide +kernel
theorem dX0_hang_20 : decode cX0_hang 20 = .ok (.getfield 13, 3) := by decide +kernel
theorem dX0_hang_23 : decode cX0_hang 23 = .ok (.iload_n 2, 1) := by decide +kernel
theorem dX0_hang_24 : decode cX0_hang 24 = .ok (.iaload, 1) := by decide +kernel
theorem dX0_hang_25 : decode cX0_hang 25 = .ok (.ifCond .ne 20, 3) := by decide +kernel
theorem dX0_hang_28 : decode cX0_hang 28 = .ok (.aload_n 0, 1) := by decide +kernel
theorem dX0_hang_29 : decode cX0_hang 29 = .ok (.getfield 13, 3) := by decide +kernel
theorem dX0_hang_32 : decode cX0_hang 32 = .ok (.iload_n 2, 1) := by decide +kernel
theorem dX0_hang_33 : decode cX0_hang 33 = .ok (.iload_n 1, 1) := by decide +kernel
theorem dX0_hang_34 : decode cX0_hang 34 = .ok (.iastore, 1) := by decide +kernel
theorem dX0_hang_35 : decode cX0_hang 35 = .ok (.aload_n 0, 1) := by decide +kernel
theorem dX0_hang_36 : decode cX0_hang 36 = .ok (.getfield 16, 3) := by decide +kernel
theorem dX0_hang_39 : decode cX0_hang 39 = .ok (.iload_n 1, 1) := by decide +kernel
theorem dX0_hang_40 : decode cX0_hang 40 = .ok (.iload_n 2, 1) := by decide +kernel
theorem dX0_hang_41 : decode cX0_hang 41 = .ok (.iastore, 1) := by decide +kernel
theorem dX0_hang_42 : decode cX0_hang 42 = .ok (.goto 67, 3) := by decide +kernel
theorem dX0_hang_45 : decode cX0_hang 45 = .ok (.iload_n 2, 1) := by decide +kernel
theorem dX0_hang_46 : decode cX0_hang 46 = .ok (.ifCond .ne 10, 3) := by decide +kernel
theorem dX0_hang_49 : decode cX0_hang 49 = .ok (.aload_n 0, 1) := by decide +kernel
theorem dX0_hang_50 : decode cX0_hang 50 = .ok (.getfield 57, 3) := by decide +kernel
theorem dX0_hang_53 : decode cX0_hang 53 = .ok (.goto 9, 3) := by decide +kernel
theorem dX0_hang_56 : decode cX0_hang 56 = .ok (.aload_n 0, 1) := by decide +kernel
theorem dX0_hang_57 : decode cX0_hang 57 = .ok (.getfield 13, 3) := by decide +kernel
theorem dX0_hang_60 : decode cX0_hang 60 = .ok (.iload_n 2, 1) := by decide +kernel
theorem dX0_hang_61 : decode cX0_hang 61 = .ok (.iaload, 1) := by decide +kernel
theorem dX0_hang_62 : decode cX0_hang 62 = .ok (.istore_n 3, 1) := by decide +kernel
theorem dX0_hang_63 : decode cX0_hang 63 = .ok (.iconst 0, 1) := by decide +kernel
theorem dX0_hang_64 : decode cX0_hang 64 = .ok (.istore 4, 2) := by decide +kernel
theorem dX0_hang_66 : decode cX0_hang 66 = .ok (.iload 4, 2) := by decide +kernel
theorem dX0_hang_68 : decode cX0_hang 68 = .ok (.bipush 48, 2) := by decide +kernel
theorem dX0_hang_70 : decode cX0_hang 70 = .ok (.if_icmp .ge 25, 3) := by decide +kernel
theorem dX0_hang_73 : decode cX0_hang 73 = .ok (.aload_n 0, 1) := by decide +kernel
theorem dX0_hang_74 : decode cX0_hang 74 = .ok (.getfield 7, 3) := by decide +kernel
theorem dX0_hang_77 : decode cX0_hang 77 = .ok (.iload_n 3, 1) := by decide +kernel
theorem dX0_hang_78 : decode cX0_hang 78 = .ok (.iaload, 1) := by decide +kernel
end
section
set_option maxRecDepth 100000
theorem dX0_hang_79 : decode cX0_hang 79 = .ok (.ifCond .eq 16, 3) := by decide +kernel
theorem dX0_hang_82 : decode cX0_hang 82 = .ok (.aload_n 0, 1) := by decide +kernel
theorem dX0_hang_83 : decode cX0_hang 83 = .ok (.getfield 7, 3) := by decide +kernel
theorem dX0_hang_86 : decode cX0_hang 86 = .ok (.iload_n 3, 1) := by decide +kernel
theorem dX0_hang_87 : decode cX0_hang 87 = .ok (.iaload, 1) := by decide +kernel
theorem dX0_hang_88 : decode cX0_hang 88 = .ok (.istore_n 3, 1) := by decide +kernel
theorem dX0_hang_89 : decode cX0_hang 89 = .ok (.iinc 4 1, 3) := by decide +kernel
theorem dX0_hang_92 : decode cX0_hang 92 = .ok (.goto (-26), 3) := by decide +kernel
theorem dX0_hang_95 : decode cX0_hang 95 = .ok (.aload_n 0, 1) := by decide +kernel
theorem dX0_hang_96 : decode cX0_hang 96 = .ok (.getfield 7, 3) := by decide +kernel
theorem dX0_hang_99 : decode cX0_hang 99 = .ok (.iload_n 3, 1) := by decide +kernel
theorem dX0_hang_100 : decode cX0_hang 100 = .ok (.iload_n 1, 1) := by decide +kernel
theorem dX0_hang_101 : decode cX0_hang 101 = .ok (.iastore, 1) := by decide +kernel
theorem dX0_hang_102 : decode cX0_hang 102 = .ok (.aload_n 0, 1) := by decide +kernel
theorem dX0_hang_103 : decode cX0_hang 103 = .ok (.getfield 16, 3) := by decide +kernel
theorem dX0_hang_106 : decode cX0_hang 106 = .ok (.iload_n 1, 1) := by decide +kernel
theorem dX0_hang_107 : decode cX0_hang 107 = .ok (.iload_n 3, 1) := by decide +kernel
theorem dX0_hang_108 : decode cX0_hang 108 = .ok (.iastore, 1) := by decide +kernel
theorem dX0_hang_109 : decode cX0_hang 109 = .ok (.aload_n 0, 1) := by decide +kernel
theorem dX0_hang_110 : decode cX0_hang 110 = .ok (.iload_n 1, 1) := by decide +kernel
theorem dX0_hang_111 : decode cX0_hang 111 = .ok (.invokevirtual 64, 3) := by decide +kernel
theorem dX0_hang_114 : decode cX0_hang 114 = .ok (.iconst 0, 1) := by decide +kernel
theorem dX0_hang_115 : decode cX0_hang 115 = .ok (.istore_n 3, 1) := by decide +kernel
theorem dX0_hang_116 : decode cX0_hang 116 = .ok (.iload_n 3, 1) := by decide +kernel
theorem dX0_hang_117 : decode cX0_hang 117 = .ok (.bipush 48, 2) := by decide +kernel
theorem dX0_hang_119 : decode cX0_hang 119 = .ok (.if_icmp .ge 43, 3) := by decide +kernel
theorem dX0_hang_122 : decode cX0_hang 122 = .ok (.aload_n 0, 1) := by decide +kernel
theorem dX0_hang_123 : decode cX0_hang 123 = .ok (.getfield 16, 3) := by decide +kernel
theorem dX0_hang_126 : decode cX0_hang 126 = .ok (.iload_n 1, 1) := by decide +kernel
theorem dX0_hang_127 : decode cX0_hang 127 = .ok (.iaload, 1) := by decide +kernel
theorem dX0_hang_128 : decode cX0_hang 128 = .ok (.ifCond .eq 34, 3) := by decide +kernel
theorem dX0_hang_131 : decode cX0_hang 131 = .ok (.aload_n 0, 1) := by decide +kernel
theorem dX0_hang_132 : decode cX0_hang 132 = .ok (.getfield 19, 3) := by decide +kernel
theorem dX0_hang_135 : decode cX0_hang 135 = .ok (.aload_n 0, 1) := by decide +kernel
theorem dX0_hang_136 : decode cX0_hang 136 = .ok (.getfield 16, 3) := by decide +kernel
theorem dX0_hang_139 : decode cX0_hang 139 = .ok (.iload_n 1, 1) := by decide +kernel
theorem dX0_hang_140 : decode cX0_hang 140 = .ok (.iaload, 1) := by decide +kernel
theorem dX0_hang_141 : decode cX0_hang 141 = .ok (.iaload, 1) := by decide +kernel
theorem dX0_hang_142 : decode cX0_hang 142 = .ok (.aload_n 0, 1) := by decide +kernel
theorem dX0_hang_143 : decode cX0_hang 143 = .ok (.getfield 19, 3) := by decide +kernel
theorem dX0_hang_146 : decode cX0_hang 146 = .ok (.iload_n 1, 1) := by decide +kernel
theorem dX0_hang_147 : decode cX0_hang 147 = .ok (.iaload, 1) := by decide +kernel
theorem dX0_hang_148 : decode cX0_hang 148 = .ok (.if_icmp .ge 14, 3) := by decide +kernel
theorem dX0_hang_151 : decode cX0_hang 151 = .ok (.aload_n 0, 1) := by decide +kernel
theorem dX0_hang_152 : decode cX0_hang 152 = .ok (.iload_n 1, 1) := by decide +kernel
theorem dX0_hang_153 : decode cX0_hang 153 = .ok (.invokevirtual 67, 3) := by decide +kernel
theorem dX0_hang_156 : decode cX0_hang 156 = .ok (.iinc 3 1, 3) := by decide +kernel
theorem dX0_hang_159 : decode cX0_hang 159 = .ok (.goto (-43), 3) := by decide +kernel
theorem dX0_hang_162 : decode cX0_hang 162 = .ok (.return_, 1) := by decide +kernel
theorem dX0_pullUp_0 : decode cX0_pullUp 0 = .ok (.iload_n 1, 1) := by decide +kernel
theorem dX0_pullUp_1 : decode cX0_pullUp 1 = .ok (.istore_n 2, 1) := by decide +kernel
theorem dX0_pullUp_2 : decode cX0_pullUp 2 = .ok (.iconst 0, 1) := by decide +kernel
theorem dX0_pullUp_3 : decode cX0_pullUp 3 = .ok (.istore_n 3, 1) := by decide +kernel
theorem dX0_pullUp_4 : decode cX0_pullUp 4 = .ok (.iload_n 3, 1) := by decide +kernel
theorem dX0_pullUp_5 : decode cX0_pullUp 5 = .ok (.bipush 48, 2) := by decide +kernel
theorem dX0_pullUp_7 : decode cX0_pullUp 7 = .ok (.if_icmp .ge 25, 3) := by decide +kernel
theorem dX0_pullUp_10 : decode cX0_pullUp 10 = .ok (.iload_n 2, 1) := by decide +kernel
theorem dX0_pullUp_11 : decode cX0_pullUp 11 = .ok (.ifCond .eq 21, 3) := by decide +kernel
theorem dX0_pullUp_14 : decode cX0_pullUp 14 = .ok (.aload_n 0, 1) := by decide +kernel
theorem dX0_pullUp_15 : decode cX0_pullUp 15 = .ok (.iload_n 2, 1) := by decide +kernel
theorem dX0_pullUp_16 : decode cX0_pullUp 16 = .ok (.invokevirtual 53, 3) := by decide +kernel
theorem dX0_pullUp_19 : decode cX0_pullUp 19 = .ok (.aload_n 0, 1) := by decide +kernel
theorem dX0_pullUp_20 : decode cX0_pullUp 20 = .ok (.getfield 16, 3) := by decide +kernel
theorem dX0_pullUp_23 : decode cX0_pullUp 23 = .ok (.iload_n 2, 1) := by decide +kernel
theorem dX0_pullUp_24 : decode cX0_pullUp 24 = .ok (.iaload, 1) := by decide +kernel
theorem dX0_pullUp_25 : decode cX0_pullUp 25 = .ok (.istore_n 2, 1) := by decide +kernel
theorem dX0_pullUp_26 : decode cX0_pullUp 26 = .ok (.iinc 3 1, 3) := by decide +kernel
theorem dX0_pullUp_29 : decode cX0_pullUp 29 = .ok (.goto (-25), 3) := by decide +kernel
theorem dX0_pullUp_32 : decode cX0_pullUp 32 = .ok (.return_, 1) := by decide +kernel
theorem dX0_pull_0 : decode cX0_pull 0 = .ok (.aload_n 0, 1) := by decide +kernel
theorem dX0_pull_1 : decode cX0_pull 1 = .ok (.iload_n 1, 1) := by decide +kernel
theorem dX0_pull_2 : decode cX0_pull 2 = .ok (.invokevirtual 49, 3) := by decide +kernel
theorem dX0_pull_5 : decode cX0_pull 5 = .ok (.ifCond .eq 7, 3) := by decide +kernel
theorem dX0_pull_8 : decode cX0_pull 8 = .ok (.iconst 1, 1) := by decide +kernel
theorem dX0_pull_9 : decode cX0_pull 9 = .ok (.goto 4, 3) := by decide +kernel
theorem dX0_pull_12 : decode cX0_pull 12 = .ok (.iconst 0, 1) := by decide +kernel
theorem dX0_pull_13 : decode cX0_pull 13 = .ok (.istore_n 2, 1) := by decide +kernel
theorem dX0_pull_14 : decode cX0_pull 14 = .ok (.aload_n 0, 1) := by decide +kernel
theorem dX0_pull_15 : decode cX0_pull 15 = .ok (.getfield 22, 3) := by decide +kernel
theorem dX0_pull_18 : decode cX0_pull 18 = .ok (.iload_n 1, 1) := by decide +kernel
theorem dX0_pull_19 : decode cX0_pull 19 = .ok (.aload_n 0, 1) := by decide +kernel
theorem dX0_pull_20 : decode cX0_pull 20 = .ok (.getfield 22, 3) := by decide +kernel
theorem dX0_pull_23 : decode cX0_pull 23 = .ok (.aload_n 0, 1) := by decide +kernel
theorem dX0_pull_24 : decode cX0_pull 24 = .ok (.getfield 7, 3) := by decide +kernel
theorem dX0_pull_27 : decode cX0_pull 27 = .ok (.iload_n 1, 1) := by decide +kernel
theorem dX0_pull_28 : decode cX0_pull 28 = .ok (.iaload, 1) := by decide +kernel
theorem dX0_pull_29 : decode cX0_pull 29 = .ok (.iaload, 1) := by decide +kernel
theorem dX0_pull_30 : decode cX0_pull 30 = .ok (.iload_n 2, 1) := by decide +kernel
theorem dX0_pull_31 : decode cX0_pull 31 = .ok (.iadd, 1) := by decide +kernel
theorem dX0_pull_32 : decode cX0_pull 32 = .ok (.aload_n 0, 1) := by decide +kernel
theorem dX0_pull_33 : decode cX0_pull 33 = .ok (.getfield 22, 3) := by decide +kernel
theorem dX0_pull_36 : decode cX0_pull 36 = .ok (.aload_n 0, 1) := by decide +kernel
theorem dX0_pull_37 : decode cX0_pull 37 = .ok (.getfield 13, 3) := by decide +kernel
theorem dX0_pull_40 : decode cX0_pull 40 = .ok (.iload_n 1, 1) := by decide +kernel
theorem dX0_pull_41 : decode cX0_pull 41 = .ok (.iaload, 1) := by decide +kernel
theorem dX0_pull_42 : decode cX0_pull 42 = .ok (.iaload, 1) := by decide +kernel
theorem dX0_pull_43 : decode cX0_pull 43 = .ok (.iadd, 1) := by decide +kernel
theorem dX0_pull_44 : decode cX0_pull 44 = .ok (.iastore, 1) := by decide +kernel
theorem dX0_pull_45 : decode cX0_pull 45 = .ok (.return_, 1) := by decide +kernel
theorem dX0_lift_0 : decode cX0_lift 0 = .ok (.aload_n 0, 1) := by decide +kernel
theorem dX0_lift_1 : decode cX0_lift 1 = .ok (.getfield 16, 3) := by decide +kernel
theorem dX0_lift_4 : decode cX0_lift 4 = .ok (.iload_n 1, 1) := by decide +kernel
theorem dX0_lift_5 : decode cX0_lift 5 = .ok (.iaload, 1) := by decide +kernel
theorem dX0_lift_6 : decode cX0_lift 6 = .ok (.istore_n 2, 1) := by decide +kernel
theorem dX0_lift_7 : decode cX0_lift 7 = .ok (.aload_n 0, 1) := by decide +kernel
theorem dX0_lift_8 : decode cX0_lift 8 = .ok (.getfield 16, 3) := by decide +kernel
theorem dX0_lift_11 : decode cX0_lift 11 = .ok (.iload_n 2, 1) := by decide +kernel
theorem dX0_lift_12 : decode cX0_lift 12 = .ok (.iaload, 1) := by decide +kernel
theorem dX0_lift_13 : decode cX0_lift 13 = .ok (.istore_n 3, 1) := by decide +kernel
theorem dX0_lift_14 : decode cX0_lift 14 = .ok (.aload_n 0, 1) := by decide +kernel
theorem dX0_lift_15 : decode cX0_lift 15 = .ok (.getfield 7, 3) := by decide +kernel
theorem dX0_lift_18 : decode cX0_lift 18 = .ok (.iload_n 2, 1) := by decide +kernel
theorem dX0_lift_19 : decode cX0_lift 19 = .ok (.iaload, 1) := by decide +kernel
theorem dX0_lift_20 : decode cX0_lift 20 = .ok (.iload_n 1, 1) := by decide +kernel
theorem dX0_lift_21 : decode cX0_lift 21 = .ok (.if_icmp .ne 46, 3) := by decide +kernel
theorem dX0_lift_24 : decode cX0_lift 24 = .ok (.aload_n 0, 1) := by decide +kernel
theorem dX0_lift_25 : decode cX0_lift 25 = .ok (.getfield 7, 3) := by decide +kernel
theorem dX0_lift_28 : decode cX0_lift 28 = .ok (.iload_n 2, 1) := by decide +kernel
theorem dX0_lift_29 : decode cX0_lift 29 = .ok (.aload_n 0, 1) := by decide +kernel
theorem dX0_lift_30 : decode cX0_lift 30 = .ok (.getfield 13, 3) := by decide +kernel
theorem dX0_lift_33 : decode cX0_lift 33 = .ok (.iload_n 1, 1) := by decide +kernel
theorem dX0_lift_34 : decode cX0_lift 34 = .ok (.iaload, 1) := by decide +kernel
theorem dX0_lift_35 : decode cX0_lift 35 = .ok (.iastore, 1) := by decide +kernel
theorem dX0_lift_36 : decode cX0_lift 36 = .ok (.aload_n 0, 1) := by decide +kernel
theorem dX0_lift_37 : decode cX0_lift 37 = .ok (.getfield 13, 3) := by decide +kernel
theorem dX0_lift_40 : decode cX0_lift 40 = .ok (.iload_n 1, 1) := by decide +kernel
theorem dX0_lift_41 : decode cX0_lift 41 = .ok (.iaload, 1) := by decide +kernel
theorem dX0_lift_42 : decode cX0_lift 42 = .ok (.ifCond .eq 15, 3) := by decide +kernel
theorem dX0_lift_45 : decode cX0_lift 45 = .ok (.aload_n 0, 1) := by decide +kernel
theorem dX0_lift_46 : decode cX0_lift 46 = .ok (.getfield 16, 3) := by decide +kernel
theorem dX0_lift_49 : decode cX0_lift 49 = .ok (.aload_n 0, 1) := by decide +kernel
theorem dX0_lift_50 : decode cX0_lift 50 = .ok (.getfield 13, 3) := by decide +kernel
theorem dX0_lift_53 : decode cX0_lift 53 = .ok (.iload_n 1, 1) := by decide +kernel
theorem dX0_lift_54 : decode cX0_lift 54 = .ok (.iaload, 1) := by decide +kernel
theorem dX0_lift_55 : decode cX0_lift 55 = .ok (.iload_n 2, 1) := by decide +kernel
theorem dX0_lift_56 : decode cX0_lift 56 = .ok (.iastore, 1) := by decide +kernel
theorem dX0_lift_57 : decode cX0_lift 57 = .ok (.aload_n 0, 1) := by decide +kernel
theorem dX0_lift_58 : decode cX0_lift 58 = .ok (.getfield 13, 3) := by decide +kernel
theorem dX0_lift_61 : decode cX0_lift 61 = .ok (.iload_n 1, 1) := by decide +kernel
theorem dX0_lift_62 : decode cX0_lift 62 = .ok (.iload_n 2, 1) := by decide +kernel
theorem dX0_lift_63 : decode cX0_lift 63 = .ok (.iastore, 1) := by decide +kernel
theorem dX0_lift_64 : decode cX0_lift 64 = .ok (.goto 43, 3) := by decide +kernel
theorem dX0_lift_67 : decode cX0_lift 67 = .ok (.aload_n 0, 1) := by decide +kernel
theorem dX0_lift_68 : decode cX0_lift 68 = .ok (.getfield 13, 3) := by decide +kernel
theorem dX0_lift_71 : decode cX0_lift 71 = .ok (.iload_n 2, 1) := by decide +kernel
theorem dX0_lift_72 : decode cX0_lift 72 = .ok (.aload_n 0, 1) := by decide +kernel
theorem dX0_lift_73 : decode cX0_lift 73 = .ok (.getfield 7, 3) := by decide +kernel
theorem dX0_lift_76 : decode cX0_lift 76 = .ok (.iload_n 1, 1) := by decide +kernel
theorem dX0_lift_77 : decode cX0_lift 77 = .ok (.iaload, 1) := by decide +kernel
theorem dX0_lift_78 : decode cX0_lift 78 = .ok (.iastore, 1) := by decide +kernel
theorem dX0_lift_79 : decode cX0_lift 79 = .ok (.aload_n 0, 1) := by decide +kernel
theorem dX0_lift_80 : decode cX0_lift 80 = .ok (.getfield 7, 3) := by decide +kernel
theorem dX0_lift_83 : decode cX0_lift 83 = .ok (.iload_n 1, 1) := by decide +kernel
theorem dX0_lift_84 : decode cX0_lift 84 = .ok (.iaload, 1) := by decide +kernel
theorem dX0_lift_85 : decode cX0_lift 85 = .ok (.ifCond .eq 15, 3) := by decide +kernel
theorem dX0_lift_88 : decode cX0_lift 88 = .ok (.aload_n 0, 1) := by decide +kernel
theorem dX0_lift_89 : decode cX0_lift 89 = .ok (.getfield 16, 3) := by decide +kernel
theorem dX0_lift_92 : decode cX0_lift 92 = .ok (.aload_n 0, 1) := by decide +kernel
theorem dX0_lift_93 : decode cX0_lift 93 = .ok (.getfield 7, 3) := by decide +kernel
theorem dX0_lift_96 : decode cX0_lift 96 = .ok (.iload_n 1, 1) := by decide +kernel
theorem dX0_lift_97 : decode cX0_lift 97 = .ok (.iaload, 1) := by decide +kernel
theorem dX0_lift_98 : decode cX0_lift 98 = .ok (.iload_n 2, 1) := by decide +kernel
theorem dX0_lift_99 : decode cX0_lift 99 = .ok (.iastore, 1) := by decide +kernel
theorem dX0_lift_100 : decode cX0_lift 100 = .ok (.aload_n 0, 1) := by decide +kernel
theorem dX0_lift_101 : decode cX0_lift 101 = .ok (.getfield 7, 3) := by decide +kernel
theorem dX0_lift_104 : decode cX0_lift 104 = .ok (.iload_n 1, 1) := by decide +kernel
theorem dX0_lift_105 : decode cX0_lift 105 = .ok (.iload_n 2, 1) := by decide +kernel
theorem dX0_lift_106 : decode cX0_lift 106 = .ok (.iastore, 1) := by decide +kernel
theorem dX0_lift_107 : decode cX0_lift 107 = .ok (.aload_n 0, 1) := by decide +kernel
theorem dX0_lift_108 : decode cX0_lift 108 = .ok (.getfield 16, 3) := by decide +kernel
theorem dX0_lift_111 : decode cX0_lift 111 = .ok (.iload_n 2, 1) := by decide +kernel
theorem dX0_lift_112 : decode cX0_lift 112 = .ok (.iload_n 1, 1) := by decide +kernel
theorem dX0_lift_113 : decode cX0_lift 113 = .ok (.iastore, 1) := by decide +kernel
theorem dX0_lift_114 : decode cX0_lift 114 = .ok (.aload_n 0, 1) := by decide +kernel
theorem dX0_lift_115 : decode cX0_lift 115 = .ok (.getfield 16, 3) := by decide +kernel
theorem dX0_lift_118 : decode cX0_lift 118 = .ok (.iload_n 1, 1) := by decide +kernel
theorem dX0_lift_119 : decode cX0_lift 119 = .ok (.iload_n 3, 1) := by decide +kernel
theorem dX0_lift_120 : decode cX0_lift 120 = .ok (.iastore, 1) := by decide +kernel
theorem dX0_lift_121 : decode cX0_lift 121 = .ok (.aload_n 0, 1) := by decide +kernel
theorem dX0_lift_122 : decode cX0_lift 122 = .ok (.iload_n 3, 1) := by decide +kernel
theorem dX0_lift_123 : decode cX0_lift 123 = .ok (.iload_n 2, 1) := by decide +kernel
theorem dX0_lift_124 : decode cX0_lift 124 = .ok (.iload_n 1, 1) := by decide +kernel
theorem dX0_lift_125 : decode cX0_lift 125 = .ok (.invokevirtual 60, 3) := by decide +kernel
theorem dX0_lift_128 : decode cX0_lift 128 = .ok (.aload_n 0, 1) := by decide +kernel
theorem dX0_lift_129 : decode cX0_lift 129 = .ok (.iload_n 2, 1) := by decide +kernel
theorem dX0_lift_130 : decode cX0_lift 130 = .ok (.invokevirtual 53, 3) := by decide +kernel
theorem dX0_lift_133 : decode cX0_lift 133 = .ok (.aload_n 0, 1) := by decide +kernel
theorem dX0_lift_134 : decode cX0_lift 134 = .ok (.iload_n 1, 1) := by decide +kernel
theorem dX0_lift_135 : decode cX0_lift 135 = .ok (.invokevirtual 53, 3) := by decide +kernel
theorem dX0_lift_138 : decode cX0_lift 138 = .ok (.return_, 1) := by decide +kernel
theorem dX0_replaceBelow_0 : decode cX0_replaceBelow 0 = .ok (.iload_n 1, 1) := by decide +kernel
theorem dX0_replaceBelow_1 : decode cX0_replaceBelow 1 = .ok (.ifCond .ne 11, 3) := by decide +kernel
theorem dX0_replaceBelow_4 : decode cX0_replaceBelow 4 = .ok (.aload_n 0, 1) := by decide +kernel
theorem dX0_replaceBelow_5 : decode cX0_replaceBelow 5 = .ok (.iload_n 3, 1) := by decide +kernel
theorem dX0_replaceBelow_6 : decode cX0_replaceBelow 6 = .ok (.putfield 57, 3) := by decide +kernel
theorem dX0_replaceBelow_9 : decode cX0_replaceBelow 9 = .ok (.goto 30, 3) := by decide +kernel
theorem dX0_replaceBelow_12 : decode cX0_replaceBelow 12 = .ok (.aload_n 0, 1) := by decide +kernel
theorem dX0_replaceBelow_13 : decode cX0_replaceBelow 13 = .ok (.getfield 7, 3) := by decide +kernel
theorem dX0_replaceBelow_16 : decode cX0_replaceBelow 16 = .ok (.iload_n 1, 1) := by decide +kernel
theorem dX0_replaceBelow_17 : decode cX0_replaceBelow 17 = .ok (.iaload, 1) := by decide +kernel
theorem dX0_replaceBelow_18 : decode cX0_replaceBelow 18 = .ok (.iload_n 2, 1) := by decide +kernel
theorem dX0_replaceBelow_19 : decode cX0_replaceBelow 19 = .ok (.if_icmp .ne 13, 3) := by decide +kernel
theorem dX0_replaceBelow_22 : decode cX0_replaceBelow 22 = .ok (.aload_n 0, 1) := by decide +kernel
theorem dX0_replaceBelow_23 : decode cX0_replaceBelow 23 = .ok (.getfield 7, 3) := by decide +kernel
theorem dX0_replaceBelow_26 : decode cX0_replaceBelow 26 = .ok (.iload_n 1, 1) := by decide +kernel
theorem dX0_replaceBelow_27 : decode cX0_replaceBelow 27 = .ok (.iload_n 3, 1) := by decide +kernel
theorem dX0_replaceBelow_28 : decode cX0_replaceBelow 28 = .ok (.iastore, 1) := by decide +kernel
theorem dX0_replaceBelow_29 : decode cX0_replaceBelow 29 = .ok (.goto 10, 3) := by decide +kernel
theorem dX0_replaceBelow_32 : decode cX0_replaceBelow 32 = .ok (.aload_n 0, 1) := by decide +kernel
theorem dX0_replaceBelow_33 : decode cX0_replaceBelow 33 = .ok (.getfield 13, 3) := by decide +kernel
theorem dX0_replaceBelow_36 : decode cX0_replaceBelow 36 = .ok (.iload_n 1, 1) := by decide +kernel
theorem dX0_replaceBelow_37 : decode cX0_replaceBelow 37 = .ok (.iload_n 3, 1) := by decide +kernel
theorem dX0_replaceBelow_38 : decode cX0_replaceBelow 38 = .ok (.iastore, 1) := by decide +kernel
theorem dX0_replaceBelow_39 : decode cX0_replaceBelow 39 = .ok (.return_, 1) := by decide +kernel
theorem dX0_erase_0 : decode cX0_erase 0 = .ok (.iload_n 1, 1) := by decide +kernel
theorem dX0_erase_1 : decode cX0_erase 1 = .ok (.ifCond .lt 16, 3) := by decide +kernel
theorem dX0_erase_4 : decode cX0_erase 4 = .ok (.iload_n 2, 1) := by decide +kernel
theorem dX0_erase_5 : decode cX0_erase 5 = .ok (.iload_n 1, 1) := by decide +kernel
theorem dX0_erase_6 : decode cX0_erase 6 = .ok (.if_icmp .le 11, 3) := by decide +kernel
theorem dX0_erase_9 : decode cX0_erase 9 = .ok (.iload_n 2, 1) := by decide +kernel
theorem dX0_erase_10 : decode cX0_erase 10 = .ok (.aload_n 0, 1) := by decide +kernel
theorem dX0_erase_11 : decode cX0_erase 11 = .ok (.invokevirtual 70, 3) := by decide +kernel
theorem dX0_erase_14 : decode cX0_erase 14 = .ok (.if_icmp .le 5, 3) := by decide +kernel
theorem dX0_erase_17 : decode cX0_erase 17 = .ok (.iconst (-1), 1) := by decide +kernel
theorem dX0_erase_18 : decode cX0_erase 18 = .ok (.ireturn, 1) := by decide +kernel
theorem dX0_erase_19 : decode cX0_erase 19 = .ok (.aload_n 0, 1) := by decide +kernel
theorem dX0_erase_20 : decode cX0_erase 20 = .ok (.getfield 74, 3) := by decide +kernel
theorem dX0_erase_23 : decode cX0_erase 23 = .ok (.bipush 32, 2) := by decide +kernel
theorem dX0_erase_25 : decode cX0_erase 25 = .ok (.if_icmp .ne 6, 3) := by decide +kernel
theorem dX0_erase_28 : decode cX0_erase 28 = .ok (.bipush (-2), 2) := by decide +kernel
theorem dX0_erase_30 : decode cX0_erase 30 = .ok (.ireturn, 1) := by decide +kernel
theorem dX0_erase_31 : decode cX0_erase 31 = .ok (.lconst 0, 1) := by decide +kernel
theorem dX0_erase_32 : decode cX0_erase 32 = .ok (.lstore_n 3, 1) := by decide +kernel
theorem dX0_erase_33 : decode cX0_erase 33 = .ok (.iload_n 1, 1) := by decide +kernel
theorem dX0_erase_34 : decode cX0_erase 34 = .ok (.istore 5, 2) := by decide +kernel
theorem dX0_erase_36 : decode cX0_erase 36 = .ok (.iload 5, 2) := by decide +kernel
theorem dX0_erase_38 : decode cX0_erase 38 = .ok (.iload_n 2, 1) := by decide +kernel
theorem dX0_erase_39 : decode cX0_erase 39 = .ok (.if_icmp .ge 26, 3) := by decide +kernel
theorem dX0_erase_42 : decode cX0_erase 42 = .ok (.aload_n 0, 1) := by decide +kernel
theorem dX0_erase_43 : decode cX0_erase 43 = .ok (.iload 5, 2) := by decide +kernel
theorem dX0_erase_45 : decode cX0_erase 45 = .ok (.invokevirtual 80, 3) := by decide +kernel
theorem dX0_erase_48 : decode cX0_erase 48 = .ok (.istore 6, 2) := by decide +kernel
theorem dX0_erase_50 : decode cX0_erase 50 = .ok (.lload_n 3, 1) := by decide +kernel
theorem dX0_erase_51 : decode cX0_erase 51 = .ok (.lconst 1, 1) := by decide +kernel
theorem dX0_erase_52 : decode cX0_erase 52 = .ok (.iload 6, 2) := by decide +kernel
theorem dX0_erase_54 : decode cX0_erase 54 = .ok (.iconst 1, 1) := by decide +kernel
theorem dX0_erase_55 : decode cX0_erase 55 = .ok (.isub, 1) := by decide +kernel
theorem dX0_erase_56 : decode cX0_erase 56 = .ok (.lshl, 1) := by decide +kernel
theorem dX0_erase_57 : decode cX0_erase 57 = .ok (.lor, 1) := by decide +kernel
theorem dX0_erase_58 : decode cX0_erase 58 = .ok (.lstore_n 3, 1) := by decide +kernel
theorem dX0_erase_59 : decode cX0_erase 59 = .ok (.iinc 5 1, 3) := by decide +kernel
theorem dX0_erase_62 : decode cX0_erase 62 = .ok (.goto (-26), 3) := by decide +kernel
theorem dX0_erase_65 : decode cX0_erase 65 = .ok (.aload_n 0, 1) := by decide +kernel
theorem dX0_erase_66 : decode cX0_erase 66 = .ok (.getfield 34, 3) := by decide +kernel
theorem dX0_erase_69 : decode cX0_erase 69 = .ok (.aload_n 0, 1) := by decide +kernel
theorem dX0_erase_70 : decode cX0_erase 70 = .ok (.getfield 74, 3) := by decide +kernel
theorem dX0_erase_73 : decode cX0_erase 73 = .ok (.iconst 1, 1) := by decide +kernel
theorem dX0_erase_74 : decode cX0_erase 74 = .ok (.bastore, 1) := by decide +kernel
theorem dX0_erase_75 : decode cX0_erase 75 = .ok (.aload_n 0, 1) := by decide +kernel
theorem dX0_erase_76 : decode cX0_erase 76 = .ok (.getfield 38, 3) := by decide +kernel
theorem dX0_erase_79 : decode cX0_erase 79 = .ok (.aload_n 0, 1) := by decide +kernel
theorem dX0_erase_80 : decode cX0_erase 80 = .ok (.getfield 74, 3) := by decide +kernel
theorem dX0_erase_83 : decode cX0_erase 83 = .ok (.iconst 0, 1) := by decide +kernel
theorem dX0_erase_84 : decode cX0_erase 84 = .ok (.iastore, 1) := by decide +kernel
theorem dX0_erase_85 : decode cX0_erase 85 = .ok (.aload_n 0, 1) := by decide +kernel
theorem dX0_erase_86 : decode cX0_erase 86 = .ok (.getfield 41, 3) := by decide +kernel
theorem dX0_erase_89 : decode cX0_erase 89 = .ok (.aload_n 0, 1) := by decide +kernel
theorem dX0_erase_90 : decode cX0_erase 90 = .ok (.getfield 74, 3) := by decide +kernel
theorem dX0_erase_93 : decode cX0_erase 93 = .ok (.lload_n 3, 1) := by decide +kernel
theorem dX0_erase_94 : decode cX0_erase 94 = .ok (.lastore, 1) := by decide +kernel
theorem dX0_erase_95 : decode cX0_erase 95 = .ok (.aload_n 0, 1) := by decide +kernel
theorem dX0_erase_96 : decode cX0_erase 96 = .ok (.dup, 1) := by decide +kernel
theorem dX0_erase_97 : decode cX0_erase 97 = .ok (.getfield 74, 3) := by decide +kernel
theorem dX0_erase_100 : decode cX0_erase 100 = .ok (.iconst 1, 1) := by decide +kernel
theorem dX0_erase_101 : decode cX0_erase 101 = .ok (.iadd, 1) := by decide +kernel
theorem dX0_erase_102 : decode cX0_erase 102 = .ok (.putfield 74, 3) := by decide +kernel
theorem dX0_erase_105 : decode cX0_erase 105 = .ok (.aload_n 0, 1) := by decide +kernel
theorem dX0_erase_106 : decode cX0_erase 106 = .ok (.lload_n 3, 1) := by decide +kernel
theorem dX0_erase_107 : decode cX0_erase 107 = .ok (.iconst 1, 1) := by decide +kernel
theorem dX0_erase_108 : decode cX0_erase 108 = .ok (.invokevirtual 89, 3) := by decide +kernel
end
section
set_option maxRecDepth 100000
theorem dX0_erase_111 : decode cX0_erase 111 = .ok (.aload_n 0, 1) := by decide +kernel
theorem dX0_erase_112 : decode cX0_erase 112 = .ok (.getfield 74, 3) := by decide +kernel
theorem dX0_erase_115 : decode cX0_erase 115 = .ok (.iconst 1, 1) := by decide +kernel
theorem dX0_erase_116 : decode cX0_erase 116 = .ok (.isub, 1) := by decide +kernel
theorem dX0_erase_117 : decode cX0_erase 117 = .ok (.ireturn, 1) := by decide +kernel
theorem dX0_coverBy_0 : decode cX0_coverBy 0 = .ok (.iconst 1, 1) := by decide +kernel
theorem dX0_coverBy_1 : decode cX0_coverBy 1 = .ok (.istore 4, 2) := by decide +kernel
theorem dX0_coverBy_3 : decode cX0_coverBy 3 = .ok (.iload 4, 2) := by decide +kernel
theorem dX0_coverBy_5 : decode cX0_coverBy 5 = .ok (.aload_n 0, 1) := by decide +kernel
theorem dX0_coverBy_6 : decode cX0_coverBy 6 = .ok (.getfield 77, 3) := by decide +kernel
theorem dX0_coverBy_9 : decode cX0_coverBy 9 = .ok (.if_icmp .gt 44, 3) := by decide +kernel
theorem dX0_coverBy_12 : decode cX0_coverBy 12 = .ok (.lload_n 1, 1) := by decide +kernel
theorem dX0_coverBy_13 : decode cX0_coverBy 13 = .ok (.iload 4, 2) := by decide +kernel
theorem dX0_coverBy_15 : decode cX0_coverBy 15 = .ok (.iconst 1, 1) := by decide +kernel
theorem dX0_coverBy_16 : decode cX0_coverBy 16 = .ok (.isub, 1) := by decide +kernel
theorem dX0_coverBy_17 : decode cX0_coverBy 17 = .ok (.lushr, 1) := by decide +kernel
theorem dX0_coverBy_18 : decode cX0_coverBy 18 = .ok (.lconst 1, 1) := by decide +kernel
theorem dX0_coverBy_19 : decode cX0_coverBy 19 = .ok (.land, 1) := by decide +kernel
theorem dX0_coverBy_20 : decode cX0_coverBy 20 = .ok (.lconst 1, 1) := by decide +kernel
theorem dX0_coverBy_21 : decode cX0_coverBy 21 = .ok (.lcmp, 1) := by decide +kernel
theorem dX0_coverBy_22 : decode cX0_coverBy 22 = .ok (.ifCond .ne 25, 3) := by decide +kernel
theorem dX0_coverBy_25 : decode cX0_coverBy 25 = .ok (.aload_n 0, 1) := by decide +kernel
theorem dX0_coverBy_26 : decode cX0_coverBy 26 = .ok (.getfield 31, 3) := by decide +kernel
theorem dX0_coverBy_29 : decode cX0_coverBy 29 = .ok (.iload 4, 2) := by decide +kernel
theorem dX0_coverBy_31 : decode cX0_coverBy 31 = .ok (.aload_n 0, 1) := by decide +kernel
theorem dX0_coverBy_32 : decode cX0_coverBy 32 = .ok (.getfield 31, 3) := by decide +kernel
theorem dX0_coverBy_35 : decode cX0_coverBy 35 = .ok (.iload 4, 2) := by decide +kernel
theorem dX0_coverBy_37 : decode cX0_coverBy 37 = .ok (.iaload, 1) := by decide +kernel
theorem dX0_coverBy_38 : decode cX0_coverBy 38 = .ok (.iload_n 3, 1) := by decide +kernel
theorem dX0_coverBy_39 : decode cX0_coverBy 39 = .ok (.iadd, 1) := by decide +kernel
theorem dX0_coverBy_40 : decode cX0_coverBy 40 = .ok (.iastore, 1) := by decide +kernel
theorem dX0_coverBy_41 : decode cX0_coverBy 41 = .ok (.aload_n 0, 1) := by decide +kernel
theorem dX0_coverBy_42 : decode cX0_coverBy 42 = .ok (.iload 4, 2) := by decide +kernel
theorem dX0_coverBy_44 : decode cX0_coverBy 44 = .ok (.invokevirtual 64, 3) := by decide +kernel
theorem dX0_coverBy_47 : decode cX0_coverBy 47 = .ok (.iinc 4 1, 3) := by decide +kernel
theorem dX0_coverBy_50 : decode cX0_coverBy 50 = .ok (.goto (-47), 3) := by decide +kernel
theorem dX0_coverBy_53 : decode cX0_coverBy 53 = .ok (.return_, 1) := by decide +kernel
theorem dX0_put_0 : decode cX0_put 0 = .ok (.aload_n 0, 1) := by decide +kernel
theorem dX0_put_1 : decode cX0_put 1 = .ok (.iload_n 1, 1) := by decide +kernel
theorem dX0_put_2 : decode cX0_put 2 = .ok (.invokevirtual 93, 3) := by decide +kernel
theorem dX0_put_5 : decode cX0_put 5 = .ok (.ifCond .eq 5, 3) := by decide +kernel
theorem dX0_put_8 : decode cX0_put 8 = .ok (.iconst (-1), 1) := by decide +kernel
theorem dX0_put_9 : decode cX0_put 9 = .ok (.ireturn, 1) := by decide +kernel
theorem dX0_put_10 : decode cX0_put 10 = .ok (.aload_n 0, 1) := by decide +kernel
theorem dX0_put_11 : decode cX0_put 11 = .ok (.getfield 34, 3) := by decide +kernel
theorem dX0_put_14 : decode cX0_put 14 = .ok (.iload_n 1, 1) := by decide +kernel
theorem dX0_put_15 : decode cX0_put 15 = .ok (.baload, 1) := by decide +kernel
theorem dX0_put_16 : decode cX0_put 16 = .ok (.ifCond .eq 7, 3) := by decide +kernel
theorem dX0_put_19 : decode cX0_put 19 = .ok (.iconst 1, 1) := by decide +kernel
theorem dX0_put_20 : decode cX0_put 20 = .ok (.goto 4, 3) := by decide +kernel
theorem dX0_put_23 : decode cX0_put 23 = .ok (.iconst 0, 1) := by decide +kernel
theorem dX0_put_24 : decode cX0_put 24 = .ok (.istore_n 3, 1) := by decide +kernel
theorem dX0_put_25 : decode cX0_put 25 = .ok (.aload_n 0, 1) := by decide +kernel
theorem dX0_put_26 : decode cX0_put 26 = .ok (.getfield 34, 3) := by decide +kernel
theorem dX0_put_29 : decode cX0_put 29 = .ok (.iload_n 1, 1) := by decide +kernel
theorem dX0_put_30 : decode cX0_put 30 = .ok (.baload, 1) := by decide +kernel
theorem dX0_put_31 : decode cX0_put 31 = .ok (.iload_n 2, 1) := by decide +kernel
theorem dX0_put_32 : decode cX0_put 32 = .ok (.ifCond .eq 7, 3) := by decide +kernel
theorem dX0_put_35 : decode cX0_put 35 = .ok (.iconst 1, 1) := by decide +kernel
theorem dX0_put_36 : decode cX0_put 36 = .ok (.goto 4, 3) := by decide +kernel
theorem dX0_put_39 : decode cX0_put 39 = .ok (.iconst 0, 1) := by decide +kernel
theorem dX0_put_40 : decode cX0_put 40 = .ok (.if_icmp .eq 8, 3) := by decide +kernel
theorem dX0_put_43 : decode cX0_put 43 = .ok (.aload_n 0, 1) := by decide +kernel
theorem dX0_put_44 : decode cX0_put 44 = .ok (.iload_n 1, 1) := by decide +kernel
theorem dX0_put_45 : decode cX0_put 45 = .ok (.invokevirtual 96, 3) := by decide +kernel
theorem dX0_put_48 : decode cX0_put 48 = .ok (.iload_n 3, 1) := by decide +kernel
theorem dX0_put_49 : decode cX0_put 49 = .ok (.ireturn, 1) := by decide +kernel
theorem dX0_bad_0 : decode cX0_bad 0 = .ok (.iload_n 1, 1) := by decide +kernel
theorem dX0_bad_1 : decode cX0_bad 1 = .ok (.ifCond .lt 11, 3) := by decide +kernel
theorem dX0_bad_4 : decode cX0_bad 4 = .ok (.iload_n 1, 1) := by decide +kernel
theorem dX0_bad_5 : decode cX0_bad 5 = .ok (.aload_n 0, 1) := by decide +kernel
theorem dX0_bad_6 : decode cX0_bad 6 = .ok (.getfield 74, 3) := by decide +kernel
theorem dX0_bad_9 : decode cX0_bad 9 = .ok (.if_icmp .lt 7, 3) := by decide +kernel
theorem dX0_bad_12 : decode cX0_bad 12 = .ok (.iconst 1, 1) := by decide +kernel
theorem dX0_bad_13 : decode cX0_bad 13 = .ok (.goto 4, 3) := by decide +kernel
theorem dX0_bad_16 : decode cX0_bad 16 = .ok (.iconst 0, 1) := by decide +kernel
theorem dX0_bad_17 : decode cX0_bad 17 = .ok (.ireturn, 1) := by decide +kernel
theorem dX0_toggle_0 : decode cX0_toggle 0 = .ok (.aload_n 0, 1) := by decide +kernel
theorem dX0_toggle_1 : decode cX0_toggle 1 = .ok (.getfield 34, 3) := by decide +kernel
theorem dX0_toggle_4 : decode cX0_toggle 4 = .ok (.iload_n 1, 1) := by decide +kernel
theorem dX0_toggle_5 : decode cX0_toggle 5 = .ok (.aload_n 0, 1) := by decide +kernel
theorem dX0_toggle_6 : decode cX0_toggle 6 = .ok (.getfield 34, 3) := by decide +kernel
theorem dX0_toggle_9 : decode cX0_toggle 9 = .ok (.iload_n 1, 1) := by decide +kernel
theorem dX0_toggle_10 : decode cX0_toggle 10 = .ok (.baload, 1) := by decide +kernel
theorem dX0_toggle_11 : decode cX0_toggle 11 = .ok (.ifCond .ne 7, 3) := by decide +kernel
theorem dX0_toggle_14 : decode cX0_toggle 14 = .ok (.iconst 1, 1) := by decide +kernel
theorem dX0_toggle_15 : decode cX0_toggle 15 = .ok (.goto 4, 3) := by decide +kernel
theorem dX0_toggle_18 : decode cX0_toggle 18 = .ok (.iconst 0, 1) := by decide +kernel
theorem dX0_toggle_19 : decode cX0_toggle 19 = .ok (.bastore, 1) := by decide +kernel
theorem dX0_toggle_20 : decode cX0_toggle 20 = .ok (.aload_n 0, 1) := by decide +kernel
theorem dX0_toggle_21 : decode cX0_toggle 21 = .ok (.getfield 38, 3) := by decide +kernel
theorem dX0_toggle_24 : decode cX0_toggle 24 = .ok (.iload_n 1, 1) := by decide +kernel
theorem dX0_toggle_25 : decode cX0_toggle 25 = .ok (.iaload, 1) := by decide +kernel
theorem dX0_toggle_26 : decode cX0_toggle 26 = .ok (.ifCond .eq 16, 3) := by decide +kernel
theorem dX0_toggle_29 : decode cX0_toggle 29 = .ok (.aload_n 0, 1) := by decide +kernel
theorem dX0_toggle_30 : decode cX0_toggle 30 = .ok (.aload_n 0, 1) := by decide +kernel
theorem dX0_toggle_31 : decode cX0_toggle 31 = .ok (.getfield 38, 3) := by decide +kernel
theorem dX0_toggle_34 : decode cX0_toggle 34 = .ok (.iload_n 1, 1) := by decide +kernel
theorem dX0_toggle_35 : decode cX0_toggle 35 = .ok (.iaload, 1) := by decide +kernel
theorem dX0_toggle_36 : decode cX0_toggle 36 = .ok (.invokevirtual 64, 3) := by decide +kernel
theorem dX0_toggle_39 : decode cX0_toggle 39 = .ok (.goto 27, 3) := by decide +kernel
theorem dX0_toggle_42 : decode cX0_toggle 42 = .ok (.aload_n 0, 1) := by decide +kernel
theorem dX0_toggle_43 : decode cX0_toggle 43 = .ok (.aload_n 0, 1) := by decide +kernel
theorem dX0_toggle_44 : decode cX0_toggle 44 = .ok (.getfield 41, 3) := by decide +kernel
theorem dX0_toggle_47 : decode cX0_toggle 47 = .ok (.iload_n 1, 1) := by decide +kernel
theorem dX0_toggle_48 : decode cX0_toggle 48 = .ok (.laload, 1) := by decide +kernel
theorem dX0_toggle_49 : decode cX0_toggle 49 = .ok (.aload_n 0, 1) := by decide +kernel
theorem dX0_toggle_50 : decode cX0_toggle 50 = .ok (.getfield 34, 3) := by decide +kernel
theorem dX0_toggle_53 : decode cX0_toggle 53 = .ok (.iload_n 1, 1) := by decide +kernel
theorem dX0_toggle_54 : decode cX0_toggle 54 = .ok (.baload, 1) := by decide +kernel
theorem dX0_toggle_55 : decode cX0_toggle 55 = .ok (.ifCond .eq 7, 3) := by decide +kernel
theorem dX0_toggle_58 : decode cX0_toggle 58 = .ok (.iconst 1, 1) := by decide +kernel
theorem dX0_toggle_59 : decode cX0_toggle 59 = .ok (.goto 4, 3) := by decide +kernel
theorem dX0_toggle_62 : decode cX0_toggle 62 = .ok (.iconst (-1), 1) := by decide +kernel
theorem dX0_toggle_63 : decode cX0_toggle 63 = .ok (.invokevirtual 89, 3) := by decide +kernel
theorem dX0_toggle_66 : decode cX0_toggle 66 = .ok (.return_, 1) := by decide +kernel
theorem dX0_undo_0 : decode cX0_undo 0 = .ok (.aload_n 0, 1) := by decide +kernel
theorem dX0_undo_1 : decode cX0_undo 1 = .ok (.getfield 74, 3) := by decide +kernel
theorem dX0_undo_4 : decode cX0_undo 4 = .ok (.iconst 1, 1) := by decide +kernel
theorem dX0_undo_5 : decode cX0_undo 5 = .ok (.isub, 1) := by decide +kernel
theorem dX0_undo_6 : decode cX0_undo 6 = .ok (.istore_n 1, 1) := by decide +kernel
theorem dX0_undo_7 : decode cX0_undo 7 = .ok (.iload_n 1, 1) := by decide +kernel
theorem dX0_undo_8 : decode cX0_undo 8 = .ok (.ifCond .lt 25, 3) := by decide +kernel
theorem dX0_undo_11 : decode cX0_undo 11 = .ok (.aload_n 0, 1) := by decide +kernel
theorem dX0_undo_12 : decode cX0_undo 12 = .ok (.getfield 34, 3) := by decide +kernel
theorem dX0_undo_15 : decode cX0_undo 15 = .ok (.iload_n 1, 1) := by decide +kernel
theorem dX0_undo_16 : decode cX0_undo 16 = .ok (.baload, 1) := by decide +kernel
theorem dX0_undo_17 : decode cX0_undo 17 = .ok (.ifCond .eq 10, 3) := by decide +kernel
theorem dX0_undo_20 : decode cX0_undo 20 = .ok (.aload_n 0, 1) := by decide +kernel
theorem dX0_undo_21 : decode cX0_undo 21 = .ok (.iload_n 1, 1) := by decide +kernel
theorem dX0_undo_22 : decode cX0_undo 22 = .ok (.invokevirtual 96, 3) := by decide +kernel
theorem dX0_undo_25 : decode cX0_undo 25 = .ok (.iload_n 1, 1) := by decide +kernel
theorem dX0_undo_26 : decode cX0_undo 26 = .ok (.ireturn, 1) := by decide +kernel
theorem dX0_undo_27 : decode cX0_undo 27 = .ok (.iinc 1 (-1), 3) := by decide +kernel
theorem dX0_undo_30 : decode cX0_undo 30 = .ok (.goto (-23), 3) := by decide +kernel
theorem dX0_undo_33 : decode cX0_undo 33 = .ok (.bipush (-4), 2) := by decide +kernel
theorem dX0_undo_35 : decode cX0_undo 35 = .ok (.ireturn, 1) := by decide +kernel
theorem dX0_redo_0 : decode cX0_redo 0 = .ok (.iconst 0, 1) := by decide +kernel
theorem dX0_redo_1 : decode cX0_redo 1 = .ok (.istore_n 1, 1) := by decide +kernel
theorem dX0_redo_2 : decode cX0_redo 2 = .ok (.iload_n 1, 1) := by decide +kernel
theorem dX0_redo_3 : decode cX0_redo 3 = .ok (.aload_n 0, 1) := by decide +kernel
theorem dX0_redo_4 : decode cX0_redo 4 = .ok (.getfield 74, 3) := by decide +kernel
theorem dX0_redo_7 : decode cX0_redo 7 = .ok (.if_icmp .ge 25, 3) := by decide +kernel
theorem dX0_redo_10 : decode cX0_redo 10 = .ok (.aload_n 0, 1) := by decide +kernel
theorem dX0_redo_11 : decode cX0_redo 11 = .ok (.getfield 34, 3) := by decide +kernel
theorem dX0_redo_14 : decode cX0_redo 14 = .ok (.iload_n 1, 1) := by decide +kernel
theorem dX0_redo_15 : decode cX0_redo 15 = .ok (.baload, 1) := by decide +kernel
theorem dX0_redo_16 : decode cX0_redo 16 = .ok (.ifCond .ne 10, 3) := by decide +kernel
theorem dX0_redo_19 : decode cX0_redo 19 = .ok (.aload_n 0, 1) := by decide +kernel
theorem dX0_redo_20 : decode cX0_redo 20 = .ok (.iload_n 1, 1) := by decide +kernel
theorem dX0_redo_21 : decode cX0_redo 21 = .ok (.invokevirtual 96, 3) := by decide +kernel
theorem dX0_redo_24 : decode cX0_redo 24 = .ok (.iload_n 1, 1) := by decide +kernel
theorem dX0_redo_25 : decode cX0_redo 25 = .ok (.ireturn, 1) := by decide +kernel
theorem dX0_redo_26 : decode cX0_redo 26 = .ok (.iinc 1 1, 3) := by decide +kernel
theorem dX0_redo_29 : decode cX0_redo 29 = .ok (.goto (-27), 3) := by decide +kernel
theorem dX0_redo_32 : decode cX0_redo 32 = .ok (.bipush (-4), 2) := by decide +kernel
theorem dX0_redo_34 : decode cX0_redo 34 = .ok (.ireturn, 1) := by decide +kernel
theorem dX0_flip_0 : decode cX0_flip 0 = .ok (.iload_n 1, 1) := by decide +kernel
theorem dX0_flip_1 : decode cX0_flip 1 = .ok (.ifCond .lt 16, 3) := by decide +kernel
theorem dX0_flip_4 : decode cX0_flip 4 = .ok (.iload_n 2, 1) := by decide +kernel
theorem dX0_flip_5 : decode cX0_flip 5 = .ok (.iload_n 1, 1) := by decide +kernel
theorem dX0_flip_6 : decode cX0_flip 6 = .ok (.if_icmp .lt 11, 3) := by decide +kernel
theorem dX0_flip_9 : decode cX0_flip 9 = .ok (.aload_n 0, 1) := by decide +kernel
theorem dX0_flip_10 : decode cX0_flip 10 = .ok (.iload_n 2, 1) := by decide +kernel
theorem dX0_flip_11 : decode cX0_flip 11 = .ok (.invokevirtual 93, 3) := by decide +kernel
theorem dX0_flip_14 : decode cX0_flip 14 = .ok (.ifCond .eq 5, 3) := by decide +kernel
theorem dX0_flip_17 : decode cX0_flip 17 = .ok (.iconst (-1), 1) := by decide +kernel
theorem dX0_flip_18 : decode cX0_flip 18 = .ok (.ireturn, 1) := by decide +kernel
theorem dX0_flip_19 : decode cX0_flip 19 = .ok (.iconst 0, 1) := by decide +kernel
theorem dX0_flip_20 : decode cX0_flip 20 = .ok (.istore_n 3, 1) := by decide +kernel
theorem dX0_flip_21 : decode cX0_flip 21 = .ok (.iload_n 1, 1) := by decide +kernel
theorem dX0_flip_22 : decode cX0_flip 22 = .ok (.istore 4, 2) := by decide +kernel
theorem dX0_flip_24 : decode cX0_flip 24 = .ok (.iload 4, 2) := by decide +kernel
theorem dX0_flip_26 : decode cX0_flip 26 = .ok (.iload_n 2, 1) := by decide +kernel
theorem dX0_flip_27 : decode cX0_flip 27 = .ok (.if_icmp .gt 28, 3) := by decide +kernel
theorem dX0_flip_30 : decode cX0_flip 30 = .ok (.aload_n 0, 1) := by decide +kernel
theorem dX0_flip_31 : decode cX0_flip 31 = .ok (.iload 4, 2) := by decide +kernel
theorem dX0_flip_33 : decode cX0_flip 33 = .ok (.invokevirtual 96, 3) := by decide +kernel
theorem dX0_flip_36 : decode cX0_flip 36 = .ok (.aload_n 0, 1) := by decide +kernel
theorem dX0_flip_37 : decode cX0_flip 37 = .ok (.getfield 34, 3) := by decide +kernel
theorem dX0_flip_40 : decode cX0_flip 40 = .ok (.iload 4, 2) := by decide +kernel
theorem dX0_flip_42 : decode cX0_flip 42 = .ok (.baload, 1) := by decide +kernel
theorem dX0_flip_43 : decode cX0_flip 43 = .ok (.ifCond .eq 6, 3) := by decide +kernel
theorem dX0_flip_46 : decode cX0_flip 46 = .ok (.iinc 3 1, 3) := by decide +kernel
theorem dX0_flip_49 : decode cX0_flip 49 = .ok (.iinc 4 1, 3) := by decide +kernel
theorem dX0_flip_52 : decode cX0_flip 52 = .ok (.goto (-28), 3) := by decide +kernel
theorem dX0_flip_55 : decode cX0_flip 55 = .ok (.iload_n 3, 1) := by decide +kernel
theorem dX0_flip_56 : decode cX0_flip 56 = .ok (.ireturn, 1) := by decide +kernel
theorem dX0_changes_0 : decode cX0_changes 0 = .ok (.aload_n 0, 1) := by decide +kernel
theorem dX0_changes_1 : decode cX0_changes 1 = .ok (.getfield 74, 3) := by decide +kernel
theorem dX0_changes_4 : decode cX0_changes 4 = .ok (.ireturn, 1) := by decide +kernel
theorem dX0_isOn_0 : decode cX0_isOn 0 = .ok (.aload_n 0, 1) := by decide +kernel
theorem dX0_isOn_1 : decode cX0_isOn 1 = .ok (.iload_n 1, 1) := by decide +kernel
theorem dX0_isOn_2 : decode cX0_isOn 2 = .ok (.invokevirtual 93, 3) := by decide +kernel
theorem dX0_isOn_5 : decode cX0_isOn 5 = .ok (.ifCond .ne 16, 3) := by decide +kernel
theorem dX0_isOn_8 : decode cX0_isOn 8 = .ok (.aload_n 0, 1) := by decide +kernel
theorem dX0_isOn_9 : decode cX0_isOn 9 = .ok (.getfield 34, 3) := by decide +kernel
theorem dX0_isOn_12 : decode cX0_isOn 12 = .ok (.iload_n 1, 1) := by decide +kernel
theorem dX0_isOn_13 : decode cX0_isOn 13 = .ok (.baload, 1) := by decide +kernel
theorem dX0_isOn_14 : decode cX0_isOn 14 = .ok (.ifCond .eq 7, 3) := by decide +kernel
theorem dX0_isOn_17 : decode cX0_isOn 17 = .ok (.iconst 1, 1) := by decide +kernel
theorem dX0_isOn_18 : decode cX0_isOn 18 = .ok (.goto 4, 3) := by decide +kernel
theorem dX0_isOn_21 : decode cX0_isOn 21 = .ok (.iconst 0, 1) := by decide +kernel
theorem dX0_isOn_22 : decode cX0_isOn 22 = .ok (.ireturn, 1) := by decide +kernel
theorem dX0_length_0 : decode cX0_length 0 = .ok (.aload_n 0, 1) := by decide +kernel
theorem dX0_length_1 : decode cX0_length 1 = .ok (.invokevirtual 70, 3) := by decide +kernel
theorem dX0_length_4 : decode cX0_length 4 = .ok (.ireturn, 1) := by decide +kernel
theorem dX0_letter_0 : decode cX0_letter 0 = .ok (.iload_n 1, 1) := by decide +kernel
theorem dX0_letter_1 : decode cX0_letter 1 = .ok (.ifCond .lt 11, 3) := by decide +kernel
theorem dX0_letter_4 : decode cX0_letter 4 = .ok (.iload_n 1, 1) := by decide +kernel
theorem dX0_letter_5 : decode cX0_letter 5 = .ok (.aload_n 0, 1) := by decide +kernel
theorem dX0_letter_6 : decode cX0_letter 6 = .ok (.invokevirtual 70, 3) := by decide +kernel
theorem dX0_letter_9 : decode cX0_letter 9 = .ok (.if_icmp .lt 6, 3) := by decide +kernel
theorem dX0_letter_12 : decode cX0_letter 12 = .ok (.bipush (-4), 2) := by decide +kernel
theorem dX0_letter_14 : decode cX0_letter 14 = .ok (.ireturn, 1) := by decide +kernel
theorem dX0_letter_15 : decode cX0_letter 15 = .ok (.aload_n 0, 1) := by decide +kernel
theorem dX0_letter_16 : decode cX0_letter 16 = .ok (.iload_n 1, 1) := by decide +kernel
theorem dX0_letter_17 : decode cX0_letter 17 = .ok (.invokevirtual 80, 3) := by decide +kernel
theorem dX0_letter_20 : decode cX0_letter 20 = .ok (.istore_n 2, 1) := by decide +kernel
theorem dX0_letter_21 : decode cX0_letter 21 = .ok (.aload_n 0, 1) := by decide +kernel
theorem dX0_letter_22 : decode cX0_letter 22 = .ok (.getfield 25, 3) := by decide +kernel
theorem dX0_letter_25 : decode cX0_letter 25 = .ok (.iload_n 2, 1) := by decide +kernel
theorem dX0_letter_26 : decode cX0_letter 26 = .ok (.iaload, 1) := by decide +kernel
theorem dX0_letter_27 : decode cX0_letter 27 = .ok (.ireturn, 1) := by decide +kernel
theorem dX0_origin_0 : decode cX0_origin 0 = .ok (.iload_n 1, 1) := by decide +kernel
theorem dX0_origin_1 : decode cX0_origin 1 = .ok (.ifCond .lt 11, 3) := by decide +kernel
theorem dX0_origin_4 : decode cX0_origin 4 = .ok (.iload_n 1, 1) := by decide +kernel
theorem dX0_origin_5 : decode cX0_origin 5 = .ok (.aload_n 0, 1) := by decide +kernel
theorem dX0_origin_6 : decode cX0_origin 6 = .ok (.invokevirtual 70, 3) := by decide +kernel
theorem dX0_origin_9 : decode cX0_origin 9 = .ok (.if_icmp .lt 6, 3) := by decide +kernel
theorem dX0_origin_12 : decode cX0_origin 12 = .ok (.bipush (-4), 2) := by decide +kernel
theorem dX0_origin_14 : decode cX0_origin 14 = .ok (.ireturn, 1) := by decide +kernel
theorem dX0_origin_15 : decode cX0_origin 15 = .ok (.aload_n 0, 1) := by decide +kernel
theorem dX0_origin_16 : decode cX0_origin 16 = .ok (.iload_n 1, 1) := by decide +kernel
theorem dX0_origin_17 : decode cX0_origin 17 = .ok (.invokevirtual 80, 3) := by decide +kernel
theorem dX0_origin_20 : decode cX0_origin 20 = .ok (.istore_n 2, 1) := by decide +kernel
theorem dX0_origin_21 : decode cX0_origin 21 = .ok (.aload_n 0, 1) := by decide +kernel
theorem dX0_origin_22 : decode cX0_origin 22 = .ok (.getfield 28, 3) := by decide +kernel
theorem dX0_origin_25 : decode cX0_origin 25 = .ok (.iload_n 2, 1) := by decide +kernel
theorem dX0_origin_26 : decode cX0_origin 26 = .ok (.iaload, 1) := by decide +kernel
theorem dX0_origin_27 : decode cX0_origin 27 = .ok (.ireturn, 1) := by decide +kernel
theorem dX0_where_0 : decode cX0_where 0 = .ok (.aload_n 0, 1) := by decide +kernel
theorem dX0_where_1 : decode cX0_where 1 = .ok (.iload_n 1, 1) := by decide +kernel
theorem dX0_where_2 : decode cX0_where 2 = .ok (.invokevirtual 93, 3) := by decide +kernel
theorem dX0_where_5 : decode cX0_where 5 = .ok (.ifCond .ne 12, 3) := by decide +kernel
theorem dX0_where_8 : decode cX0_where 8 = .ok (.aload_n 0, 1) := by decide +kernel
theorem dX0_where_9 : decode cX0_where 9 = .ok (.getfield 38, 3) := by decide +kernel
theorem dX0_where_12 : decode cX0_where 12 = .ok (.iload_n 1, 1) := by decide +kernel
theorem dX0_where_13 : decode cX0_where 13 = .ok (.iaload, 1) := by decide +kernel
theorem dX0_where_14 : decode cX0_where 14 = .ok (.ifCond .ne 6, 3) := by decide +kernel
theorem dX0_where_17 : decode cX0_where 17 = .ok (.bipush (-4), 2) := by decide +kernel
theorem dX0_where_19 : decode cX0_where 19 = .ok (.ireturn, 1) := by decide +kernel
theorem dX0_where_20 : decode cX0_where 20 = .ok (.aload_n 0, 1) := by decide +kernel
theorem dX0_where_21 : decode cX0_where 21 = .ok (.aload_n 0, 1) := by decide +kernel
theorem dX0_where_22 : decode cX0_where 22 = .ok (.getfield 38, 3) := by decide +kernel
theorem dX0_where_25 : decode cX0_where 25 = .ok (.iload_n 1, 1) := by decide +kernel
theorem dX0_where_26 : decode cX0_where 26 = .ok (.iaload, 1) := by decide +kernel
theorem dX0_where_27 : decode cX0_where 27 = .ok (.invokevirtual 49, 3) := by decide +kernel
theorem dX0_where_30 : decode cX0_where 30 = .ok (.istore_n 2, 1) := by decide +kernel
theorem dX0_where_31 : decode cX0_where 31 = .ok (.iload_n 2, 1) := by decide +kernel
theorem dX0_where_32 : decode cX0_where 32 = .ok (.ifCond .eq 16, 3) := by decide +kernel
theorem dX0_where_35 : decode cX0_where 35 = .ok (.aload_n 0, 1) := by decide +kernel
theorem dX0_where_36 : decode cX0_where 36 = .ok (.aload_n 0, 1) := by decide +kernel
theorem dX0_where_37 : decode cX0_where 37 = .ok (.getfield 38, 3) := by decide +kernel
theorem dX0_where_40 : decode cX0_where 40 = .ok (.iload_n 1, 1) := by decide +kernel
theorem dX0_where_41 : decode cX0_where 41 = .ok (.iaload, 1) := by decide +kernel
theorem dX0_where_42 : decode cX0_where 42 = .ok (.invokevirtual 99, 3) := by decide +kernel
theorem dX0_where_45 : decode cX0_where 45 = .ok (.goto 5, 3) := by decide +kernel
theorem dX0_where_48 : decode cX0_where 48 = .ok (.bipush (-4), 2) := by decide +kernel
theorem dX0_where_50 : decode cX0_where 50 = .ok (.ireturn, 1) := by decide +kernel
theorem dX0_placeOf_0 : decode cX0_placeOf 0 = .ok (.aload_n 0, 1) := by decide +kernel
theorem dX0_placeOf_1 : decode cX0_placeOf 1 = .ok (.getfield 22, 3) := by decide +kernel
theorem dX0_placeOf_4 : decode cX0_placeOf 4 = .ok (.aload_n 0, 1) := by decide +kernel
theorem dX0_placeOf_5 : decode cX0_placeOf 5 = .ok (.getfield 7, 3) := by decide +kernel
theorem dX0_placeOf_8 : decode cX0_placeOf 8 = .ok (.iload_n 1, 1) := by decide +kernel
theorem dX0_placeOf_9 : decode cX0_placeOf 9 = .ok (.iaload, 1) := by decide +kernel
theorem dX0_placeOf_10 : decode cX0_placeOf 10 = .ok (.iaload, 1) := by decide +kernel
theorem dX0_placeOf_11 : decode cX0_placeOf 11 = .ok (.istore_n 2, 1) := by decide +kernel
theorem dX0_placeOf_12 : decode cX0_placeOf 12 = .ok (.iload_n 1, 1) := by decide +kernel
theorem dX0_placeOf_13 : decode cX0_placeOf 13 = .ok (.istore_n 3, 1) := by decide +kernel
end
section
set_option maxRecDepth 100000
theorem dX0_placeOf_14 : decode cX0_placeOf 14 = .ok (.iconst 0, 1) := by decide +kernel
theorem dX0_placeOf_15 : decode cX0_placeOf 15 = .ok (.istore 4, 2) := by decide +kernel
theorem dX0_placeOf_17 : decode cX0_placeOf 17 = .ok (.iload 4, 2) := by decide +kernel
theorem dX0_placeOf_19 : decode cX0_placeOf 19 = .ok (.bipush 48, 2) := by decide +kernel
theorem dX0_placeOf_21 : decode cX0_placeOf 21 = .ok (.if_icmp .ge 70, 3) := by decide +kernel
theorem dX0_placeOf_24 : decode cX0_placeOf 24 = .ok (.aload_n 0, 1) := by decide +kernel
theorem dX0_placeOf_25 : decode cX0_placeOf 25 = .ok (.getfield 16, 3) := by decide +kernel
theorem dX0_placeOf_28 : decode cX0_placeOf 28 = .ok (.iload_n 3, 1) := by decide +kernel
theorem dX0_placeOf_29 : decode cX0_placeOf 29 = .ok (.iaload, 1) := by decide +kernel
theorem dX0_placeOf_30 : decode cX0_placeOf 30 = .ok (.ifCond .eq 61, 3) := by decide +kernel
theorem dX0_placeOf_33 : decode cX0_placeOf 33 = .ok (.aload_n 0, 1) := by decide +kernel
theorem dX0_placeOf_34 : decode cX0_placeOf 34 = .ok (.getfield 16, 3) := by decide +kernel
theorem dX0_placeOf_37 : decode cX0_placeOf 37 = .ok (.iload_n 3, 1) := by decide +kernel
theorem dX0_placeOf_38 : decode cX0_placeOf 38 = .ok (.iaload, 1) := by decide +kernel
theorem dX0_placeOf_39 : decode cX0_placeOf 39 = .ok (.istore 5, 2) := by decide +kernel
theorem dX0_placeOf_41 : decode cX0_placeOf 41 = .ok (.aload_n 0, 1) := by decide +kernel
theorem dX0_placeOf_42 : decode cX0_placeOf 42 = .ok (.getfield 13, 3) := by decide +kernel
theorem dX0_placeOf_45 : decode cX0_placeOf 45 = .ok (.iload 5, 2) := by decide +kernel
theorem dX0_placeOf_47 : decode cX0_placeOf 47 = .ok (.iaload, 1) := by decide +kernel
theorem dX0_placeOf_48 : decode cX0_placeOf 48 = .ok (.iload_n 3, 1) := by decide +kernel
theorem dX0_placeOf_49 : decode cX0_placeOf 49 = .ok (.if_icmp .ne 33, 3) := by decide +kernel
theorem dX0_placeOf_52 : decode cX0_placeOf 52 = .ok (.iload_n 2, 1) := by decide +kernel
theorem dX0_placeOf_53 : decode cX0_placeOf 53 = .ok (.aload_n 0, 1) := by decide +kernel
theorem dX0_placeOf_54 : decode cX0_placeOf 54 = .ok (.getfield 22, 3) := by decide +kernel
theorem dX0_placeOf_57 : decode cX0_placeOf 57 = .ok (.aload_n 0, 1) := by decide +kernel
theorem dX0_placeOf_58 : decode cX0_placeOf 58 = .ok (.getfield 7, 3) := by decide +kernel
theorem dX0_placeOf_61 : decode cX0_placeOf 61 = .ok (.iload 5, 2) := by decide +kernel
theorem dX0_placeOf_63 : decode cX0_placeOf 63 = .ok (.iaload, 1) := by decide +kernel
theorem dX0_placeOf_64 : decode cX0_placeOf 64 = .ok (.iaload, 1) := by decide +kernel
theorem dX0_placeOf_65 : decode cX0_placeOf 65 = .ok (.iadd, 1) := by decide +kernel
theorem dX0_placeOf_66 : decode cX0_placeOf 66 = .ok (.aload_n 0, 1) := by decide +kernel
theorem dX0_placeOf_67 : decode cX0_placeOf 67 = .ok (.iload 5, 2) := by decide +kernel
theorem dX0_placeOf_69 : decode cX0_placeOf 69 = .ok (.invokevirtual 49, 3) := by decide +kernel
theorem dX0_placeOf_72 : decode cX0_placeOf 72 = .ok (.ifCond .eq 7, 3) := by decide +kernel
theorem dX0_placeOf_75 : decode cX0_placeOf 75 = .ok (.iconst 1, 1) := by decide +kernel
theorem dX0_placeOf_76 : decode cX0_placeOf 76 = .ok (.goto 4, 3) := by decide +kernel
theorem dX0_placeOf_79 : decode cX0_placeOf 79 = .ok (.iconst 0, 1) := by decide +kernel
theorem dX0_placeOf_80 : decode cX0_placeOf 80 = .ok (.iadd, 1) := by decide +kernel
theorem dX0_placeOf_81 : decode cX0_placeOf 81 = .ok (.istore_n 2, 1) := by decide +kernel
theorem dX0_placeOf_82 : decode cX0_placeOf 82 = .ok (.iload 5, 2) := by decide +kernel
theorem dX0_placeOf_84 : decode cX0_placeOf 84 = .ok (.istore_n 3, 1) := by decide +kernel
theorem dX0_placeOf_85 : decode cX0_placeOf 85 = .ok (.iinc 4 1, 3) := by decide +kernel
theorem dX0_placeOf_88 : decode cX0_placeOf 88 = .ok (.goto (-71), 3) := by decide +kernel
theorem dX0_placeOf_91 : decode cX0_placeOf 91 = .ok (.iload_n 2, 1) := by decide +kernel
theorem dX0_placeOf_92 : decode cX0_placeOf 92 = .ok (.ireturn, 1) := by decide +kernel
theorem dX0_covers_0 : decode cX0_covers 0 = .ok (.aload_n 0, 1) := by decide +kernel
theorem dX0_covers_1 : decode cX0_covers 1 = .ok (.iload_n 1, 1) := by decide +kernel
theorem dX0_covers_2 : decode cX0_covers 2 = .ok (.invokevirtual 93, 3) := by decide +kernel
theorem dX0_covers_5 : decode cX0_covers 5 = .ok (.ifCond .eq 5, 3) := by decide +kernel
theorem dX0_covers_8 : decode cX0_covers 8 = .ok (.iconst (-1), 1) := by decide +kernel
theorem dX0_covers_9 : decode cX0_covers 9 = .ok (.ireturn, 1) := by decide +kernel
theorem dX0_covers_10 : decode cX0_covers 10 = .ok (.iconst 0, 1) := by decide +kernel
theorem dX0_covers_11 : decode cX0_covers 11 = .ok (.istore_n 2, 1) := by decide +kernel
theorem dX0_covers_12 : decode cX0_covers 12 = .ok (.iconst 0, 1) := by decide +kernel
theorem dX0_covers_13 : decode cX0_covers 13 = .ok (.istore_n 3, 1) := by decide +kernel
theorem dX0_covers_14 : decode cX0_covers 14 = .ok (.iload_n 3, 1) := by decide +kernel
theorem dX0_covers_15 : decode cX0_covers 15 = .ok (.bipush 48, 2) := by decide +kernel
theorem dX0_covers_17 : decode cX0_covers 17 = .ok (.if_icmp .ge 27, 3) := by decide +kernel
theorem dX0_covers_20 : decode cX0_covers 20 = .ok (.aload_n 0, 1) := by decide +kernel
theorem dX0_covers_21 : decode cX0_covers 21 = .ok (.getfield 41, 3) := by decide +kernel
theorem dX0_covers_24 : decode cX0_covers 24 = .ok (.iload_n 1, 1) := by decide +kernel
theorem dX0_covers_25 : decode cX0_covers 25 = .ok (.laload, 1) := by decide +kernel
theorem dX0_covers_26 : decode cX0_covers 26 = .ok (.iload_n 3, 1) := by decide +kernel
theorem dX0_covers_27 : decode cX0_covers 27 = .ok (.lushr, 1) := by decide +kernel
theorem dX0_covers_28 : decode cX0_covers 28 = .ok (.lconst 1, 1) := by decide +kernel
theorem dX0_covers_29 : decode cX0_covers 29 = .ok (.land, 1) := by decide +kernel
theorem dX0_covers_30 : decode cX0_covers 30 = .ok (.lconst 1, 1) := by decide +kernel
theorem dX0_covers_31 : decode cX0_covers 31 = .ok (.lcmp, 1) := by decide +kernel
theorem dX0_covers_32 : decode cX0_covers 32 = .ok (.ifCond .ne 6, 3) := by decide +kernel
theorem dX0_covers_35 : decode cX0_covers 35 = .ok (.iinc 2 1, 3) := by decide +kernel
theorem dX0_covers_38 : decode cX0_covers 38 = .ok (.iinc 3 1, 3) := by decide +kernel
theorem dX0_covers_41 : decode cX0_covers 41 = .ok (.goto (-27), 3) := by decide +kernel
theorem dX0_covers_44 : decode cX0_covers 44 = .ok (.iload_n 2, 1) := by decide +kernel
theorem dX0_covers_45 : decode cX0_covers 45 = .ok (.ireturn, 1) := by decide +kernel
theorem dX0_coveredBy_0 : decode cX0_coveredBy 0 = .ok (.aload_n 0, 1) := by decide +kernel
theorem dX0_coveredBy_1 : decode cX0_coveredBy 1 = .ok (.iload_n 1, 1) := by decide +kernel
theorem dX0_coveredBy_2 : decode cX0_coveredBy 2 = .ok (.invokevirtual 93, 3) := by decide +kernel
theorem dX0_coveredBy_5 : decode cX0_coveredBy 5 = .ok (.ifCond .eq 5, 3) := by decide +kernel
theorem dX0_coveredBy_8 : decode cX0_coveredBy 8 = .ok (.iconst (-1), 1) := by decide +kernel
theorem dX0_coveredBy_9 : decode cX0_coveredBy 9 = .ok (.ireturn, 1) := by decide +kernel
theorem dX0_coveredBy_10 : decode cX0_coveredBy 10 = .ok (.aload_n 0, 1) := by decide +kernel
theorem dX0_coveredBy_11 : decode cX0_coveredBy 11 = .ok (.getfield 38, 3) := by decide +kernel
theorem dX0_coveredBy_14 : decode cX0_coveredBy 14 = .ok (.iload_n 1, 1) := by decide +kernel
theorem dX0_coveredBy_15 : decode cX0_coveredBy 15 = .ok (.iaload, 1) := by decide +kernel
theorem dX0_coveredBy_16 : decode cX0_coveredBy 16 = .ok (.ifCond .ne 8, 3) := by decide +kernel
theorem dX0_coveredBy_19 : decode cX0_coveredBy 19 = .ok (.bipush (-4), 2) := by decide +kernel
theorem dX0_coveredBy_21 : decode cX0_coveredBy 21 = .ok (.goto 14, 3) := by decide +kernel
theorem dX0_coveredBy_24 : decode cX0_coveredBy 24 = .ok (.aload_n 0, 1) := by decide +kernel
theorem dX0_coveredBy_25 : decode cX0_coveredBy 25 = .ok (.getfield 31, 3) := by decide +kernel
theorem dX0_coveredBy_28 : decode cX0_coveredBy 28 = .ok (.aload_n 0, 1) := by decide +kernel
theorem dX0_coveredBy_29 : decode cX0_coveredBy 29 = .ok (.getfield 38, 3) := by decide +kernel
theorem dX0_coveredBy_32 : decode cX0_coveredBy 32 = .ok (.iload_n 1, 1) := by decide +kernel
theorem dX0_coveredBy_33 : decode cX0_coveredBy 33 = .ok (.iaload, 1) := by decide +kernel
theorem dX0_coveredBy_34 : decode cX0_coveredBy 34 = .ok (.iaload, 1) := by decide +kernel
theorem dX0_coveredBy_35 : decode cX0_coveredBy 35 = .ok (.ireturn, 1) := by decide +kernel
theorem dX0_effect_0 : decode cX0_effect 0 = .ok (.aload_n 0, 1) := by decide +kernel
theorem dX0_effect_1 : decode cX0_effect 1 = .ok (.iload_n 1, 1) := by decide +kernel
theorem dX0_effect_2 : decode cX0_effect 2 = .ok (.invokevirtual 93, 3) := by decide +kernel
theorem dX0_effect_5 : decode cX0_effect 5 = .ok (.ifCond .eq 5, 3) := by decide +kernel
theorem dX0_effect_8 : decode cX0_effect 8 = .ok (.iconst 0, 1) := by decide +kernel
theorem dX0_effect_9 : decode cX0_effect 9 = .ok (.ireturn, 1) := by decide +kernel
theorem dX0_effect_10 : decode cX0_effect 10 = .ok (.aload_n 0, 1) := by decide +kernel
theorem dX0_effect_11 : decode cX0_effect 11 = .ok (.getfield 38, 3) := by decide +kernel
theorem dX0_effect_14 : decode cX0_effect 14 = .ok (.iload_n 1, 1) := by decide +kernel
theorem dX0_effect_15 : decode cX0_effect 15 = .ok (.iaload, 1) := by decide +kernel
theorem dX0_effect_16 : decode cX0_effect 16 = .ok (.ifCond .eq 39, 3) := by decide +kernel
theorem dX0_effect_19 : decode cX0_effect 19 = .ok (.aload_n 0, 1) := by decide +kernel
theorem dX0_effect_20 : decode cX0_effect 20 = .ok (.getfield 31, 3) := by decide +kernel
theorem dX0_effect_23 : decode cX0_effect 23 = .ok (.aload_n 0, 1) := by decide +kernel
theorem dX0_effect_24 : decode cX0_effect 24 = .ok (.getfield 38, 3) := by decide +kernel
theorem dX0_effect_27 : decode cX0_effect 27 = .ok (.iload_n 1, 1) := by decide +kernel
theorem dX0_effect_28 : decode cX0_effect 28 = .ok (.iaload, 1) := by decide +kernel
theorem dX0_effect_29 : decode cX0_effect 29 = .ok (.iaload, 1) := by decide +kernel
theorem dX0_effect_30 : decode cX0_effect 30 = .ok (.ifCond .ne 7, 3) := by decide +kernel
theorem dX0_effect_33 : decode cX0_effect 33 = .ok (.iconst 1, 1) := by decide +kernel
theorem dX0_effect_34 : decode cX0_effect 34 = .ok (.goto 4, 3) := by decide +kernel
theorem dX0_effect_37 : decode cX0_effect 37 = .ok (.iconst 0, 1) := by decide +kernel
theorem dX0_effect_38 : decode cX0_effect 38 = .ok (.istore_n 2, 1) := by decide +kernel
theorem dX0_effect_39 : decode cX0_effect 39 = .ok (.aload_n 0, 1) := by decide +kernel
theorem dX0_effect_40 : decode cX0_effect 40 = .ok (.getfield 34, 3) := by decide +kernel
theorem dX0_effect_43 : decode cX0_effect 43 = .ok (.iload_n 1, 1) := by decide +kernel
theorem dX0_effect_44 : decode cX0_effect 44 = .ok (.baload, 1) := by decide +kernel
theorem dX0_effect_45 : decode cX0_effect 45 = .ok (.ifCond .eq 8, 3) := by decide +kernel
theorem dX0_effect_48 : decode cX0_effect 48 = .ok (.iload_n 2, 1) := by decide +kernel
theorem dX0_effect_49 : decode cX0_effect 49 = .ok (.ineg, 1) := by decide +kernel
theorem dX0_effect_50 : decode cX0_effect 50 = .ok (.goto 4, 3) := by decide +kernel
theorem dX0_effect_53 : decode cX0_effect 53 = .ok (.iload_n 2, 1) := by decide +kernel
theorem dX0_effect_54 : decode cX0_effect 54 = .ok (.ireturn, 1) := by decide +kernel
theorem dX0_effect_55 : decode cX0_effect 55 = .ok (.iconst 0, 1) := by decide +kernel
theorem dX0_effect_56 : decode cX0_effect 56 = .ok (.istore_n 2, 1) := by decide +kernel
theorem dX0_effect_57 : decode cX0_effect 57 = .ok (.aload_n 0, 1) := by decide +kernel
theorem dX0_effect_58 : decode cX0_effect 58 = .ok (.getfield 34, 3) := by decide +kernel
theorem dX0_effect_61 : decode cX0_effect 61 = .ok (.iload_n 1, 1) := by decide +kernel
theorem dX0_effect_62 : decode cX0_effect 62 = .ok (.baload, 1) := by decide +kernel
theorem dX0_effect_63 : decode cX0_effect 63 = .ok (.ifCond .eq 7, 3) := by decide +kernel
theorem dX0_effect_66 : decode cX0_effect 66 = .ok (.iconst 1, 1) := by decide +kernel
theorem dX0_effect_67 : decode cX0_effect 67 = .ok (.goto 4, 3) := by decide +kernel
theorem dX0_effect_70 : decode cX0_effect 70 = .ok (.iconst 0, 1) := by decide +kernel
theorem dX0_effect_71 : decode cX0_effect 71 = .ok (.istore_n 3, 1) := by decide +kernel
theorem dX0_effect_72 : decode cX0_effect 72 = .ok (.iconst 1, 1) := by decide +kernel
theorem dX0_effect_73 : decode cX0_effect 73 = .ok (.istore 4, 2) := by decide +kernel
theorem dX0_effect_75 : decode cX0_effect 75 = .ok (.iload 4, 2) := by decide +kernel
theorem dX0_effect_77 : decode cX0_effect 77 = .ok (.aload_n 0, 1) := by decide +kernel
theorem dX0_effect_78 : decode cX0_effect 78 = .ok (.getfield 77, 3) := by decide +kernel
theorem dX0_effect_81 : decode cX0_effect 81 = .ok (.if_icmp .gt 68, 3) := by decide +kernel
theorem dX0_effect_84 : decode cX0_effect 84 = .ok (.aload_n 0, 1) := by decide +kernel
theorem dX0_effect_85 : decode cX0_effect 85 = .ok (.getfield 41, 3) := by decide +kernel
theorem dX0_effect_88 : decode cX0_effect 88 = .ok (.iload_n 1, 1) := by decide +kernel
theorem dX0_effect_89 : decode cX0_effect 89 = .ok (.laload, 1) := by decide +kernel
theorem dX0_effect_90 : decode cX0_effect 90 = .ok (.iload 4, 2) := by decide +kernel
theorem dX0_effect_92 : decode cX0_effect 92 = .ok (.iconst 1, 1) := by decide +kernel
theorem dX0_effect_93 : decode cX0_effect 93 = .ok (.isub, 1) := by decide +kernel
theorem dX0_effect_94 : decode cX0_effect 94 = .ok (.lushr, 1) := by decide +kernel
theorem dX0_effect_95 : decode cX0_effect 95 = .ok (.lconst 1, 1) := by decide +kernel
theorem dX0_effect_96 : decode cX0_effect 96 = .ok (.land, 1) := by decide +kernel
theorem dX0_effect_97 : decode cX0_effect 97 = .ok (.lconst 1, 1) := by decide +kernel
theorem dX0_effect_98 : decode cX0_effect 98 = .ok (.lcmp, 1) := by decide +kernel
theorem dX0_effect_99 : decode cX0_effect 99 = .ok (.ifCond .ne 7, 3) := by decide +kernel
theorem dX0_effect_102 : decode cX0_effect 102 = .ok (.iconst 1, 1) := by decide +kernel
theorem dX0_effect_103 : decode cX0_effect 103 = .ok (.goto 4, 3) := by decide +kernel
theorem dX0_effect_106 : decode cX0_effect 106 = .ok (.iconst 0, 1) := by decide +kernel
theorem dX0_effect_107 : decode cX0_effect 107 = .ok (.istore 5, 2) := by decide +kernel
theorem dX0_effect_109 : decode cX0_effect 109 = .ok (.iload 5, 2) := by decide +kernel
theorem dX0_effect_111 : decode cX0_effect 111 = .ok (.ifCond .eq 32, 3) := by decide +kernel
theorem dX0_effect_114 : decode cX0_effect 114 = .ok (.aload_n 0, 1) := by decide +kernel
theorem dX0_effect_115 : decode cX0_effect 115 = .ok (.getfield 34, 3) := by decide +kernel
theorem dX0_effect_118 : decode cX0_effect 118 = .ok (.aload_n 0, 1) := by decide +kernel
theorem dX0_effect_119 : decode cX0_effect 119 = .ok (.getfield 28, 3) := by decide +kernel
theorem dX0_effect_122 : decode cX0_effect 122 = .ok (.iload 4, 2) := by decide +kernel
theorem dX0_effect_124 : decode cX0_effect 124 = .ok (.iaload, 1) := by decide +kernel
theorem dX0_effect_125 : decode cX0_effect 125 = .ok (.baload, 1) := by decide +kernel
theorem dX0_effect_126 : decode cX0_effect 126 = .ok (.ifCond .eq 17, 3) := by decide +kernel
theorem dX0_effect_129 : decode cX0_effect 129 = .ok (.aload_n 0, 1) := by decide +kernel
theorem dX0_effect_130 : decode cX0_effect 130 = .ok (.getfield 31, 3) := by decide +kernel
theorem dX0_effect_133 : decode cX0_effect 133 = .ok (.iload 4, 2) := by decide +kernel
theorem dX0_effect_135 : decode cX0_effect 135 = .ok (.iaload, 1) := by decide +kernel
theorem dX0_effect_136 : decode cX0_effect 136 = .ok (.iload_n 3, 1) := by decide +kernel
theorem dX0_effect_137 : decode cX0_effect 137 = .ok (.if_icmp .ne 6, 3) := by decide +kernel
theorem dX0_effect_140 : decode cX0_effect 140 = .ok (.iinc 2 1, 3) := by decide +kernel
theorem dX0_effect_143 : decode cX0_effect 143 = .ok (.iinc 4 1, 3) := by decide +kernel
theorem dX0_effect_146 : decode cX0_effect 146 = .ok (.goto (-71), 3) := by decide +kernel
theorem dX0_effect_149 : decode cX0_effect 149 = .ok (.aload_n 0, 1) := by decide +kernel
theorem dX0_effect_150 : decode cX0_effect 150 = .ok (.getfield 34, 3) := by decide +kernel
theorem dX0_effect_153 : decode cX0_effect 153 = .ok (.iload_n 1, 1) := by decide +kernel
theorem dX0_effect_154 : decode cX0_effect 154 = .ok (.baload, 1) := by decide +kernel
theorem dX0_effect_155 : decode cX0_effect 155 = .ok (.ifCond .eq 7, 3) := by decide +kernel
theorem dX0_effect_158 : decode cX0_effect 158 = .ok (.iload_n 2, 1) := by decide +kernel
theorem dX0_effect_159 : decode cX0_effect 159 = .ok (.goto 5, 3) := by decide +kernel
theorem dX0_effect_162 : decode cX0_effect 162 = .ok (.iload_n 2, 1) := by decide +kernel
theorem dX0_effect_163 : decode cX0_effect 163 = .ok (.ineg, 1) := by decide +kernel
theorem dX0_effect_164 : decode cX0_effect 164 = .ok (.ireturn, 1) := by decide +kernel
theorem dX0_digest_0 : decode cX0_digest 0 = .ok (.iconst 0, 1) := by decide +kernel
theorem dX0_digest_1 : decode cX0_digest 1 = .ok (.istore_n 1, 1) := by decide +kernel
theorem dX0_digest_2 : decode cX0_digest 2 = .ok (.aload_n 0, 1) := by decide +kernel
theorem dX0_digest_3 : decode cX0_digest 3 = .ok (.invokevirtual 70, 3) := by decide +kernel
theorem dX0_digest_6 : decode cX0_digest 6 = .ok (.istore_n 2, 1) := by decide +kernel
theorem dX0_digest_7 : decode cX0_digest 7 = .ok (.iconst 0, 1) := by decide +kernel
theorem dX0_digest_8 : decode cX0_digest 8 = .ok (.istore_n 3, 1) := by decide +kernel
theorem dX0_digest_9 : decode cX0_digest 9 = .ok (.iload_n 3, 1) := by decide +kernel
theorem dX0_digest_10 : decode cX0_digest 10 = .ok (.iload_n 2, 1) := by decide +kernel
theorem dX0_digest_11 : decode cX0_digest 11 = .ok (.if_icmp .ge 32, 3) := by decide +kernel
theorem dX0_digest_14 : decode cX0_digest 14 = .ok (.aload_n 0, 1) := by decide +kernel
theorem dX0_digest_15 : decode cX0_digest 15 = .ok (.iload_n 3, 1) := by decide +kernel
theorem dX0_digest_16 : decode cX0_digest 16 = .ok (.invokevirtual 80, 3) := by decide +kernel
theorem dX0_digest_19 : decode cX0_digest 19 = .ok (.istore 4, 2) := by decide +kernel
theorem dX0_digest_21 : decode cX0_digest 21 = .ok (.iload_n 1, 1) := by decide +kernel
theorem dX0_digest_22 : decode cX0_digest 22 = .ok (.iload_n 3, 1) := by decide +kernel
theorem dX0_digest_23 : decode cX0_digest 23 = .ok (.iconst 1, 1) := by decide +kernel
theorem dX0_digest_24 : decode cX0_digest 24 = .ok (.iadd, 1) := by decide +kernel
theorem dX0_digest_25 : decode cX0_digest 25 = .ok (.aload_n 0, 1) := by decide +kernel
theorem dX0_digest_26 : decode cX0_digest 26 = .ok (.getfield 25, 3) := by decide +kernel
theorem dX0_digest_29 : decode cX0_digest 29 = .ok (.iload 4, 2) := by decide +kernel
theorem dX0_digest_31 : decode cX0_digest 31 = .ok (.iaload, 1) := by decide +kernel
theorem dX0_digest_32 : decode cX0_digest 32 = .ok (.iconst 1, 1) := by decide +kernel
theorem dX0_digest_33 : decode cX0_digest 33 = .ok (.iadd, 1) := by decide +kernel
theorem dX0_digest_34 : decode cX0_digest 34 = .ok (.imul, 1) := by decide +kernel
theorem dX0_digest_35 : decode cX0_digest 35 = .ok (.iadd, 1) := by decide +kernel
theorem dX0_digest_36 : decode cX0_digest 36 = .ok (.istore_n 1, 1) := by decide +kernel
theorem dX0_digest_37 : decode cX0_digest 37 = .ok (.iinc 3 1, 3) := by decide +kernel
theorem dX0_digest_40 : decode cX0_digest 40 = .ok (.goto (-31), 3) := by decide +kernel
theorem dX0_digest_43 : decode cX0_digest 43 = .ok (.iload_n 1, 1) := by decide +kernel
theorem dX0_digest_44 : decode cX0_digest 44 = .ok (.ireturn, 1) := by decide +kernel
end
section
set_option maxRecDepth 100000
theorem dX1_init_0 : decode cX1_init 0 = .ok (.aload_n 0, 1) := by decide +kernel
theorem dX1_init_1 : decode cX1_init 1 = .ok (.invokespecial 1, 3) := by decide +kernel
theorem dX1_init_4 : decode cX1_init 4 = .ok (.aload_n 0, 1) := by decide +kernel
theorem dX1_init_5 : decode cX1_init 5 = .ok (.bipush 32, 2) := by decide +kernel
theorem dX1_init_7 : decode cX1_init 7 = .ok (.newarray .int, 2) := by decide +kernel
theorem dX1_init_9 : decode cX1_init 9 = .ok (.putfield 7, 3) := by decide +kernel
theorem dX1_init_12 : decode cX1_init 12 = .ok (.aload_n 0, 1) := by decide +kernel
theorem dX1_init_13 : decode cX1_init 13 = .ok (.bipush 32, 2) := by decide +kernel
theorem dX1_init_15 : decode cX1_init 15 = .ok (.newarray .boolean, 2) := by decide +kernel
theorem dX1_init_17 : decode cX1_init 17 = .ok (.putfield 13, 3) := by decide +kernel
theorem dX1_init_20 : decode cX1_init 20 = .ok (.aload_n 0, 1) := by decide +kernel
theorem dX1_init_21 : decode cX1_init 21 = .ok (.bipush 32, 2) := by decide +kernel
theorem dX1_init_23 : decode cX1_init 23 = .ok (.newarray .int, 2) := by decide +kernel
theorem dX1_init_25 : decode cX1_init 25 = .ok (.putfield 17, 3) := by decide +kernel
theorem dX1_init_28 : decode cX1_init 28 = .ok (.aload_n 0, 1) := by decide +kernel
theorem dX1_init_29 : decode cX1_init 29 = .ok (.bipush 32, 2) := by decide +kernel
theorem dX1_init_31 : decode cX1_init 31 = .ok (.newarray .int, 2) := by decide +kernel
theorem dX1_init_33 : decode cX1_init 33 = .ok (.putfield 20, 3) := by decide +kernel
theorem dX1_init_36 : decode cX1_init 36 = .ok (.aload_n 0, 1) := by decide +kernel
theorem dX1_init_37 : decode cX1_init 37 = .ok (.bipush 32, 2) := by decide +kernel
theorem dX1_init_39 : decode cX1_init 39 = .ok (.newarray .boolean, 2) := by decide +kernel
theorem dX1_init_41 : decode cX1_init 41 = .ok (.putfield 23, 3) := by decide +kernel
theorem dX1_init_44 : decode cX1_init 44 = .ok (.return_, 1) := by decide +kernel
theorem dX1_type_0 : decode cX1_type 0 = .ok (.iload_n 2, 1) := by decide +kernel
theorem dX1_type_1 : decode cX1_type 1 = .ok (.ifCond .lt 21, 3) := by decide +kernel
theorem dX1_type_4 : decode cX1_type 4 = .ok (.iload_n 2, 1) := by decide +kernel
theorem dX1_type_5 : decode cX1_type 5 = .ok (.bipush 25, 2) := by decide +kernel
theorem dX1_type_7 : decode cX1_type 7 = .ok (.if_icmp .gt 15, 3) := by decide +kernel
theorem dX1_type_10 : decode cX1_type 10 = .ok (.iload_n 1, 1) := by decide +kernel
theorem dX1_type_11 : decode cX1_type 11 = .ok (.ifCond .lt 11, 3) := by decide +kernel
theorem dX1_type_14 : decode cX1_type 14 = .ok (.iload_n 1, 1) := by decide +kernel
theorem dX1_type_15 : decode cX1_type 15 = .ok (.aload_n 0, 1) := by decide +kernel
theorem dX1_type_16 : decode cX1_type 16 = .ok (.invokevirtual 41, 3) := by decide +kernel
theorem dX1_type_19 : decode cX1_type 19 = .ok (.if_icmp .le 5, 3) := by decide +kernel
theorem dX1_type_22 : decode cX1_type 22 = .ok (.iconst (-1), 1) := by decide +kernel
theorem dX1_type_23 : decode cX1_type 23 = .ok (.ireturn, 1) := by decide +kernel
theorem dX1_type_24 : decode cX1_type 24 = .ok (.aload_n 0, 1) := by decide +kernel
theorem dX1_type_25 : decode cX1_type 25 = .ok (.getfield 26, 3) := by decide +kernel
theorem dX1_type_28 : decode cX1_type 28 = .ok (.bipush 32, 2) := by decide +kernel
theorem dX1_type_30 : decode cX1_type 30 = .ok (.if_icmp .ne 6, 3) := by decide +kernel
theorem dX1_type_33 : decode cX1_type 33 = .ok (.bipush (-2), 2) := by decide +kernel
theorem dX1_type_35 : decode cX1_type 35 = .ok (.ireturn, 1) := by decide +kernel
theorem dX1_type_36 : decode cX1_type 36 = .ok (.iload_n 1, 1) := by decide +kernel
theorem dX1_type_37 : decode cX1_type 37 = .ok (.ifCond .ne 8, 3) := by decide +kernel
theorem dX1_type_40 : decode cX1_type 40 = .ok (.bipush (-4), 2) := by decide +kernel
theorem dX1_type_42 : decode cX1_type 42 = .ok (.goto 10, 3) := by decide +kernel
theorem dX1_type_45 : decode cX1_type 45 = .ok (.aload_n 0, 1) := by decide +kernel
theorem dX1_type_46 : decode cX1_type 46 = .ok (.iload_n 1, 1) := by decide +kernel
theorem dX1_type_47 : decode cX1_type 47 = .ok (.iconst 1, 1) := by decide +kernel
theorem dX1_type_48 : decode cX1_type 48 = .ok (.isub, 1) := by decide +kernel
theorem dX1_type_49 : decode cX1_type 49 = .ok (.invokevirtual 45, 3) := by decide +kernel
theorem dX1_type_52 : decode cX1_type 52 = .ok (.istore_n 3, 1) := by decide +kernel
theorem dX1_type_53 : decode cX1_type 53 = .ok (.aload_n 0, 1) := by decide +kernel
theorem dX1_type_54 : decode cX1_type 54 = .ok (.getfield 34, 3) := by decide +kernel
theorem dX1_type_57 : decode cX1_type 57 = .ok (.istore 4, 2) := by decide +kernel
theorem dX1_type_59 : decode cX1_type 59 = .ok (.iload 4, 2) := by decide +kernel
theorem dX1_type_61 : decode cX1_type 61 = .ok (.ifCond .le 38, 3) := by decide +kernel
theorem dX1_type_64 : decode cX1_type 64 = .ok (.aload_n 0, 1) := by decide +kernel
theorem dX1_type_65 : decode cX1_type 65 = .ok (.getfield 7, 3) := by decide +kernel
theorem dX1_type_68 : decode cX1_type 68 = .ok (.iload 4, 2) := by decide +kernel
theorem dX1_type_70 : decode cX1_type 70 = .ok (.iconst 1, 1) := by decide +kernel
theorem dX1_type_71 : decode cX1_type 71 = .ok (.isub, 1) := by decide +kernel
theorem dX1_type_72 : decode cX1_type 72 = .ok (.iaload, 1) := by decide +kernel
theorem dX1_type_73 : decode cX1_type 73 = .ok (.iload_n 3, 1) := by decide +kernel
theorem dX1_type_74 : decode cX1_type 74 = .ok (.if_icmp .eq 25, 3) := by decide +kernel
theorem dX1_type_77 : decode cX1_type 77 = .ok (.aload_n 0, 1) := by decide +kernel
theorem dX1_type_78 : decode cX1_type 78 = .ok (.getfield 7, 3) := by decide +kernel
theorem dX1_type_81 : decode cX1_type 81 = .ok (.iload 4, 2) := by decide +kernel
theorem dX1_type_83 : decode cX1_type 83 = .ok (.aload_n 0, 1) := by decide +kernel
theorem dX1_type_84 : decode cX1_type 84 = .ok (.getfield 7, 3) := by decide +kernel
theorem dX1_type_87 : decode cX1_type 87 = .ok (.iload 4, 2) := by decide +kernel
theorem dX1_type_89 : decode cX1_type 89 = .ok (.iconst 1, 1) := by decide +kernel
theorem dX1_type_90 : decode cX1_type 90 = .ok (.isub, 1) := by decide +kernel
theorem dX1_type_91 : decode cX1_type 91 = .ok (.iaload, 1) := by decide +kernel
theorem dX1_type_92 : decode cX1_type 92 = .ok (.iastore, 1) := by decide +kernel
theorem dX1_type_93 : decode cX1_type 93 = .ok (.iinc 4 (-1), 3) := by decide +kernel
theorem dX1_type_96 : decode cX1_type 96 = .ok (.goto (-37), 3) := by decide +kernel
theorem dX1_type_99 : decode cX1_type 99 = .ok (.aload_n 0, 1) := by decide +kernel
theorem dX1_type_100 : decode cX1_type 100 = .ok (.getfield 7, 3) := by decide +kernel
theorem dX1_type_103 : decode cX1_type 103 = .ok (.iload 4, 2) := by decide +kernel
theorem dX1_type_105 : decode cX1_type 105 = .ok (.aload_n 0, 1) := by decide +kernel
theorem dX1_type_106 : decode cX1_type 106 = .ok (.getfield 26, 3) := by decide +kernel
theorem dX1_type_109 : decode cX1_type 109 = .ok (.iastore, 1) := by decide +kernel
theorem dX1_type_110 : decode cX1_type 110 = .ok (.aload_n 0, 1) := by decide +kernel
theorem dX1_type_111 : decode cX1_type 111 = .ok (.dup, 1) := by decide +kernel
theorem dX1_type_112 : decode cX1_type 112 = .ok (.getfield 34, 3) := by decide +kernel
theorem dX1_type_115 : decode cX1_type 115 = .ok (.iconst 1, 1) := by decide +kernel
theorem dX1_type_116 : decode cX1_type 116 = .ok (.iadd, 1) := by decide +kernel
theorem dX1_type_117 : decode cX1_type 117 = .ok (.putfield 34, 3) := by decide +kernel
theorem dX1_type_120 : decode cX1_type 120 = .ok (.aload_n 0, 1) := by decide +kernel
theorem dX1_type_121 : decode cX1_type 121 = .ok (.getfield 13, 3) := by decide +kernel
theorem dX1_type_124 : decode cX1_type 124 = .ok (.aload_n 0, 1) := by decide +kernel
theorem dX1_type_125 : decode cX1_type 125 = .ok (.getfield 26, 3) := by decide +kernel
theorem dX1_type_128 : decode cX1_type 128 = .ok (.iconst 1, 1) := by decide +kernel
theorem dX1_type_129 : decode cX1_type 129 = .ok (.bastore, 1) := by decide +kernel
theorem dX1_type_130 : decode cX1_type 130 = .ok (.aload_n 0, 1) := by decide +kernel
theorem dX1_type_131 : decode cX1_type 131 = .ok (.getfield 17, 3) := by decide +kernel
theorem dX1_type_134 : decode cX1_type 134 = .ok (.aload_n 0, 1) := by decide +kernel
theorem dX1_type_135 : decode cX1_type 135 = .ok (.getfield 26, 3) := by decide +kernel
theorem dX1_type_138 : decode cX1_type 138 = .ok (.iload_n 2, 1) := by decide +kernel
theorem dX1_type_139 : decode cX1_type 139 = .ok (.iastore, 1) := by decide +kernel
theorem dX1_type_140 : decode cX1_type 140 = .ok (.aload_n 0, 1) := by decide +kernel
theorem dX1_type_141 : decode cX1_type 141 = .ok (.getfield 20, 3) := by decide +kernel
theorem dX1_type_144 : decode cX1_type 144 = .ok (.aload_n 0, 1) := by decide +kernel
theorem dX1_type_145 : decode cX1_type 145 = .ok (.getfield 26, 3) := by decide +kernel
theorem dX1_type_148 : decode cX1_type 148 = .ok (.iconst 0, 1) := by decide +kernel
theorem dX1_type_149 : decode cX1_type 149 = .ok (.iastore, 1) := by decide +kernel
theorem dX1_type_150 : decode cX1_type 150 = .ok (.aload_n 0, 1) := by decide +kernel
theorem dX1_type_151 : decode cX1_type 151 = .ok (.getfield 23, 3) := by decide +kernel
theorem dX1_type_154 : decode cX1_type 154 = .ok (.aload_n 0, 1) := by decide +kernel
theorem dX1_type_155 : decode cX1_type 155 = .ok (.getfield 26, 3) := by decide +kernel
theorem dX1_type_158 : decode cX1_type 158 = .ok (.iconst 1, 1) := by decide +kernel
theorem dX1_type_159 : decode cX1_type 159 = .ok (.bastore, 1) := by decide +kernel
theorem dX1_type_160 : decode cX1_type 160 = .ok (.aload_n 0, 1) := by decide +kernel
theorem dX1_type_161 : decode cX1_type 161 = .ok (.dup, 1) := by decide +kernel
theorem dX1_type_162 : decode cX1_type 162 = .ok (.getfield 26, 3) := by decide +kernel
theorem dX1_type_165 : decode cX1_type 165 = .ok (.iconst 1, 1) := by decide +kernel
theorem dX1_type_166 : decode cX1_type 166 = .ok (.iadd, 1) := by decide +kernel
theorem dX1_type_167 : decode cX1_type 167 = .ok (.putfield 26, 3) := by decide +kernel
theorem dX1_type_170 : decode cX1_type 170 = .ok (.aload_n 0, 1) := by decide +kernel
theorem dX1_type_171 : decode cX1_type 171 = .ok (.getfield 26, 3) := by decide +kernel
theorem dX1_type_174 : decode cX1_type 174 = .ok (.iconst 1, 1) := by decide +kernel
theorem dX1_type_175 : decode cX1_type 175 = .ok (.isub, 1) := by decide +kernel
theorem dX1_type_176 : decode cX1_type 176 = .ok (.ireturn, 1) := by decide +kernel
theorem dX1_length_0 : decode cX1_length 0 = .ok (.iconst 0, 1) := by decide +kernel
theorem dX1_length_1 : decode cX1_length 1 = .ok (.istore_n 1, 1) := by decide +kernel
theorem dX1_length_2 : decode cX1_length 2 = .ok (.iconst 0, 1) := by decide +kernel
theorem dX1_length_3 : decode cX1_length 3 = .ok (.istore_n 2, 1) := by decide +kernel
theorem dX1_length_4 : decode cX1_length 4 = .ok (.iload_n 2, 1) := by decide +kernel
theorem dX1_length_5 : decode cX1_length 5 = .ok (.aload_n 0, 1) := by decide +kernel
theorem dX1_length_6 : decode cX1_length 6 = .ok (.getfield 34, 3) := by decide +kernel
theorem dX1_length_9 : decode cX1_length 9 = .ok (.if_icmp .ge 25, 3) := by decide +kernel
theorem dX1_length_12 : decode cX1_length 12 = .ok (.aload_n 0, 1) := by decide +kernel
theorem dX1_length_13 : decode cX1_length 13 = .ok (.aload_n 0, 1) := by decide +kernel
theorem dX1_length_14 : decode cX1_length 14 = .ok (.getfield 7, 3) := by decide +kernel
theorem dX1_length_17 : decode cX1_length 17 = .ok (.iload_n 2, 1) := by decide +kernel
theorem dX1_length_18 : decode cX1_length 18 = .ok (.iaload, 1) := by decide +kernel
theorem dX1_length_19 : decode cX1_length 19 = .ok (.invokevirtual 37, 3) := by decide +kernel
theorem dX1_length_22 : decode cX1_length 22 = .ok (.ifCond .eq 6, 3) := by decide +kernel
theorem dX1_length_25 : decode cX1_length 25 = .ok (.iinc 1 1, 3) := by decide +kernel
theorem dX1_length_28 : decode cX1_length 28 = .ok (.iinc 2 1, 3) := by decide +kernel
theorem dX1_length_31 : decode cX1_length 31 = .ok (.goto (-27), 3) := by decide +kernel
theorem dX1_length_34 : decode cX1_length 34 = .ok (.iload_n 1, 1) := by decide +kernel
theorem dX1_length_35 : decode cX1_length 35 = .ok (.ireturn, 1) := by decide +kernel
theorem dX1_isShown_0 : decode cX1_isShown 0 = .ok (.aload_n 0, 1) := by decide +kernel
theorem dX1_isShown_1 : decode cX1_isShown 1 = .ok (.getfield 23, 3) := by decide +kernel
theorem dX1_isShown_4 : decode cX1_isShown 4 = .ok (.iload_n 1, 1) := by decide +kernel
theorem dX1_isShown_5 : decode cX1_isShown 5 = .ok (.baload, 1) := by decide +kernel
theorem dX1_isShown_6 : decode cX1_isShown 6 = .ok (.ifCond .eq 15, 3) := by decide +kernel
theorem dX1_isShown_9 : decode cX1_isShown 9 = .ok (.aload_n 0, 1) := by decide +kernel
theorem dX1_isShown_10 : decode cX1_isShown 10 = .ok (.iload_n 1, 1) := by decide +kernel
theorem dX1_isShown_11 : decode cX1_isShown 11 = .ok (.invokevirtual 30, 3) := by decide +kernel
theorem dX1_isShown_14 : decode cX1_isShown 14 = .ok (.ifCond .ne 7, 3) := by decide +kernel
theorem dX1_isShown_17 : decode cX1_isShown 17 = .ok (.iconst 1, 1) := by decide +kernel
theorem dX1_isShown_18 : decode cX1_isShown 18 = .ok (.goto 4, 3) := by decide +kernel
theorem dX1_isShown_21 : decode cX1_isShown 21 = .ok (.iconst 0, 1) := by decide +kernel
theorem dX1_isShown_22 : decode cX1_isShown 22 = .ok (.ireturn, 1) := by decide +kernel
theorem dX1_coversOf_0 : decode cX1_coversOf 0 = .ok (.iconst 0, 1) := by decide +kernel
theorem dX1_coversOf_1 : decode cX1_coversOf 1 = .ok (.istore_n 2, 1) := by decide +kernel
theorem dX1_coversOf_2 : decode cX1_coversOf 2 = .ok (.iconst 0, 1) := by decide +kernel
theorem dX1_coversOf_3 : decode cX1_coversOf 3 = .ok (.istore_n 3, 1) := by decide +kernel
theorem dX1_coversOf_4 : decode cX1_coversOf 4 = .ok (.iload_n 3, 1) := by decide +kernel
theorem dX1_coversOf_5 : decode cX1_coversOf 5 = .ok (.aload_n 0, 1) := by decide +kernel
theorem dX1_coversOf_6 : decode cX1_coversOf 6 = .ok (.getfield 26, 3) := by decide +kernel
theorem dX1_coversOf_9 : decode cX1_coversOf 9 = .ok (.if_icmp .ge 35, 3) := by decide +kernel
theorem dX1_coversOf_12 : decode cX1_coversOf 12 = .ok (.aload_n 0, 1) := by decide +kernel
theorem dX1_coversOf_13 : decode cX1_coversOf 13 = .ok (.getfield 23, 3) := by decide +kernel
theorem dX1_coversOf_16 : decode cX1_coversOf 16 = .ok (.iload_n 3, 1) := by decide +kernel
theorem dX1_coversOf_17 : decode cX1_coversOf 17 = .ok (.baload, 1) := by decide +kernel
theorem dX1_coversOf_18 : decode cX1_coversOf 18 = .ok (.ifCond .eq 20, 3) := by decide +kernel
theorem dX1_coversOf_21 : decode cX1_coversOf 21 = .ok (.aload_n 0, 1) := by decide +kernel
theorem dX1_coversOf_22 : decode cX1_coversOf 22 = .ok (.getfield 20, 3) := by decide +kernel
theorem dX1_coversOf_25 : decode cX1_coversOf 25 = .ok (.iload_n 3, 1) := by decide +kernel
theorem dX1_coversOf_26 : decode cX1_coversOf 26 = .ok (.iaload, 1) := by decide +kernel
theorem dX1_coversOf_27 : decode cX1_coversOf 27 = .ok (.iload_n 1, 1) := by decide +kernel
theorem dX1_coversOf_28 : decode cX1_coversOf 28 = .ok (.ishr, 1) := by decide +kernel
theorem dX1_coversOf_29 : decode cX1_coversOf 29 = .ok (.iconst 1, 1) := by decide +kernel
theorem dX1_coversOf_30 : decode cX1_coversOf 30 = .ok (.iand, 1) := by decide +kernel
theorem dX1_coversOf_31 : decode cX1_coversOf 31 = .ok (.iconst 1, 1) := by decide +kernel
theorem dX1_coversOf_32 : decode cX1_coversOf 32 = .ok (.if_icmp .ne 6, 3) := by decide +kernel
theorem dX1_coversOf_35 : decode cX1_coversOf 35 = .ok (.iinc 2 1, 3) := by decide +kernel
theorem dX1_coversOf_38 : decode cX1_coversOf 38 = .ok (.iinc 3 1, 3) := by decide +kernel
theorem dX1_coversOf_41 : decode cX1_coversOf 41 = .ok (.goto (-37), 3) := by decide +kernel
theorem dX1_coversOf_44 : decode cX1_coversOf 44 = .ok (.iload_n 2, 1) := by decide +kernel
theorem dX1_coversOf_45 : decode cX1_coversOf 45 = .ok (.ireturn, 1) := by decide +kernel
theorem dX1_charAt_0 : decode cX1_charAt 0 = .ok (.iconst 0, 1) := by decide +kernel
theorem dX1_charAt_1 : decode cX1_charAt 1 = .ok (.istore_n 2, 1) := by decide +kernel
theorem dX1_charAt_2 : decode cX1_charAt 2 = .ok (.iconst 0, 1) := by decide +kernel
theorem dX1_charAt_3 : decode cX1_charAt 3 = .ok (.istore_n 3, 1) := by decide +kernel
theorem dX1_charAt_4 : decode cX1_charAt 4 = .ok (.iload_n 3, 1) := by decide +kernel
theorem dX1_charAt_5 : decode cX1_charAt 5 = .ok (.aload_n 0, 1) := by decide +kernel
theorem dX1_charAt_6 : decode cX1_charAt 6 = .ok (.getfield 34, 3) := by decide +kernel
theorem dX1_charAt_9 : decode cX1_charAt 9 = .ok (.if_icmp .ge 37, 3) := by decide +kernel
theorem dX1_charAt_12 : decode cX1_charAt 12 = .ok (.aload_n 0, 1) := by decide +kernel
theorem dX1_charAt_13 : decode cX1_charAt 13 = .ok (.aload_n 0, 1) := by decide +kernel
theorem dX1_charAt_14 : decode cX1_charAt 14 = .ok (.getfield 7, 3) := by decide +kernel
theorem dX1_charAt_17 : decode cX1_charAt 17 = .ok (.iload_n 3, 1) := by decide +kernel
theorem dX1_charAt_18 : decode cX1_charAt 18 = .ok (.iaload, 1) := by decide +kernel
theorem dX1_charAt_19 : decode cX1_charAt 19 = .ok (.invokevirtual 37, 3) := by decide +kernel
theorem dX1_charAt_22 : decode cX1_charAt 22 = .ok (.ifCond .eq 18, 3) := by decide +kernel
theorem dX1_charAt_25 : decode cX1_charAt 25 = .ok (.iload_n 2, 1) := by decide +kernel
theorem dX1_charAt_26 : decode cX1_charAt 26 = .ok (.iload_n 1, 1) := by decide +kernel
theorem dX1_charAt_27 : decode cX1_charAt 27 = .ok (.if_icmp .ne 10, 3) := by decide +kernel
theorem dX1_charAt_30 : decode cX1_charAt 30 = .ok (.aload_n 0, 1) := by decide +kernel
theorem dX1_charAt_31 : decode cX1_charAt 31 = .ok (.getfield 7, 3) := by decide +kernel
theorem dX1_charAt_34 : decode cX1_charAt 34 = .ok (.iload_n 3, 1) := by decide +kernel
theorem dX1_charAt_35 : decode cX1_charAt 35 = .ok (.iaload, 1) := by decide +kernel
theorem dX1_charAt_36 : decode cX1_charAt 36 = .ok (.ireturn, 1) := by decide +kernel
theorem dX1_charAt_37 : decode cX1_charAt 37 = .ok (.iinc 2 1, 3) := by decide +kernel
theorem dX1_charAt_40 : decode cX1_charAt 40 = .ok (.iinc 3 1, 3) := by decide +kernel
theorem dX1_charAt_43 : decode cX1_charAt 43 = .ok (.goto (-39), 3) := by decide +kernel
theorem dX1_charAt_46 : decode cX1_charAt 46 = .ok (.bipush (-4), 2) := by decide +kernel
theorem dX1_charAt_48 : decode cX1_charAt 48 = .ok (.ireturn, 1) := by decide +kernel
theorem dX1_erase_0 : decode cX1_erase 0 = .ok (.iload_n 1, 1) := by decide +kernel
theorem dX1_erase_1 : decode cX1_erase 1 = .ok (.ifCond .lt 16, 3) := by decide +kernel
theorem dX1_erase_4 : decode cX1_erase 4 = .ok (.iload_n 2, 1) := by decide +kernel
theorem dX1_erase_5 : decode cX1_erase 5 = .ok (.iload_n 1, 1) := by decide +kernel
theorem dX1_erase_6 : decode cX1_erase 6 = .ok (.if_icmp .le 11, 3) := by decide +kernel
theorem dX1_erase_9 : decode cX1_erase 9 = .ok (.iload_n 2, 1) := by decide +kernel
theorem dX1_erase_10 : decode cX1_erase 10 = .ok (.aload_n 0, 1) := by decide +kernel
theorem dX1_erase_11 : decode cX1_erase 11 = .ok (.invokevirtual 41, 3) := by decide +kernel
theorem dX1_erase_14 : decode cX1_erase 14 = .ok (.if_icmp .le 5, 3) := by decide +kernel
theorem dX1_erase_17 : decode cX1_erase 17 = .ok (.iconst (-1), 1) := by decide +kernel
theorem dX1_erase_18 : decode cX1_erase 18 = .ok (.ireturn, 1) := by decide +kernel
theorem dX1_erase_19 : decode cX1_erase 19 = .ok (.aload_n 0, 1) := by decide +kernel
theorem dX1_erase_20 : decode cX1_erase 20 = .ok (.getfield 26, 3) := by decide +kernel
theorem dX1_erase_23 : decode cX1_erase 23 = .ok (.bipush 32, 2) := by decide +kernel
theorem dX1_erase_25 : decode cX1_erase 25 = .ok (.if_icmp .ne 6, 3) := by decide +kernel
theorem dX1_erase_28 : decode cX1_erase 28 = .ok (.bipush (-2), 2) := by decide +kernel
theorem dX1_erase_30 : decode cX1_erase 30 = .ok (.ireturn, 1) := by decide +kernel
theorem dX1_erase_31 : decode cX1_erase 31 = .ok (.iconst 0, 1) := by decide +kernel
theorem dX1_erase_32 : decode cX1_erase 32 = .ok (.istore_n 3, 1) := by decide +kernel
theorem dX1_erase_33 : decode cX1_erase 33 = .ok (.iload_n 1, 1) := by decide +kernel
theorem dX1_erase_34 : decode cX1_erase 34 = .ok (.istore 4, 2) := by decide +kernel
theorem dX1_erase_36 : decode cX1_erase 36 = .ok (.iload 4, 2) := by decide +kernel
theorem dX1_erase_38 : decode cX1_erase 38 = .ok (.iload_n 2, 1) := by decide +kernel
theorem dX1_erase_39 : decode cX1_erase 39 = .ok (.if_icmp .ge 33, 3) := by decide +kernel
theorem dX1_erase_42 : decode cX1_erase 42 = .ok (.aload_n 0, 1) := by decide +kernel
theorem dX1_erase_43 : decode cX1_erase 43 = .ok (.iload 4, 2) := by decide +kernel
theorem dX1_erase_45 : decode cX1_erase 45 = .ok (.invokevirtual 45, 3) := by decide +kernel
theorem dX1_erase_48 : decode cX1_erase 48 = .ok (.istore 5, 2) := by decide +kernel
theorem dX1_erase_50 : decode cX1_erase 50 = .ok (.iload 5, 2) := by decide +kernel
theorem dX1_erase_52 : decode cX1_erase 52 = .ok (.ifCond .ge 7, 3) := by decide +kernel
theorem dX1_erase_55 : decode cX1_erase 55 = .ok (.iload_n 3, 1) := by decide +kernel
theorem dX1_erase_56 : decode cX1_erase 56 = .ok (.goto 9, 3) := by decide +kernel
theorem dX1_erase_59 : decode cX1_erase 59 = .ok (.iload_n 3, 1) := by decide +kernel
theorem dX1_erase_60 : decode cX1_erase 60 = .ok (.iconst 1, 1) := by decide +kernel
theorem dX1_erase_61 : decode cX1_erase 61 = .ok (.iload 5, 2) := by decide +kernel
theorem dX1_erase_63 : decode cX1_erase 63 = .ok (.ishl, 1) := by decide +kernel
theorem dX1_erase_64 : decode cX1_erase 64 = .ok (.ior, 1) := by decide +kernel
theorem dX1_erase_65 : decode cX1_erase 65 = .ok (.istore_n 3, 1) := by decide +kernel
theorem dX1_erase_66 : decode cX1_erase 66 = .ok (.iinc 4 1, 3) := by decide +kernel
theorem dX1_erase_69 : decode cX1_erase 69 = .ok (.goto (-33), 3) := by decide +kernel
theorem dX1_erase_72 : decode cX1_erase 72 = .ok (.aload_n 0, 1) := by decide +kernel
theorem dX1_erase_73 : decode cX1_erase 73 = .ok (.getfield 13, 3) := by decide +kernel
theorem dX1_erase_76 : decode cX1_erase 76 = .ok (.aload_n 0, 1) := by decide +kernel
theorem dX1_erase_77 : decode cX1_erase 77 = .ok (.getfield 26, 3) := by decide +kernel
theorem dX1_erase_80 : decode cX1_erase 80 = .ok (.iconst 0, 1) := by decide +kernel
theorem dX1_erase_81 : decode cX1_erase 81 = .ok (.bastore, 1) := by decide +kernel
theorem dX1_erase_82 : decode cX1_erase 82 = .ok (.aload_n 0, 1) := by decide +kernel
theorem dX1_erase_83 : decode cX1_erase 83 = .ok (.getfield 20, 3) := by decide +kernel
theorem dX1_erase_86 : decode cX1_erase 86 = .ok (.aload_n 0, 1) := by decide +kernel
theorem dX1_erase_87 : decode cX1_erase 87 = .ok (.getfield 26, 3) := by decide +kernel
theorem dX1_erase_90 : decode cX1_erase 90 = .ok (.iload_n 3, 1) := by decide +kernel
theorem dX1_erase_91 : decode cX1_erase 91 = .ok (.iastore, 1) := by decide +kernel
theorem dX1_erase_92 : decode cX1_erase 92 = .ok (.aload_n 0, 1) := by decide +kernel
theorem dX1_erase_93 : decode cX1_erase 93 = .ok (.getfield 23, 3) := by decide +kernel
theorem dX1_erase_96 : decode cX1_erase 96 = .ok (.aload_n 0, 1) := by decide +kernel
theorem dX1_erase_97 : decode cX1_erase 97 = .ok (.getfield 26, 3) := by decide +kernel
theorem dX1_erase_100 : decode cX1_erase 100 = .ok (.iconst 1, 1) := by decide +kernel
theorem dX1_erase_101 : decode cX1_erase 101 = .ok (.bastore, 1) := by decide +kernel
theorem dX1_erase_102 : decode cX1_erase 102 = .ok (.aload_n 0, 1) := by decide +kernel
theorem dX1_erase_103 : decode cX1_erase 103 = .ok (.dup, 1) := by decide +kernel
theorem dX1_erase_104 : decode cX1_erase 104 = .ok (.getfield 26, 3) := by decide +kernel
theorem dX1_erase_107 : decode cX1_erase 107 = .ok (.iconst 1, 1) := by decide +kernel
theorem dX1_erase_108 : decode cX1_erase 108 = .ok (.iadd, 1) := by decide +kernel
theorem dX1_erase_109 : decode cX1_erase 109 = .ok (.putfield 26, 3) := by decide +kernel
theorem dX1_erase_112 : decode cX1_erase 112 = .ok (.aload_n 0, 1) := by decide +kernel
theorem dX1_erase_113 : decode cX1_erase 113 = .ok (.getfield 26, 3) := by decide +kernel
theorem dX1_erase_116 : decode cX1_erase 116 = .ok (.iconst 1, 1) := by decide +kernel
theorem dX1_erase_117 : decode cX1_erase 117 = .ok (.isub, 1) := by decide +kernel
theorem dX1_erase_118 : decode cX1_erase 118 = .ok (.ireturn, 1) := by decide +kernel
theorem dX1_put_0 : decode cX1_put 0 = .ok (.aload_n 0, 1) := by decide +kernel
theorem dX1_put_1 : decode cX1_put 1 = .ok (.iload_n 1, 1) := by decide +kernel
theorem dX1_put_2 : decode cX1_put 2 = .ok (.invokevirtual 48, 3) := by decide +kernel
theorem dX1_put_5 : decode cX1_put 5 = .ok (.ifCond .ne 5, 3) := by decide +kernel
theorem dX1_put_8 : decode cX1_put 8 = .ok (.iconst (-1), 1) := by decide +kernel
theorem dX1_put_9 : decode cX1_put 9 = .ok (.ireturn, 1) := by decide +kernel
theorem dX1_put_10 : decode cX1_put 10 = .ok (.aload_n 0, 1) := by decide +kernel
theorem dX1_put_11 : decode cX1_put 11 = .ok (.getfield 23, 3) := by decide +kernel
theorem dX1_put_14 : decode cX1_put 14 = .ok (.iload_n 1, 1) := by decide +kernel
theorem dX1_put_15 : decode cX1_put 15 = .ok (.baload, 1) := by decide +kernel
theorem dX1_put_16 : decode cX1_put 16 = .ok (.ifCond .eq 7, 3) := by decide +kernel
theorem dX1_put_19 : decode cX1_put 19 = .ok (.iconst 1, 1) := by decide +kernel
theorem dX1_put_20 : decode cX1_put 20 = .ok (.goto 4, 3) := by decide +kernel
theorem dX1_put_23 : decode cX1_put 23 = .ok (.iconst 0, 1) := by decide +kernel
theorem dX1_put_24 : decode cX1_put 24 = .ok (.istore_n 3, 1) := by decide +kernel
theorem dX1_put_25 : decode cX1_put 25 = .ok (.aload_n 0, 1) := by decide +kernel
theorem dX1_put_26 : decode cX1_put 26 = .ok (.getfield 23, 3) := by decide +kernel
theorem dX1_put_29 : decode cX1_put 29 = .ok (.iload_n 1, 1) := by decide +kernel
end
section
set_option maxRecDepth 100000
theorem dX1_put_30 : decode cX1_put 30 = .ok (.iload_n 2, 1) := by decide +kernel
theorem dX1_put_31 : decode cX1_put 31 = .ok (.ifCond .eq 7, 3) := by decide +kernel
theorem dX1_put_34 : decode cX1_put 34 = .ok (.iconst 1, 1) := by decide +kernel
theorem dX1_put_35 : decode cX1_put 35 = .ok (.goto 4, 3) := by decide +kernel
theorem dX1_put_38 : decode cX1_put 38 = .ok (.iconst 0, 1) := by decide +kernel
theorem dX1_put_39 : decode cX1_put 39 = .ok (.bastore, 1) := by decide +kernel
theorem dX1_put_40 : decode cX1_put 40 = .ok (.iload_n 3, 1) := by decide +kernel
theorem dX1_put_41 : decode cX1_put 41 = .ok (.ireturn, 1) := by decide +kernel
theorem dX1_isChange_0 : decode cX1_isChange 0 = .ok (.iload_n 1, 1) := by decide +kernel
theorem dX1_isChange_1 : decode cX1_isChange 1 = .ok (.ifCond .lt 15, 3) := by decide +kernel
theorem dX1_isChange_4 : decode cX1_isChange 4 = .ok (.iload_n 1, 1) := by decide +kernel
theorem dX1_isChange_5 : decode cX1_isChange 5 = .ok (.aload_n 0, 1) := by decide +kernel
theorem dX1_isChange_6 : decode cX1_isChange 6 = .ok (.getfield 26, 3) := by decide +kernel
theorem dX1_isChange_9 : decode cX1_isChange 9 = .ok (.if_icmp .ge 7, 3) := by decide +kernel
theorem dX1_isChange_12 : decode cX1_isChange 12 = .ok (.iconst 1, 1) := by decide +kernel
theorem dX1_isChange_13 : decode cX1_isChange 13 = .ok (.goto 4, 3) := by decide +kernel
theorem dX1_isChange_16 : decode cX1_isChange 16 = .ok (.iconst 0, 1) := by decide +kernel
theorem dX1_isChange_17 : decode cX1_isChange 17 = .ok (.ireturn, 1) := by decide +kernel
theorem dX1_undo_0 : decode cX1_undo 0 = .ok (.aload_n 0, 1) := by decide +kernel
theorem dX1_undo_1 : decode cX1_undo 1 = .ok (.getfield 26, 3) := by decide +kernel
theorem dX1_undo_4 : decode cX1_undo 4 = .ok (.iconst 1, 1) := by decide +kernel
theorem dX1_undo_5 : decode cX1_undo 5 = .ok (.isub, 1) := by decide +kernel
theorem dX1_undo_6 : decode cX1_undo 6 = .ok (.istore_n 1, 1) := by decide +kernel
theorem dX1_undo_7 : decode cX1_undo 7 = .ok (.iload_n 1, 1) := by decide +kernel
theorem dX1_undo_8 : decode cX1_undo 8 = .ok (.ifCond .lt 27, 3) := by decide +kernel
theorem dX1_undo_11 : decode cX1_undo 11 = .ok (.aload_n 0, 1) := by decide +kernel
theorem dX1_undo_12 : decode cX1_undo 12 = .ok (.getfield 23, 3) := by decide +kernel
theorem dX1_undo_15 : decode cX1_undo 15 = .ok (.iload_n 1, 1) := by decide +kernel
theorem dX1_undo_16 : decode cX1_undo 16 = .ok (.baload, 1) := by decide +kernel
theorem dX1_undo_17 : decode cX1_undo 17 = .ok (.ifCond .eq 12, 3) := by decide +kernel
theorem dX1_undo_20 : decode cX1_undo 20 = .ok (.aload_n 0, 1) := by decide +kernel
theorem dX1_undo_21 : decode cX1_undo 21 = .ok (.getfield 23, 3) := by decide +kernel
theorem dX1_undo_24 : decode cX1_undo 24 = .ok (.iload_n 1, 1) := by decide +kernel
theorem dX1_undo_25 : decode cX1_undo 25 = .ok (.iconst 0, 1) := by decide +kernel
theorem dX1_undo_26 : decode cX1_undo 26 = .ok (.bastore, 1) := by decide +kernel
theorem dX1_undo_27 : decode cX1_undo 27 = .ok (.iload_n 1, 1) := by decide +kernel
theorem dX1_undo_28 : decode cX1_undo 28 = .ok (.ireturn, 1) := by decide +kernel
theorem dX1_undo_29 : decode cX1_undo 29 = .ok (.iinc 1 (-1), 3) := by decide +kernel
theorem dX1_undo_32 : decode cX1_undo 32 = .ok (.goto (-25), 3) := by decide +kernel
theorem dX1_undo_35 : decode cX1_undo 35 = .ok (.bipush (-4), 2) := by decide +kernel
theorem dX1_undo_37 : decode cX1_undo 37 = .ok (.ireturn, 1) := by decide +kernel
theorem dX1_redo_0 : decode cX1_redo 0 = .ok (.iconst 0, 1) := by decide +kernel
theorem dX1_redo_1 : decode cX1_redo 1 = .ok (.istore_n 1, 1) := by decide +kernel
theorem dX1_redo_2 : decode cX1_redo 2 = .ok (.iload_n 1, 1) := by decide +kernel
theorem dX1_redo_3 : decode cX1_redo 3 = .ok (.aload_n 0, 1) := by decide +kernel
theorem dX1_redo_4 : decode cX1_redo 4 = .ok (.getfield 26, 3) := by decide +kernel
theorem dX1_redo_7 : decode cX1_redo 7 = .ok (.if_icmp .ge 27, 3) := by decide +kernel
theorem dX1_redo_10 : decode cX1_redo 10 = .ok (.aload_n 0, 1) := by decide +kernel
theorem dX1_redo_11 : decode cX1_redo 11 = .ok (.getfield 23, 3) := by decide +kernel
theorem dX1_redo_14 : decode cX1_redo 14 = .ok (.iload_n 1, 1) := by decide +kernel
theorem dX1_redo_15 : decode cX1_redo 15 = .ok (.baload, 1) := by decide +kernel
theorem dX1_redo_16 : decode cX1_redo 16 = .ok (.ifCond .ne 12, 3) := by decide +kernel
theorem dX1_redo_19 : decode cX1_redo 19 = .ok (.aload_n 0, 1) := by decide +kernel
theorem dX1_redo_20 : decode cX1_redo 20 = .ok (.getfield 23, 3) := by decide +kernel
theorem dX1_redo_23 : decode cX1_redo 23 = .ok (.iload_n 1, 1) := by decide +kernel
theorem dX1_redo_24 : decode cX1_redo 24 = .ok (.iconst 1, 1) := by decide +kernel
theorem dX1_redo_25 : decode cX1_redo 25 = .ok (.bastore, 1) := by decide +kernel
theorem dX1_redo_26 : decode cX1_redo 26 = .ok (.iload_n 1, 1) := by decide +kernel
theorem dX1_redo_27 : decode cX1_redo 27 = .ok (.ireturn, 1) := by decide +kernel
theorem dX1_redo_28 : decode cX1_redo 28 = .ok (.iinc 1 1, 3) := by decide +kernel
theorem dX1_redo_31 : decode cX1_redo 31 = .ok (.goto (-29), 3) := by decide +kernel
theorem dX1_redo_34 : decode cX1_redo 34 = .ok (.bipush (-4), 2) := by decide +kernel
theorem dX1_redo_36 : decode cX1_redo 36 = .ok (.ireturn, 1) := by decide +kernel
theorem dX1_flip_0 : decode cX1_flip 0 = .ok (.iload_n 1, 1) := by decide +kernel
theorem dX1_flip_1 : decode cX1_flip 1 = .ok (.ifCond .lt 16, 3) := by decide +kernel
theorem dX1_flip_4 : decode cX1_flip 4 = .ok (.iload_n 2, 1) := by decide +kernel
theorem dX1_flip_5 : decode cX1_flip 5 = .ok (.iload_n 1, 1) := by decide +kernel
theorem dX1_flip_6 : decode cX1_flip 6 = .ok (.if_icmp .lt 11, 3) := by decide +kernel
theorem dX1_flip_9 : decode cX1_flip 9 = .ok (.iload_n 2, 1) := by decide +kernel
theorem dX1_flip_10 : decode cX1_flip 10 = .ok (.aload_n 0, 1) := by decide +kernel
theorem dX1_flip_11 : decode cX1_flip 11 = .ok (.getfield 26, 3) := by decide +kernel
theorem dX1_flip_14 : decode cX1_flip 14 = .ok (.if_icmp .lt 5, 3) := by decide +kernel
theorem dX1_flip_17 : decode cX1_flip 17 = .ok (.iconst (-1), 1) := by decide +kernel
theorem dX1_flip_18 : decode cX1_flip 18 = .ok (.ireturn, 1) := by decide +kernel
theorem dX1_flip_19 : decode cX1_flip 19 = .ok (.iconst 0, 1) := by decide +kernel
theorem dX1_flip_20 : decode cX1_flip 20 = .ok (.istore_n 3, 1) := by decide +kernel
theorem dX1_flip_21 : decode cX1_flip 21 = .ok (.iload_n 1, 1) := by decide +kernel
theorem dX1_flip_22 : decode cX1_flip 22 = .ok (.istore 4, 2) := by decide +kernel
theorem dX1_flip_24 : decode cX1_flip 24 = .ok (.iload 4, 2) := by decide +kernel
theorem dX1_flip_26 : decode cX1_flip 26 = .ok (.iload_n 2, 1) := by decide +kernel
theorem dX1_flip_27 : decode cX1_flip 27 = .ok (.if_icmp .gt 49, 3) := by decide +kernel
theorem dX1_flip_30 : decode cX1_flip 30 = .ok (.aload_n 0, 1) := by decide +kernel
theorem dX1_flip_31 : decode cX1_flip 31 = .ok (.getfield 23, 3) := by decide +kernel
theorem dX1_flip_34 : decode cX1_flip 34 = .ok (.iload 4, 2) := by decide +kernel
theorem dX1_flip_36 : decode cX1_flip 36 = .ok (.aload_n 0, 1) := by decide +kernel
theorem dX1_flip_37 : decode cX1_flip 37 = .ok (.getfield 23, 3) := by decide +kernel
theorem dX1_flip_40 : decode cX1_flip 40 = .ok (.iload 4, 2) := by decide +kernel
theorem dX1_flip_42 : decode cX1_flip 42 = .ok (.baload, 1) := by decide +kernel
theorem dX1_flip_43 : decode cX1_flip 43 = .ok (.ifCond .ne 7, 3) := by decide +kernel
theorem dX1_flip_46 : decode cX1_flip 46 = .ok (.iconst 1, 1) := by decide +kernel
theorem dX1_flip_47 : decode cX1_flip 47 = .ok (.goto 4, 3) := by decide +kernel
theorem dX1_flip_50 : decode cX1_flip 50 = .ok (.iconst 0, 1) := by decide +kernel
theorem dX1_flip_51 : decode cX1_flip 51 = .ok (.bastore, 1) := by decide +kernel
theorem dX1_flip_52 : decode cX1_flip 52 = .ok (.aload_n 0, 1) := by decide +kernel
theorem dX1_flip_53 : decode cX1_flip 53 = .ok (.getfield 23, 3) := by decide +kernel
theorem dX1_flip_56 : decode cX1_flip 56 = .ok (.iload 4, 2) := by decide +kernel
theorem dX1_flip_58 : decode cX1_flip 58 = .ok (.baload, 1) := by decide +kernel
theorem dX1_flip_59 : decode cX1_flip 59 = .ok (.ifCond .eq 9, 3) := by decide +kernel
theorem dX1_flip_62 : decode cX1_flip 62 = .ok (.iload_n 3, 1) := by decide +kernel
theorem dX1_flip_63 : decode cX1_flip 63 = .ok (.iconst 1, 1) := by decide +kernel
theorem dX1_flip_64 : decode cX1_flip 64 = .ok (.iadd, 1) := by decide +kernel
theorem dX1_flip_65 : decode cX1_flip 65 = .ok (.goto 4, 3) := by decide +kernel
theorem dX1_flip_68 : decode cX1_flip 68 = .ok (.iload_n 3, 1) := by decide +kernel
theorem dX1_flip_69 : decode cX1_flip 69 = .ok (.istore_n 3, 1) := by decide +kernel
theorem dX1_flip_70 : decode cX1_flip 70 = .ok (.iinc 4 1, 3) := by decide +kernel
theorem dX1_flip_73 : decode cX1_flip 73 = .ok (.goto (-49), 3) := by decide +kernel
theorem dX1_flip_76 : decode cX1_flip 76 = .ok (.iload_n 3, 1) := by decide +kernel
theorem dX1_flip_77 : decode cX1_flip 77 = .ok (.ireturn, 1) := by decide +kernel
theorem dX1_changes_0 : decode cX1_changes 0 = .ok (.aload_n 0, 1) := by decide +kernel
theorem dX1_changes_1 : decode cX1_changes 1 = .ok (.getfield 26, 3) := by decide +kernel
theorem dX1_changes_4 : decode cX1_changes 4 = .ok (.ireturn, 1) := by decide +kernel
theorem dX1_isOn_0 : decode cX1_isOn 0 = .ok (.aload_n 0, 1) := by decide +kernel
theorem dX1_isOn_1 : decode cX1_isOn 1 = .ok (.iload_n 1, 1) := by decide +kernel
theorem dX1_isOn_2 : decode cX1_isOn 2 = .ok (.invokevirtual 48, 3) := by decide +kernel
theorem dX1_isOn_5 : decode cX1_isOn 5 = .ok (.ifCond .eq 16, 3) := by decide +kernel
theorem dX1_isOn_8 : decode cX1_isOn 8 = .ok (.aload_n 0, 1) := by decide +kernel
theorem dX1_isOn_9 : decode cX1_isOn 9 = .ok (.getfield 23, 3) := by decide +kernel
theorem dX1_isOn_12 : decode cX1_isOn 12 = .ok (.iload_n 1, 1) := by decide +kernel
theorem dX1_isOn_13 : decode cX1_isOn 13 = .ok (.baload, 1) := by decide +kernel
theorem dX1_isOn_14 : decode cX1_isOn 14 = .ok (.ifCond .eq 7, 3) := by decide +kernel
theorem dX1_isOn_17 : decode cX1_isOn 17 = .ok (.iconst 1, 1) := by decide +kernel
theorem dX1_isOn_18 : decode cX1_isOn 18 = .ok (.goto 4, 3) := by decide +kernel
theorem dX1_isOn_21 : decode cX1_isOn 21 = .ok (.iconst 0, 1) := by decide +kernel
theorem dX1_isOn_22 : decode cX1_isOn 22 = .ok (.ireturn, 1) := by decide +kernel
theorem dX1_letter_0 : decode cX1_letter 0 = .ok (.aload_n 0, 1) := by decide +kernel
theorem dX1_letter_1 : decode cX1_letter 1 = .ok (.iload_n 1, 1) := by decide +kernel
theorem dX1_letter_2 : decode cX1_letter 2 = .ok (.invokevirtual 45, 3) := by decide +kernel
theorem dX1_letter_5 : decode cX1_letter 5 = .ok (.istore_n 2, 1) := by decide +kernel
theorem dX1_letter_6 : decode cX1_letter 6 = .ok (.iload_n 2, 1) := by decide +kernel
theorem dX1_letter_7 : decode cX1_letter 7 = .ok (.ifCond .ge 8, 3) := by decide +kernel
theorem dX1_letter_10 : decode cX1_letter 10 = .ok (.bipush (-4), 2) := by decide +kernel
theorem dX1_letter_12 : decode cX1_letter 12 = .ok (.goto 9, 3) := by decide +kernel
theorem dX1_letter_15 : decode cX1_letter 15 = .ok (.aload_n 0, 1) := by decide +kernel
theorem dX1_letter_16 : decode cX1_letter 16 = .ok (.getfield 17, 3) := by decide +kernel
theorem dX1_letter_19 : decode cX1_letter 19 = .ok (.iload_n 2, 1) := by decide +kernel
theorem dX1_letter_20 : decode cX1_letter 20 = .ok (.iaload, 1) := by decide +kernel
theorem dX1_letter_21 : decode cX1_letter 21 = .ok (.ireturn, 1) := by decide +kernel
theorem dX1_origin_0 : decode cX1_origin 0 = .ok (.aload_n 0, 1) := by decide +kernel
theorem dX1_origin_1 : decode cX1_origin 1 = .ok (.iload_n 1, 1) := by decide +kernel
theorem dX1_origin_2 : decode cX1_origin 2 = .ok (.invokevirtual 45, 3) := by decide +kernel
theorem dX1_origin_5 : decode cX1_origin 5 = .ok (.ireturn, 1) := by decide +kernel
theorem dX1_where_0 : decode cX1_where 0 = .ok (.iconst 0, 1) := by decide +kernel
theorem dX1_where_1 : decode cX1_where 1 = .ok (.istore_n 2, 1) := by decide +kernel
theorem dX1_where_2 : decode cX1_where 2 = .ok (.iload_n 2, 1) := by decide +kernel
theorem dX1_where_3 : decode cX1_where 3 = .ok (.bipush 32, 2) := by decide +kernel
theorem dX1_where_5 : decode cX1_where 5 = .ok (.if_icmp .ge 26, 3) := by decide +kernel
theorem dX1_where_8 : decode cX1_where 8 = .ok (.aload_n 0, 1) := by decide +kernel
theorem dX1_where_9 : decode cX1_where 9 = .ok (.iload_n 2, 1) := by decide +kernel
theorem dX1_where_10 : decode cX1_where 10 = .ok (.invokevirtual 45, 3) := by decide +kernel
theorem dX1_where_13 : decode cX1_where 13 = .ok (.istore_n 3, 1) := by decide +kernel
theorem dX1_where_14 : decode cX1_where 14 = .ok (.iload_n 3, 1) := by decide +kernel
theorem dX1_where_15 : decode cX1_where 15 = .ok (.iload_n 1, 1) := by decide +kernel
theorem dX1_where_16 : decode cX1_where 16 = .ok (.if_icmp .ne 9, 3) := by decide +kernel
theorem dX1_where_19 : decode cX1_where 19 = .ok (.iload_n 3, 1) := by decide +kernel
theorem dX1_where_20 : decode cX1_where 20 = .ok (.ifCond .lt 5, 3) := by decide +kernel
theorem dX1_where_23 : decode cX1_where 23 = .ok (.iload_n 2, 1) := by decide +kernel
theorem dX1_where_24 : decode cX1_where 24 = .ok (.ireturn, 1) := by decide +kernel
theorem dX1_where_25 : decode cX1_where 25 = .ok (.iinc 2 1, 3) := by decide +kernel
theorem dX1_where_28 : decode cX1_where 28 = .ok (.goto (-26), 3) := by decide +kernel
theorem dX1_where_31 : decode cX1_where 31 = .ok (.bipush (-4), 2) := by decide +kernel
theorem dX1_where_33 : decode cX1_where 33 = .ok (.ireturn, 1) := by decide +kernel
theorem dX1_covers_0 : decode cX1_covers 0 = .ok (.aload_n 0, 1) := by decide +kernel
theorem dX1_covers_1 : decode cX1_covers 1 = .ok (.iload_n 1, 1) := by decide +kernel
theorem dX1_covers_2 : decode cX1_covers 2 = .ok (.invokevirtual 48, 3) := by decide +kernel
theorem dX1_covers_5 : decode cX1_covers 5 = .ok (.ifCond .ne 5, 3) := by decide +kernel
theorem dX1_covers_8 : decode cX1_covers 8 = .ok (.iconst (-1), 1) := by decide +kernel
theorem dX1_covers_9 : decode cX1_covers 9 = .ok (.ireturn, 1) := by decide +kernel
theorem dX1_covers_10 : decode cX1_covers 10 = .ok (.iconst 0, 1) := by decide +kernel
theorem dX1_covers_11 : decode cX1_covers 11 = .ok (.istore_n 2, 1) := by decide +kernel
theorem dX1_covers_12 : decode cX1_covers 12 = .ok (.iconst 0, 1) := by decide +kernel
theorem dX1_covers_13 : decode cX1_covers 13 = .ok (.istore_n 3, 1) := by decide +kernel
theorem dX1_covers_14 : decode cX1_covers 14 = .ok (.iload_n 3, 1) := by decide +kernel
theorem dX1_covers_15 : decode cX1_covers 15 = .ok (.bipush 32, 2) := by decide +kernel
theorem dX1_covers_17 : decode cX1_covers 17 = .ok (.if_icmp .ge 22, 3) := by decide +kernel
theorem dX1_covers_20 : decode cX1_covers 20 = .ok (.iload_n 2, 1) := by decide +kernel
theorem dX1_covers_21 : decode cX1_covers 21 = .ok (.aload_n 0, 1) := by decide +kernel
theorem dX1_covers_22 : decode cX1_covers 22 = .ok (.getfield 20, 3) := by decide +kernel
theorem dX1_covers_25 : decode cX1_covers 25 = .ok (.iload_n 1, 1) := by decide +kernel
theorem dX1_covers_26 : decode cX1_covers 26 = .ok (.iaload, 1) := by decide +kernel
theorem dX1_covers_27 : decode cX1_covers 27 = .ok (.iload_n 3, 1) := by decide +kernel
theorem dX1_covers_28 : decode cX1_covers 28 = .ok (.ishr, 1) := by decide +kernel
theorem dX1_covers_29 : decode cX1_covers 29 = .ok (.iconst 1, 1) := by decide +kernel
theorem dX1_covers_30 : decode cX1_covers 30 = .ok (.iand, 1) := by decide +kernel
theorem dX1_covers_31 : decode cX1_covers 31 = .ok (.iadd, 1) := by decide +kernel
theorem dX1_covers_32 : decode cX1_covers 32 = .ok (.istore_n 2, 1) := by decide +kernel
theorem dX1_covers_33 : decode cX1_covers 33 = .ok (.iinc 3 1, 3) := by decide +kernel
theorem dX1_covers_36 : decode cX1_covers 36 = .ok (.goto (-22), 3) := by decide +kernel
theorem dX1_covers_39 : decode cX1_covers 39 = .ok (.iload_n 2, 1) := by decide +kernel
theorem dX1_covers_40 : decode cX1_covers 40 = .ok (.ireturn, 1) := by decide +kernel
theorem dX1_coveredBy_0 : decode cX1_coveredBy 0 = .ok (.aload_n 0, 1) := by decide +kernel
theorem dX1_coveredBy_1 : decode cX1_coveredBy 1 = .ok (.iload_n 1, 1) := by decide +kernel
theorem dX1_coveredBy_2 : decode cX1_coveredBy 2 = .ok (.invokevirtual 48, 3) := by decide +kernel
theorem dX1_coveredBy_5 : decode cX1_coveredBy 5 = .ok (.ifCond .ne 5, 3) := by decide +kernel
theorem dX1_coveredBy_8 : decode cX1_coveredBy 8 = .ok (.iconst (-1), 1) := by decide +kernel
theorem dX1_coveredBy_9 : decode cX1_coveredBy 9 = .ok (.ireturn, 1) := by decide +kernel
theorem dX1_coveredBy_10 : decode cX1_coveredBy 10 = .ok (.aload_n 0, 1) := by decide +kernel
theorem dX1_coveredBy_11 : decode cX1_coveredBy 11 = .ok (.getfield 13, 3) := by decide +kernel
theorem dX1_coveredBy_14 : decode cX1_coveredBy 14 = .ok (.iload_n 1, 1) := by decide +kernel
theorem dX1_coveredBy_15 : decode cX1_coveredBy 15 = .ok (.baload, 1) := by decide +kernel
theorem dX1_coveredBy_16 : decode cX1_coveredBy 16 = .ok (.ifCond .eq 11, 3) := by decide +kernel
theorem dX1_coveredBy_19 : decode cX1_coveredBy 19 = .ok (.aload_n 0, 1) := by decide +kernel
theorem dX1_coveredBy_20 : decode cX1_coveredBy 20 = .ok (.iload_n 1, 1) := by decide +kernel
theorem dX1_coveredBy_21 : decode cX1_coveredBy 21 = .ok (.invokevirtual 30, 3) := by decide +kernel
theorem dX1_coveredBy_24 : decode cX1_coveredBy 24 = .ok (.goto 5, 3) := by decide +kernel
theorem dX1_coveredBy_27 : decode cX1_coveredBy 27 = .ok (.bipush (-4), 2) := by decide +kernel
theorem dX1_coveredBy_29 : decode cX1_coveredBy 29 = .ok (.ireturn, 1) := by decide +kernel
theorem dX1_effect_0 : decode cX1_effect 0 = .ok (.aload_n 0, 1) := by decide +kernel
theorem dX1_effect_1 : decode cX1_effect 1 = .ok (.iload_n 1, 1) := by decide +kernel
theorem dX1_effect_2 : decode cX1_effect 2 = .ok (.invokevirtual 48, 3) := by decide +kernel
theorem dX1_effect_5 : decode cX1_effect 5 = .ok (.ifCond .ne 5, 3) := by decide +kernel
theorem dX1_effect_8 : decode cX1_effect 8 = .ok (.iconst 0, 1) := by decide +kernel
theorem dX1_effect_9 : decode cX1_effect 9 = .ok (.ireturn, 1) := by decide +kernel
theorem dX1_effect_10 : decode cX1_effect 10 = .ok (.aload_n 0, 1) := by decide +kernel
theorem dX1_effect_11 : decode cX1_effect 11 = .ok (.invokevirtual 41, 3) := by decide +kernel
theorem dX1_effect_14 : decode cX1_effect 14 = .ok (.istore_n 2, 1) := by decide +kernel
theorem dX1_effect_15 : decode cX1_effect 15 = .ok (.aload_n 0, 1) := by decide +kernel
theorem dX1_effect_16 : decode cX1_effect 16 = .ok (.getfield 23, 3) := by decide +kernel
theorem dX1_effect_19 : decode cX1_effect 19 = .ok (.iload_n 1, 1) := by decide +kernel
theorem dX1_effect_20 : decode cX1_effect 20 = .ok (.aload_n 0, 1) := by decide +kernel
theorem dX1_effect_21 : decode cX1_effect 21 = .ok (.getfield 23, 3) := by decide +kernel
theorem dX1_effect_24 : decode cX1_effect 24 = .ok (.iload_n 1, 1) := by decide +kernel
theorem dX1_effect_25 : decode cX1_effect 25 = .ok (.baload, 1) := by decide +kernel
theorem dX1_effect_26 : decode cX1_effect 26 = .ok (.ifCond .ne 7, 3) := by decide +kernel
theorem dX1_effect_29 : decode cX1_effect 29 = .ok (.iconst 1, 1) := by decide +kernel
theorem dX1_effect_30 : decode cX1_effect 30 = .ok (.goto 4, 3) := by decide +kernel
theorem dX1_effect_33 : decode cX1_effect 33 = .ok (.iconst 0, 1) := by decide +kernel
theorem dX1_effect_34 : decode cX1_effect 34 = .ok (.bastore, 1) := by decide +kernel
theorem dX1_effect_35 : decode cX1_effect 35 = .ok (.aload_n 0, 1) := by decide +kernel
theorem dX1_effect_36 : decode cX1_effect 36 = .ok (.invokevirtual 41, 3) := by decide +kernel
theorem dX1_effect_39 : decode cX1_effect 39 = .ok (.istore_n 3, 1) := by decide +kernel
theorem dX1_effect_40 : decode cX1_effect 40 = .ok (.aload_n 0, 1) := by decide +kernel
theorem dX1_effect_41 : decode cX1_effect 41 = .ok (.getfield 23, 3) := by decide +kernel
theorem dX1_effect_44 : decode cX1_effect 44 = .ok (.iload_n 1, 1) := by decide +kernel
theorem dX1_effect_45 : decode cX1_effect 45 = .ok (.aload_n 0, 1) := by decide +kernel
theorem dX1_effect_46 : decode cX1_effect 46 = .ok (.getfield 23, 3) := by decide +kernel
theorem dX1_effect_49 : decode cX1_effect 49 = .ok (.iload_n 1, 1) := by decide +kernel
theorem dX1_effect_50 : decode cX1_effect 50 = .ok (.baload, 1) := by decide +kernel
theorem dX1_effect_51 : decode cX1_effect 51 = .ok (.ifCond .ne 7, 3) := by decide +kernel
theorem dX1_effect_54 : decode cX1_effect 54 = .ok (.iconst 1, 1) := by decide +kernel
theorem dX1_effect_55 : decode cX1_effect 55 = .ok (.goto 4, 3) := by decide +kernel
theorem dX1_effect_58 : decode cX1_effect 58 = .ok (.iconst 0, 1) := by decide +kernel
theorem dX1_effect_59 : decode cX1_effect 59 = .ok (.bastore, 1) := by decide +kernel
theorem dX1_effect_60 : decode cX1_effect 60 = .ok (.iload_n 3, 1) := by decide +kernel
theorem dX1_effect_61 : decode cX1_effect 61 = .ok (.iload_n 2, 1) := by decide +kernel
theorem dX1_effect_62 : decode cX1_effect 62 = .ok (.isub, 1) := by decide +kernel
theorem dX1_effect_63 : decode cX1_effect 63 = .ok (.ireturn, 1) := by decide +kernel
theorem dX1_digest_0 : decode cX1_digest 0 = .ok (.iconst 0, 1) := by decide +kernel
theorem dX1_digest_1 : decode cX1_digest 1 = .ok (.istore_n 1, 1) := by decide +kernel
theorem dX1_digest_2 : decode cX1_digest 2 = .ok (.iconst 0, 1) := by decide +kernel
theorem dX1_digest_3 : decode cX1_digest 3 = .ok (.istore_n 2, 1) := by decide +kernel
theorem dX1_digest_4 : decode cX1_digest 4 = .ok (.iload_n 2, 1) := by decide +kernel
theorem dX1_digest_5 : decode cX1_digest 5 = .ok (.bipush 32, 2) := by decide +kernel
theorem dX1_digest_7 : decode cX1_digest 7 = .ok (.if_icmp .ge 38, 3) := by decide +kernel
theorem dX1_digest_10 : decode cX1_digest 10 = .ok (.aload_n 0, 1) := by decide +kernel
theorem dX1_digest_11 : decode cX1_digest 11 = .ok (.iload_n 2, 1) := by decide +kernel
theorem dX1_digest_12 : decode cX1_digest 12 = .ok (.invokevirtual 45, 3) := by decide +kernel
theorem dX1_digest_15 : decode cX1_digest 15 = .ok (.istore_n 3, 1) := by decide +kernel
theorem dX1_digest_16 : decode cX1_digest 16 = .ok (.iload_n 3, 1) := by decide +kernel
theorem dX1_digest_17 : decode cX1_digest 17 = .ok (.ifCond .ge 7, 3) := by decide +kernel
theorem dX1_digest_20 : decode cX1_digest 20 = .ok (.iload_n 1, 1) := by decide +kernel
theorem dX1_digest_21 : decode cX1_digest 21 = .ok (.goto 17, 3) := by decide +kernel
theorem dX1_digest_24 : decode cX1_digest 24 = .ok (.iload_n 1, 1) := by decide +kernel
theorem dX1_digest_25 : decode cX1_digest 25 = .ok (.iload_n 2, 1) := by decide +kernel
theorem dX1_digest_26 : decode cX1_digest 26 = .ok (.iconst 1, 1) := by decide +kernel
theorem dX1_digest_27 : decode cX1_digest 27 = .ok (.iadd, 1) := by decide +kernel
theorem dX1_digest_28 : decode cX1_digest 28 = .ok (.aload_n 0, 1) := by decide +kernel
theorem dX1_digest_29 : decode cX1_digest 29 = .ok (.getfield 17, 3) := by decide +kernel
theorem dX1_digest_32 : decode cX1_digest 32 = .ok (.iload_n 3, 1) := by decide +kernel
theorem dX1_digest_33 : decode cX1_digest 33 = .ok (.iaload, 1) := by decide +kernel
theorem dX1_digest_34 : decode cX1_digest 34 = .ok (.iconst 1, 1) := by decide +kernel
theorem dX1_digest_35 : decode cX1_digest 35 = .ok (.iadd, 1) := by decide +kernel
theorem dX1_digest_36 : decode cX1_digest 36 = .ok (.imul, 1) := by decide +kernel
theorem dX1_digest_37 : decode cX1_digest 37 = .ok (.iadd, 1) := by decide +kernel
theorem dX1_digest_38 : decode cX1_digest 38 = .ok (.istore_n 1, 1) := by decide +kernel
theorem dX1_digest_39 : decode cX1_digest 39 = .ok (.iinc 2 1, 3) := by decide +kernel
theorem dX1_digest_42 : decode cX1_digest 42 = .ok (.goto (-38), 3) := by decide +kernel
theorem dX1_digest_45 : decode cX1_digest 45 = .ok (.iload_n 1, 1) := by decide +kernel
theorem dX1_digest_46 : decode cX1_digest 46 = .ok (.ireturn, 1) := by decide +kernel
end
section
set_option maxRecDepth 100000
theorem dL_law_0 : decode cL_law 0 = .ok (.new 7, 3) := by decide +kernel
theorem dL_law_3 : decode cL_law 3 = .ok (.dup, 1) := by decide +kernel
theorem dL_law_4 : decode cL_law 4 = .ok (.invokespecial 9, 3) := by decide +kernel
theorem dL_law_7 : decode cL_law 7 = .ok (.astore_n 1, 1) := by decide +kernel
theorem dL_law_8 : decode cL_law 8 = .ok (.new 10, 3) := by decide +kernel
theorem dL_law_11 : decode cL_law 11 = .ok (.dup, 1) := by decide +kernel
theorem dL_law_12 : decode cL_law 12 = .ok (.invokespecial 12, 3) := by decide +kernel
theorem dL_law_15 : decode cL_law 15 = .ok (.astore_n 2, 1) := by decide +kernel
theorem dL_law_16 : decode cL_law 16 = .ok (.iconst 0, 1) := by decide +kernel
theorem dL_law_17 : decode cL_law 17 = .ok (.istore_n 3, 1) := by decide +kernel
theorem dL_law_18 : decode cL_law 18 = .ok (.iload_n 3, 1) := by decide +kernel
theorem dL_law_19 : decode cL_law 19 = .ok (.aload_n 0, 1) := by decide +kernel
theorem dL_law_20 : decode cL_law 20 = .ok (.arraylength, 1) := by decide +kernel
theorem dL_law_21 : decode cL_law 21 = .ok (.iconst 3, 1) := by decide +kernel
theorem dL_law_22 : decode cL_law 22 = .ok (.isub, 1) := by decide +kernel
theorem dL_law_23 : decode cL_law 23 = .ok (.if_icmp .gt 453, 3) := by decide +kernel
theorem dL_law_26 : decode cL_law 26 = .ok (.aload_n 0, 1) := by decide +kernel
theorem dL_law_27 : decode cL_law 27 = .ok (.iload_n 3, 1) := by decide +kernel
theorem dL_law_28 : decode cL_law 28 = .ok (.iaload, 1) := by decide +kernel
theorem dL_law_29 : decode cL_law 29 = .ok (.bipush 15, 2) := by decide +kernel
theorem dL_law_31 : decode cL_law 31 = .ok (.iand, 1) := by decide +kernel
theorem dL_law_32 : decode cL_law 32 = .ok (.tableswitch 438 0 15 #[80, 113, 146, 179, 192, 205, 238, 251, 274, 287, 310, 333, 356, 379, 402, 425], 80) := by decide +kernel
theorem dL_law_112 : decode cL_law 112 = .ok (.aload_n 1, 1) := by decide +kernel
theorem dL_law_113 : decode cL_law 113 = .ok (.aload_n 0, 1) := by decide +kernel
theorem dL_law_114 : decode cL_law 114 = .ok (.iload_n 3, 1) := by decide +kernel
theorem dL_law_115 : decode cL_law 115 = .ok (.iconst 1, 1) := by decide +kernel
theorem dL_law_116 : decode cL_law 116 = .ok (.iadd, 1) := by decide +kernel
theorem dL_law_117 : decode cL_law 117 = .ok (.iaload, 1) := by decide +kernel
theorem dL_law_118 : decode cL_law 118 = .ok (.aload_n 0, 1) := by decide +kernel
theorem dL_law_119 : decode cL_law 119 = .ok (.iload_n 3, 1) := by decide +kernel
theorem dL_law_120 : decode cL_law 120 = .ok (.iconst 2, 1) := by decide +kernel
theorem dL_law_121 : decode cL_law 121 = .ok (.iadd, 1) := by decide +kernel
theorem dL_law_122 : decode cL_law 122 = .ok (.iaload, 1) := by decide +kernel
theorem dL_law_123 : decode cL_law 123 = .ok (.invokevirtual 13, 3) := by decide +kernel
theorem dL_law_126 : decode cL_law 126 = .ok (.aload_n 2, 1) := by decide +kernel
theorem dL_law_127 : decode cL_law 127 = .ok (.aload_n 0, 1) := by decide +kernel
theorem dL_law_128 : decode cL_law 128 = .ok (.iload_n 3, 1) := by decide +kernel
theorem dL_law_129 : decode cL_law 129 = .ok (.iconst 1, 1) := by decide +kernel
theorem dL_law_130 : decode cL_law 130 = .ok (.iadd, 1) := by decide +kernel
theorem dL_law_131 : decode cL_law 131 = .ok (.iaload, 1) := by decide +kernel
theorem dL_law_132 : decode cL_law 132 = .ok (.aload_n 0, 1) := by decide +kernel
theorem dL_law_133 : decode cL_law 133 = .ok (.iload_n 3, 1) := by decide +kernel
theorem dL_law_134 : decode cL_law 134 = .ok (.iconst 2, 1) := by decide +kernel
theorem dL_law_135 : decode cL_law 135 = .ok (.iadd, 1) := by decide +kernel
theorem dL_law_136 : decode cL_law 136 = .ok (.iaload, 1) := by decide +kernel
theorem dL_law_137 : decode cL_law 137 = .ok (.invokevirtual 17, 3) := by decide +kernel
theorem dL_law_140 : decode cL_law 140 = .ok (.if_icmp .eq 330, 3) := by decide +kernel
theorem dL_law_143 : decode cL_law 143 = .ok (.iconst 0, 1) := by decide +kernel
theorem dL_law_144 : decode cL_law 144 = .ok (.ireturn, 1) := by decide +kernel
theorem dL_law_145 : decode cL_law 145 = .ok (.aload_n 1, 1) := by decide +kernel
theorem dL_law_146 : decode cL_law 146 = .ok (.aload_n 0, 1) := by decide +kernel
theorem dL_law_147 : decode cL_law 147 = .ok (.iload_n 3, 1) := by decide +kernel
theorem dL_law_148 : decode cL_law 148 = .ok (.iconst 1, 1) := by decide +kernel
theorem dL_law_149 : decode cL_law 149 = .ok (.iadd, 1) := by decide +kernel
theorem dL_law_150 : decode cL_law 150 = .ok (.iaload, 1) := by decide +kernel
theorem dL_law_151 : decode cL_law 151 = .ok (.aload_n 0, 1) := by decide +kernel
theorem dL_law_152 : decode cL_law 152 = .ok (.iload_n 3, 1) := by decide +kernel
theorem dL_law_153 : decode cL_law 153 = .ok (.iconst 2, 1) := by decide +kernel
theorem dL_law_154 : decode cL_law 154 = .ok (.iadd, 1) := by decide +kernel
theorem dL_law_155 : decode cL_law 155 = .ok (.iaload, 1) := by decide +kernel
theorem dL_law_156 : decode cL_law 156 = .ok (.invokevirtual 18, 3) := by decide +kernel
theorem dL_law_159 : decode cL_law 159 = .ok (.aload_n 2, 1) := by decide +kernel
theorem dL_law_160 : decode cL_law 160 = .ok (.aload_n 0, 1) := by decide +kernel
theorem dL_law_161 : decode cL_law 161 = .ok (.iload_n 3, 1) := by decide +kernel
theorem dL_law_162 : decode cL_law 162 = .ok (.iconst 1, 1) := by decide +kernel
theorem dL_law_163 : decode cL_law 163 = .ok (.iadd, 1) := by decide +kernel
theorem dL_law_164 : decode cL_law 164 = .ok (.iaload, 1) := by decide +kernel
theorem dL_law_165 : decode cL_law 165 = .ok (.aload_n 0, 1) := by decide +kernel
theorem dL_law_166 : decode cL_law 166 = .ok (.iload_n 3, 1) := by decide +kernel
theorem dL_law_167 : decode cL_law 167 = .ok (.iconst 2, 1) := by decide +kernel
theorem dL_law_168 : decode cL_law 168 = .ok (.iadd, 1) := by decide +kernel
theorem dL_law_169 : decode cL_law 169 = .ok (.iaload, 1) := by decide +kernel
theorem dL_law_170 : decode cL_law 170 = .ok (.invokevirtual 21, 3) := by decide +kernel
theorem dL_law_173 : decode cL_law 173 = .ok (.if_icmp .eq 297, 3) := by decide +kernel
theorem dL_law_176 : decode cL_law 176 = .ok (.iconst 0, 1) := by decide +kernel
theorem dL_law_177 : decode cL_law 177 = .ok (.ireturn, 1) := by decide +kernel
theorem dL_law_178 : decode cL_law 178 = .ok (.aload_n 1, 1) := by decide +kernel
theorem dL_law_179 : decode cL_law 179 = .ok (.aload_n 0, 1) := by decide +kernel
theorem dL_law_180 : decode cL_law 180 = .ok (.iload_n 3, 1) := by decide +kernel
theorem dL_law_181 : decode cL_law 181 = .ok (.iconst 1, 1) := by decide +kernel
theorem dL_law_182 : decode cL_law 182 = .ok (.iadd, 1) := by decide +kernel
theorem dL_law_183 : decode cL_law 183 = .ok (.iaload, 1) := by decide +kernel
theorem dL_law_184 : decode cL_law 184 = .ok (.aload_n 0, 1) := by decide +kernel
theorem dL_law_185 : decode cL_law 185 = .ok (.iload_n 3, 1) := by decide +kernel
theorem dL_law_186 : decode cL_law 186 = .ok (.iconst 2, 1) := by decide +kernel
theorem dL_law_187 : decode cL_law 187 = .ok (.iadd, 1) := by decide +kernel
theorem dL_law_188 : decode cL_law 188 = .ok (.iaload, 1) := by decide +kernel
theorem dL_law_189 : decode cL_law 189 = .ok (.invokevirtual 22, 3) := by decide +kernel
theorem dL_law_192 : decode cL_law 192 = .ok (.aload_n 2, 1) := by decide +kernel
theorem dL_law_193 : decode cL_law 193 = .ok (.aload_n 0, 1) := by decide +kernel
theorem dL_law_194 : decode cL_law 194 = .ok (.iload_n 3, 1) := by decide +kernel
theorem dL_law_195 : decode cL_law 195 = .ok (.iconst 1, 1) := by decide +kernel
theorem dL_law_196 : decode cL_law 196 = .ok (.iadd, 1) := by decide +kernel
theorem dL_law_197 : decode cL_law 197 = .ok (.iaload, 1) := by decide +kernel
theorem dL_law_198 : decode cL_law 198 = .ok (.aload_n 0, 1) := by decide +kernel
theorem dL_law_199 : decode cL_law 199 = .ok (.iload_n 3, 1) := by decide +kernel
theorem dL_law_200 : decode cL_law 200 = .ok (.iconst 2, 1) := by decide +kernel
theorem dL_law_201 : decode cL_law 201 = .ok (.iadd, 1) := by decide +kernel
theorem dL_law_202 : decode cL_law 202 = .ok (.iaload, 1) := by decide +kernel
theorem dL_law_203 : decode cL_law 203 = .ok (.invokevirtual 25, 3) := by decide +kernel
end
section
set_option maxRecDepth 100000
theorem dL_law_206 : decode cL_law 206 = .ok (.if_icmp .eq 264, 3) := by decide +kernel
theorem dL_law_209 : decode cL_law 209 = .ok (.iconst 0, 1) := by decide +kernel
theorem dL_law_210 : decode cL_law 210 = .ok (.ireturn, 1) := by decide +kernel
theorem dL_law_211 : decode cL_law 211 = .ok (.aload_n 1, 1) := by decide +kernel
theorem dL_law_212 : decode cL_law 212 = .ok (.invokevirtual 26, 3) := by decide +kernel
theorem dL_law_215 : decode cL_law 215 = .ok (.aload_n 2, 1) := by decide +kernel
theorem dL_law_216 : decode cL_law 216 = .ok (.invokevirtual 30, 3) := by decide +kernel
theorem dL_law_219 : decode cL_law 219 = .ok (.if_icmp .eq 251, 3) := by decide +kernel
theorem dL_law_222 : decode cL_law 222 = .ok (.iconst 0, 1) := by decide +kernel
theorem dL_law_223 : decode cL_law 223 = .ok (.ireturn, 1) := by decide +kernel
theorem dL_law_224 : decode cL_law 224 = .ok (.aload_n 1, 1) := by decide +kernel
theorem dL_law_225 : decode cL_law 225 = .ok (.invokevirtual 31, 3) := by decide +kernel
theorem dL_law_228 : decode cL_law 228 = .ok (.aload_n 2, 1) := by decide +kernel
theorem dL_law_229 : decode cL_law 229 = .ok (.invokevirtual 34, 3) := by decide +kernel
theorem dL_law_232 : decode cL_law 232 = .ok (.if_icmp .eq 238, 3) := by decide +kernel
theorem dL_law_235 : decode cL_law 235 = .ok (.iconst 0, 1) := by decide +kernel
theorem dL_law_236 : decode cL_law 236 = .ok (.ireturn, 1) := by decide +kernel
theorem dL_law_237 : decode cL_law 237 = .ok (.aload_n 1, 1) := by decide +kernel
theorem dL_law_238 : decode cL_law 238 = .ok (.aload_n 0, 1) := by decide +kernel
theorem dL_law_239 : decode cL_law 239 = .ok (.iload_n 3, 1) := by decide +kernel
theorem dL_law_240 : decode cL_law 240 = .ok (.iconst 1, 1) := by decide +kernel
theorem dL_law_241 : decode cL_law 241 = .ok (.iadd, 1) := by decide +kernel
theorem dL_law_242 : decode cL_law 242 = .ok (.iaload, 1) := by decide +kernel
theorem dL_law_243 : decode cL_law 243 = .ok (.aload_n 0, 1) := by decide +kernel
theorem dL_law_244 : decode cL_law 244 = .ok (.iload_n 3, 1) := by decide +kernel
theorem dL_law_245 : decode cL_law 245 = .ok (.iconst 2, 1) := by decide +kernel
theorem dL_law_246 : decode cL_law 246 = .ok (.iadd, 1) := by decide +kernel
theorem dL_law_247 : decode cL_law 247 = .ok (.iaload, 1) := by decide +kernel
theorem dL_law_248 : decode cL_law 248 = .ok (.invokevirtual 35, 3) := by decide +kernel
theorem dL_law_251 : decode cL_law 251 = .ok (.aload_n 2, 1) := by decide +kernel
theorem dL_law_252 : decode cL_law 252 = .ok (.aload_n 0, 1) := by decide +kernel
theorem dL_law_253 : decode cL_law 253 = .ok (.iload_n 3, 1) := by decide +kernel
theorem dL_law_254 : decode cL_law 254 = .ok (.iconst 1, 1) := by decide +kernel
theorem dL_law_255 : decode cL_law 255 = .ok (.iadd, 1) := by decide +kernel
theorem dL_law_256 : decode cL_law 256 = .ok (.iaload, 1) := by decide +kernel
theorem dL_law_257 : decode cL_law 257 = .ok (.aload_n 0, 1) := by decide +kernel
theorem dL_law_258 : decode cL_law 258 = .ok (.iload_n 3, 1) := by decide +kernel
theorem dL_law_259 : decode cL_law 259 = .ok (.iconst 2, 1) := by decide +kernel
theorem dL_law_260 : decode cL_law 260 = .ok (.iadd, 1) := by decide +kernel
theorem dL_law_261 : decode cL_law 261 = .ok (.iaload, 1) := by decide +kernel
theorem dL_law_262 : decode cL_law 262 = .ok (.invokevirtual 38, 3) := by decide +kernel
theorem dL_law_265 : decode cL_law 265 = .ok (.if_icmp .eq 205, 3) := by decide +kernel
theorem dL_law_268 : decode cL_law 268 = .ok (.iconst 0, 1) := by decide +kernel
theorem dL_law_269 : decode cL_law 269 = .ok (.ireturn, 1) := by decide +kernel
theorem dL_law_270 : decode cL_law 270 = .ok (.aload_n 1, 1) := by decide +kernel
theorem dL_law_271 : decode cL_law 271 = .ok (.invokevirtual 39, 3) := by decide +kernel
theorem dL_law_274 : decode cL_law 274 = .ok (.aload_n 2, 1) := by decide +kernel
theorem dL_law_275 : decode cL_law 275 = .ok (.invokevirtual 42, 3) := by decide +kernel
theorem dL_law_278 : decode cL_law 278 = .ok (.if_icmp .eq 192, 3) := by decide +kernel
theorem dL_law_281 : decode cL_law 281 = .ok (.iconst 0, 1) := by decide +kernel
theorem dL_law_282 : decode cL_law 282 = .ok (.ireturn, 1) := by decide +kernel
theorem dL_law_283 : decode cL_law 283 = .ok (.aload_n 1, 1) := by decide +kernel
theorem dL_law_284 : decode cL_law 284 = .ok (.aload_n 0, 1) := by decide +kernel
theorem dL_law_285 : decode cL_law 285 = .ok (.iload_n 3, 1) := by decide +kernel
theorem dL_law_286 : decode cL_law 286 = .ok (.iconst 1, 1) := by decide +kernel
theorem dL_law_287 : decode cL_law 287 = .ok (.iadd, 1) := by decide +kernel
theorem dL_law_288 : decode cL_law 288 = .ok (.iaload, 1) := by decide +kernel
theorem dL_law_289 : decode cL_law 289 = .ok (.invokevirtual 43, 3) := by decide +kernel
theorem dL_law_292 : decode cL_law 292 = .ok (.aload_n 2, 1) := by decide +kernel
theorem dL_law_293 : decode cL_law 293 = .ok (.aload_n 0, 1) := by decide +kernel
theorem dL_law_294 : decode cL_law 294 = .ok (.iload_n 3, 1) := by decide +kernel
theorem dL_law_295 : decode cL_law 295 = .ok (.iconst 1, 1) := by decide +kernel
theorem dL_law_296 : decode cL_law 296 = .ok (.iadd, 1) := by decide +kernel
theorem dL_law_297 : decode cL_law 297 = .ok (.iaload, 1) := by decide +kernel
theorem dL_law_298 : decode cL_law 298 = .ok (.invokevirtual 47, 3) := by decide +kernel
theorem dL_law_301 : decode cL_law 301 = .ok (.if_icmp .eq 169, 3) := by decide +kernel
theorem dL_law_304 : decode cL_law 304 = .ok (.iconst 0, 1) := by decide +kernel
theorem dL_law_305 : decode cL_law 305 = .ok (.ireturn, 1) := by decide +kernel
theorem dL_law_306 : decode cL_law 306 = .ok (.aload_n 1, 1) := by decide +kernel
theorem dL_law_307 : decode cL_law 307 = .ok (.invokevirtual 48, 3) := by decide +kernel
theorem dL_law_310 : decode cL_law 310 = .ok (.aload_n 2, 1) := by decide +kernel
theorem dL_law_311 : decode cL_law 311 = .ok (.invokevirtual 51, 3) := by decide +kernel
theorem dL_law_314 : decode cL_law 314 = .ok (.if_icmp .eq 156, 3) := by decide +kernel
theorem dL_law_317 : decode cL_law 317 = .ok (.iconst 0, 1) := by decide +kernel
theorem dL_law_318 : decode cL_law 318 = .ok (.ireturn, 1) := by decide +kernel
theorem dL_law_319 : decode cL_law 319 = .ok (.aload_n 1, 1) := by decide +kernel
theorem dL_law_320 : decode cL_law 320 = .ok (.aload_n 0, 1) := by decide +kernel
theorem dL_law_321 : decode cL_law 321 = .ok (.iload_n 3, 1) := by decide +kernel
theorem dL_law_322 : decode cL_law 322 = .ok (.iconst 1, 1) := by decide +kernel
theorem dL_law_323 : decode cL_law 323 = .ok (.iadd, 1) := by decide +kernel
theorem dL_law_324 : decode cL_law 324 = .ok (.iaload, 1) := by decide +kernel
theorem dL_law_325 : decode cL_law 325 = .ok (.invokevirtual 52, 3) := by decide +kernel
theorem dL_law_328 : decode cL_law 328 = .ok (.aload_n 2, 1) := by decide +kernel
theorem dL_law_329 : decode cL_law 329 = .ok (.aload_n 0, 1) := by decide +kernel
theorem dL_law_330 : decode cL_law 330 = .ok (.iload_n 3, 1) := by decide +kernel
theorem dL_law_331 : decode cL_law 331 = .ok (.iconst 1, 1) := by decide +kernel
theorem dL_law_332 : decode cL_law 332 = .ok (.iadd, 1) := by decide +kernel
theorem dL_law_333 : decode cL_law 333 = .ok (.iaload, 1) := by decide +kernel
theorem dL_law_334 : decode cL_law 334 = .ok (.invokevirtual 56, 3) := by decide +kernel
theorem dL_law_337 : decode cL_law 337 = .ok (.if_icmp .eq 133, 3) := by decide +kernel
theorem dL_law_340 : decode cL_law 340 = .ok (.iconst 0, 1) := by decide +kernel
theorem dL_law_341 : decode cL_law 341 = .ok (.ireturn, 1) := by decide +kernel
theorem dL_law_342 : decode cL_law 342 = .ok (.aload_n 1, 1) := by decide +kernel
theorem dL_law_343 : decode cL_law 343 = .ok (.aload_n 0, 1) := by decide +kernel
theorem dL_law_344 : decode cL_law 344 = .ok (.iload_n 3, 1) := by decide +kernel
theorem dL_law_345 : decode cL_law 345 = .ok (.iconst 1, 1) := by decide +kernel
theorem dL_law_346 : decode cL_law 346 = .ok (.iadd, 1) := by decide +kernel
theorem dL_law_347 : decode cL_law 347 = .ok (.iaload, 1) := by decide +kernel
theorem dL_law_348 : decode cL_law 348 = .ok (.invokevirtual 57, 3) := by decide +kernel
theorem dL_law_351 : decode cL_law 351 = .ok (.aload_n 2, 1) := by decide +kernel
end
section
set_option maxRecDepth 100000
theorem dL_law_352 : decode cL_law 352 = .ok (.aload_n 0, 1) := by decide +kernel
theorem dL_law_353 : decode cL_law 353 = .ok (.iload_n 3, 1) := by decide +kernel
theorem dL_law_354 : decode cL_law 354 = .ok (.iconst 1, 1) := by decide +kernel
theorem dL_law_355 : decode cL_law 355 = .ok (.iadd, 1) := by decide +kernel
theorem dL_law_356 : decode cL_law 356 = .ok (.iaload, 1) := by decide +kernel
theorem dL_law_357 : decode cL_law 357 = .ok (.invokevirtual 60, 3) := by decide +kernel
theorem dL_law_360 : decode cL_law 360 = .ok (.if_icmp .eq 110, 3) := by decide +kernel
theorem dL_law_363 : decode cL_law 363 = .ok (.iconst 0, 1) := by decide +kernel
theorem dL_law_364 : decode cL_law 364 = .ok (.ireturn, 1) := by decide +kernel
theorem dL_law_365 : decode cL_law 365 = .ok (.aload_n 1, 1) := by decide +kernel
theorem dL_law_366 : decode cL_law 366 = .ok (.aload_n 0, 1) := by decide +kernel
theorem dL_law_367 : decode cL_law 367 = .ok (.iload_n 3, 1) := by decide +kernel
theorem dL_law_368 : decode cL_law 368 = .ok (.iconst 1, 1) := by decide +kernel
theorem dL_law_369 : decode cL_law 369 = .ok (.iadd, 1) := by decide +kernel
theorem dL_law_370 : decode cL_law 370 = .ok (.iaload, 1) := by decide +kernel
theorem dL_law_371 : decode cL_law 371 = .ok (.invokevirtual 61, 3) := by decide +kernel
theorem dL_law_374 : decode cL_law 374 = .ok (.aload_n 2, 1) := by decide +kernel
theorem dL_law_375 : decode cL_law 375 = .ok (.aload_n 0, 1) := by decide +kernel
theorem dL_law_376 : decode cL_law 376 = .ok (.iload_n 3, 1) := by decide +kernel
theorem dL_law_377 : decode cL_law 377 = .ok (.iconst 1, 1) := by decide +kernel
theorem dL_law_378 : decode cL_law 378 = .ok (.iadd, 1) := by decide +kernel
theorem dL_law_379 : decode cL_law 379 = .ok (.iaload, 1) := by decide +kernel
theorem dL_law_380 : decode cL_law 380 = .ok (.invokevirtual 64, 3) := by decide +kernel
theorem dL_law_383 : decode cL_law 383 = .ok (.if_icmp .eq 87, 3) := by decide +kernel
theorem dL_law_386 : decode cL_law 386 = .ok (.iconst 0, 1) := by decide +kernel
theorem dL_law_387 : decode cL_law 387 = .ok (.ireturn, 1) := by decide +kernel
theorem dL_law_388 : decode cL_law 388 = .ok (.aload_n 1, 1) := by decide +kernel
theorem dL_law_389 : decode cL_law 389 = .ok (.aload_n 0, 1) := by decide +kernel
theorem dL_law_390 : decode cL_law 390 = .ok (.iload_n 3, 1) := by decide +kernel
theorem dL_law_391 : decode cL_law 391 = .ok (.iconst 1, 1) := by decide +kernel
theorem dL_law_392 : decode cL_law 392 = .ok (.iadd, 1) := by decide +kernel
theorem dL_law_393 : decode cL_law 393 = .ok (.iaload, 1) := by decide +kernel
theorem dL_law_394 : decode cL_law 394 = .ok (.invokevirtual 65, 3) := by decide +kernel
theorem dL_law_397 : decode cL_law 397 = .ok (.aload_n 2, 1) := by decide +kernel
theorem dL_law_398 : decode cL_law 398 = .ok (.aload_n 0, 1) := by decide +kernel
theorem dL_law_399 : decode cL_law 399 = .ok (.iload_n 3, 1) := by decide +kernel
theorem dL_law_400 : decode cL_law 400 = .ok (.iconst 1, 1) := by decide +kernel
theorem dL_law_401 : decode cL_law 401 = .ok (.iadd, 1) := by decide +kernel
theorem dL_law_402 : decode cL_law 402 = .ok (.iaload, 1) := by decide +kernel
theorem dL_law_403 : decode cL_law 403 = .ok (.invokevirtual 68, 3) := by decide +kernel
theorem dL_law_406 : decode cL_law 406 = .ok (.if_icmp .eq 64, 3) := by decide +kernel
theorem dL_law_409 : decode cL_law 409 = .ok (.iconst 0, 1) := by decide +kernel
theorem dL_law_410 : decode cL_law 410 = .ok (.ireturn, 1) := by decide +kernel
theorem dL_law_411 : decode cL_law 411 = .ok (.aload_n 1, 1) := by decide +kernel
theorem dL_law_412 : decode cL_law 412 = .ok (.aload_n 0, 1) := by decide +kernel
theorem dL_law_413 : decode cL_law 413 = .ok (.iload_n 3, 1) := by decide +kernel
theorem dL_law_414 : decode cL_law 414 = .ok (.iconst 1, 1) := by decide +kernel
theorem dL_law_415 : decode cL_law 415 = .ok (.iadd, 1) := by decide +kernel
theorem dL_law_416 : decode cL_law 416 = .ok (.iaload, 1) := by decide +kernel
theorem dL_law_417 : decode cL_law 417 = .ok (.invokevirtual 69, 3) := by decide +kernel
theorem dL_law_420 : decode cL_law 420 = .ok (.aload_n 2, 1) := by decide +kernel
theorem dL_law_421 : decode cL_law 421 = .ok (.aload_n 0, 1) := by decide +kernel
theorem dL_law_422 : decode cL_law 422 = .ok (.iload_n 3, 1) := by decide +kernel
theorem dL_law_423 : decode cL_law 423 = .ok (.iconst 1, 1) := by decide +kernel
theorem dL_law_424 : decode cL_law 424 = .ok (.iadd, 1) := by decide +kernel
theorem dL_law_425 : decode cL_law 425 = .ok (.iaload, 1) := by decide +kernel
theorem dL_law_426 : decode cL_law 426 = .ok (.invokevirtual 72, 3) := by decide +kernel
theorem dL_law_429 : decode cL_law 429 = .ok (.if_icmp .eq 41, 3) := by decide +kernel
theorem dL_law_432 : decode cL_law 432 = .ok (.iconst 0, 1) := by decide +kernel
theorem dL_law_433 : decode cL_law 433 = .ok (.ireturn, 1) := by decide +kernel
theorem dL_law_434 : decode cL_law 434 = .ok (.aload_n 1, 1) := by decide +kernel
theorem dL_law_435 : decode cL_law 435 = .ok (.aload_n 0, 1) := by decide +kernel
theorem dL_law_436 : decode cL_law 436 = .ok (.iload_n 3, 1) := by decide +kernel
theorem dL_law_437 : decode cL_law 437 = .ok (.iconst 1, 1) := by decide +kernel
theorem dL_law_438 : decode cL_law 438 = .ok (.iadd, 1) := by decide +kernel
theorem dL_law_439 : decode cL_law 439 = .ok (.iaload, 1) := by decide +kernel
theorem dL_law_440 : decode cL_law 440 = .ok (.invokevirtual 73, 3) := by decide +kernel
theorem dL_law_443 : decode cL_law 443 = .ok (.aload_n 2, 1) := by decide +kernel
theorem dL_law_444 : decode cL_law 444 = .ok (.aload_n 0, 1) := by decide +kernel
theorem dL_law_445 : decode cL_law 445 = .ok (.iload_n 3, 1) := by decide +kernel
theorem dL_law_446 : decode cL_law 446 = .ok (.iconst 1, 1) := by decide +kernel
theorem dL_law_447 : decode cL_law 447 = .ok (.iadd, 1) := by decide +kernel
theorem dL_law_448 : decode cL_law 448 = .ok (.iaload, 1) := by decide +kernel
theorem dL_law_449 : decode cL_law 449 = .ok (.invokevirtual 76, 3) := by decide +kernel
theorem dL_law_452 : decode cL_law 452 = .ok (.if_icmp .eq 18, 3) := by decide +kernel
theorem dL_law_455 : decode cL_law 455 = .ok (.iconst 0, 1) := by decide +kernel
theorem dL_law_456 : decode cL_law 456 = .ok (.ireturn, 1) := by decide +kernel
theorem dL_law_457 : decode cL_law 457 = .ok (.aload_n 1, 1) := by decide +kernel
theorem dL_law_458 : decode cL_law 458 = .ok (.invokevirtual 77, 3) := by decide +kernel
theorem dL_law_461 : decode cL_law 461 = .ok (.aload_n 2, 1) := by decide +kernel
theorem dL_law_462 : decode cL_law 462 = .ok (.invokevirtual 80, 3) := by decide +kernel
theorem dL_law_465 : decode cL_law 465 = .ok (.if_icmp .eq 5, 3) := by decide +kernel
theorem dL_law_468 : decode cL_law 468 = .ok (.iconst 0, 1) := by decide +kernel
theorem dL_law_469 : decode cL_law 469 = .ok (.ireturn, 1) := by decide +kernel
theorem dL_law_470 : decode cL_law 470 = .ok (.iinc 3 3, 3) := by decide +kernel
theorem dL_law_473 : decode cL_law 473 = .ok (.goto (-455), 3) := by decide +kernel
theorem dL_law_476 : decode cL_law 476 = .ok (.iconst 1, 1) := by decide +kernel
theorem dL_law_477 : decode cL_law 477 = .ok (.ireturn, 1) := by decide +kernel
end
section
/-! the two objects' worlds: one state S (ints: array number, place; number 0: the object's own int fields), longs V -/
abbrev vwCl : List vw_C := [(RX0, TX0, 15), (RX1, TX1, 7)]
abbrev SS : Type := Nat → Nat → Int32
abbrev LL : Type := Nat → Int64
abbrev ix (i : Int32) : Nat := i.toNatClampNeg
def up2 (S : SS) (k j : Nat) (v : Int32) : SS := fun a => if a = k then upd (S a) j v else S a
def CX (p : Program) (s : State) (m : MethodId) (c : Code) (args : Array Value) (cc : ByteArray) (nL : Nat) (own : String) (A : Nat → Prop) (D : va_G) (tys : List (ClassId × FieldType)) : Prop :=
  p.tables.exec = Jvm.exec ∧ c.code = cc ∧ s.vm.findClass own = some m.cls ∧ (∀ w ∈ lw_all, w.before args s = true) ∧ c.maxLocals = nL ∧ va_K D vwCl tys s ∧ (∀ q : Nat, s.heap.size ≤ q → A q)
def wA (a : Nat → Nat) (b : Nat → ClassId) (S : SS) (V : LL) : va_W := [(a 0, .inr (0, [.int (S 0 0), .int (S 0 1), .ref (a 2), .ref (a 3), .ref (a 4), .ref (a 5), .ref (a 6), .ref (a 7), .ref (a 8), .ref (a 9), .int (S 0 10), .ref (a 11), .ref (a 12), .ref (a 13), .int (S 0 14)])), (a 2, .inl (b 2, 49, .inl (S 2))), (a 3, .inl (b 3, 49, .inl (S 3))), (a 4, .inl (b 4, 49, .inl (S 4))), (a 5, .inl (b 5, 49, .inl (S 5))), (a 6, .inl (b 6, 49, .inl (S 6))), (a 7, .inl (b 7, 49, .inl (S 7))), (a 8, .inl (b 8, 49, .inl (S 8))), (a 9, .inl (b 9, 49, .inl (S 9))), (a 11, .inl (b 11, 32, .inl (S 11))), (a 12, .inl (b 12, 32, .inl (S 12))), (a 13, .inl (b 13, 32, .inr (.inl V)))]
def tA (b : Nat → ClassId) : List (ClassId × FieldType) := [(b 2, .int), (b 3, .int), (b 4, .int), (b 5, .int), (b 6, .int), (b 7, .int), (b 8, .int), (b 9, .int), (b 11, .boolean), (b 12, .int), (b 13, .long)]
def PA (D : va_G) (A : Nat → Prop) (a : Nat → Nat) (b : Nat → ClassId) (S : SS) (V : LL) (H0 H : Heap) (locs : List Loc) : Prop := va_P D vwCl (wA a b S V) H ∧ va_D A (wA a b S V) ∧ va_S A H0 H locs
def PcA (D : va_G) (a : Nat → Nat) (b : Nat → ClassId) (S : SS) (V : LL) (sz : Nat) (U : State) : Prop := U.heap.size = sz ∧ va_P D vwCl (wA a b S V) U.heap ∧ va_K D vwCl (tA b) U ∧ va_D (fun _ => True) (wA a b S V)
def EA (D : va_G) (a : Nat → Nat) (b : Nat → ClassId) (S : SS) (V : LL) (A : Nat → Prop) (t : State) : Prop := va_P D vwCl (wA a b S V) t.heap ∧ va_K D vwCl (tA b) t ∧ va_D A (wA a b S V)
/-- a method with an int (or boolean) answer: from the state S, V it answers o.1 and leaves o.2 -/
def MAi (l : Launch) (D : va_G) (a : Nat → Nat) (b : Nat → ClassId) (y : MethodName) (cc : ByteArray) (nL : Nat) (ret : FieldType) (rm : Room) (As : List Value) (S : SS) (V : LL) (o : Int32 × SS × LL) : Prop :=
  ∀ sz : Nat, Met l y (ws_ y cc nL (some ret)) rm (va_Pc (.ref (a 0) :: As) (PcA D a b S V sz)) (va_Qi (fun r (_ : Unit) => r = o.1) (fun _ t => EA D a b o.2.1 o.2.2 (va_A (wA a b S V) sz) t) (va_A (wA a b S V) sz)) 0 0 (va_A (wA a b S V) sz)
/-- a void method -/
def MAv (l : Launch) (D : va_G) (a : Nat → Nat) (b : Nat → ClassId) (y : MethodName) (cc : ByteArray) (nL : Nat) (rm : Room) (As : List Value) (S : SS) (V : LL) (o : SS × LL) : Prop :=
  ∀ sz : Nat, Met l y (ws_ y cc nL none) rm (va_Pc (.ref (a 0) :: As) (PcA D a b S V sz)) (va_Qv (fun (_ : Unit) => True) (fun _ t => EA D a b o.1 o.2 (va_A (wA a b S V) sz) t) (va_A (wA a b S V) sz)) 0 0 (va_A (wA a b S V) sz)
def QAi (D : va_G) (a : Nat → Nat) (b : Nat → ClassId) (A : Nat → Prop) (o : Int32 × SS × LL) (below : List Frame) (args : Array Value) (s : State) : State → Prop := MQ below (va_Qi (fun r (_ : Unit) => r = o.1) (fun _ t => EA D a b o.2.1 o.2.2 A t) A) args s 0 0 A
def QAv (D : va_G) (a : Nat → Nat) (b : Nat → ClassId) (A : Nat → Prop) (o : SS × LL) (below : List Frame) (args : Array Value) (s : State) : State → Prop := MQ below (va_Qv (fun (_ : Unit) => True) (fun _ t => EA D a b o.1 o.2 A t) A) args s 0 0 A
def wB (a : Nat → Nat) (b : Nat → ClassId) (S : SS) (V : LL) : va_W := [(a 0, .inr (1, [.ref (a 1), .int (S 0 1), .ref (a 2), .ref (a 3), .ref (a 4), .ref (a 5), .int (S 0 6)])), (a 1, .inl (b 1, 32, .inl (S 1))), (a 2, .inl (b 2, 32, .inl (S 2))), (a 3, .inl (b 3, 32, .inl (S 3))), (a 4, .inl (b 4, 32, .inl (S 4))), (a 5, .inl (b 5, 32, .inl (S 5)))]
def tB (b : Nat → ClassId) : List (ClassId × FieldType) := [(b 1, .int), (b 2, .boolean), (b 3, .int), (b 4, .int), (b 5, .boolean)]
def PB (D : va_G) (A : Nat → Prop) (a : Nat → Nat) (b : Nat → ClassId) (S : SS) (V : LL) (H0 H : Heap) (locs : List Loc) : Prop := va_P D vwCl (wB a b S V) H ∧ va_D A (wB a b S V) ∧ va_S A H0 H locs
def PcB (D : va_G) (a : Nat → Nat) (b : Nat → ClassId) (S : SS) (V : LL) (sz : Nat) (U : State) : Prop := U.heap.size = sz ∧ va_P D vwCl (wB a b S V) U.heap ∧ va_K D vwCl (tB b) U ∧ va_D (fun _ => True) (wB a b S V)
def EB (D : va_G) (a : Nat → Nat) (b : Nat → ClassId) (S : SS) (V : LL) (A : Nat → Prop) (t : State) : Prop := va_P D vwCl (wB a b S V) t.heap ∧ va_K D vwCl (tB b) t ∧ va_D A (wB a b S V)
/-- a method with an int (or boolean) answer: from the state S, V it answers o.1 and leaves o.2 -/
def MBi (l : Launch) (D : va_G) (a : Nat → Nat) (b : Nat → ClassId) (y : MethodName) (cc : ByteArray) (nL : Nat) (ret : FieldType) (rm : Room) (As : List Value) (S : SS) (V : LL) (o : Int32 × SS × LL) : Prop :=
  ∀ sz : Nat, Met l y (ws_ y cc nL (some ret)) rm (va_Pc (.ref (a 0) :: As) (PcB D a b S V sz)) (va_Qi (fun r (_ : Unit) => r = o.1) (fun _ t => EB D a b o.2.1 o.2.2 (va_A (wB a b S V) sz) t) (va_A (wB a b S V) sz)) 0 0 (va_A (wB a b S V) sz)
/-- a void method -/
def MBv (l : Launch) (D : va_G) (a : Nat → Nat) (b : Nat → ClassId) (y : MethodName) (cc : ByteArray) (nL : Nat) (rm : Room) (As : List Value) (S : SS) (V : LL) (o : SS × LL) : Prop :=
  ∀ sz : Nat, Met l y (ws_ y cc nL none) rm (va_Pc (.ref (a 0) :: As) (PcB D a b S V sz)) (va_Qv (fun (_ : Unit) => True) (fun _ t => EB D a b o.1 o.2 (va_A (wB a b S V) sz) t) (va_A (wB a b S V) sz)) 0 0 (va_A (wB a b S V) sz)
def QBi (D : va_G) (a : Nat → Nat) (b : Nat → ClassId) (A : Nat → Prop) (o : Int32 × SS × LL) (below : List Frame) (args : Array Value) (s : State) : State → Prop := MQ below (va_Qi (fun r (_ : Unit) => r = o.1) (fun _ t => EB D a b o.2.1 o.2.2 A t) A) args s 0 0 A
def QBv (D : va_G) (a : Nat → Nat) (b : Nat → ClassId) (A : Nat → Prop) (o : SS × LL) (below : List Frame) (args : Array Value) (s : State) : State → Prop := MQ below (va_Qv (fun (_ : Unit) => True) (fun _ t => EB D a b o.1 o.2 A t) A) args s 0 0 A
section ROWS
variable {p : Program} {l : Launch} {e : Env} {R : Room} {s : State} {m : MethodId} {args : Array Value} {below : List Frame} {meth : Method} {c : Code} {H : Heap} {locs : List Loc} {cells slots : Nat} {Q : State → Prop}
variable {cc : ByteArray} {pc nL : Nat} {ls : Array Slot} {rest st : List Value} {D : va_G} {A : Nat → Prop} {a : Nat → Nat} {b : Nat → ClassId} {S S1 : SS} {V V1 : LL}
theorem gA_count {v : Int32} (C : CX p s m c args cc nL RX0 A D (tA b)) (P : PA D A a b S V s.heap H locs) (hv : S 0 0 = v) (hd : decode cc pc = .ok (.getfield 77, 3)) (kk : W p l e R s m args below meth c H locs cells slots Q (F0 m (pc + 3) ls (.int v :: rest))) : W p l e R s m args below meth c H locs cells slots Q (F0 m pc ls (.ref (a 0) :: rest)) := by
  subst hv
  exact
  va_get (D := D) (ci := 0) (v := .int (S 0 0)) (C := RX0) (T := TX0) (N := 15) C.1 C.2.1 C.2.2.2.1 in_X0 C.2.2.1 C.2.2.2.2.2.1 P.1 0 rfl rfl 0 (by decide) (C.2.2.2.1 _ q27) (fun _ h9 => h9) rfl hd kk
theorem pA_count {x : Int32} (C : CX p s m c args cc nL RX0 A D (tA b)) (P : PA D A a b S V s.heap H locs) (hd : decode cc pc = .ok (.putfield 77, 3)) (kk : ∀ (H1 : Heap) (locs1 : List Loc), PA D A a b (up2 S 0 0 x) V s.heap H1 locs1 → W p l e R s m args below meth c H1 locs1 cells slots Q (F0 m (pc + 3) ls rest)) : W p l e R s m args below meth c H locs cells slots Q (F0 m pc ls (.int x :: .ref (a 0) :: rest)) :=
  va_put (D := D) (ci := 0) (v := .int x) (ty := .int) (C := RX0) (T := TX0) (N := 15) C.1 C.2.1 C.2.2.2.1 in_X0 tyX0 tyX0_ok nmX0 C.2.2.1 C.2.2.2.2.2.1 P.1 P.2.1 P.2.2 0 rfl rfl 0 (by decide) (C.2.2.2.1 _ q27) (fun _ h9 => h9) rfl (by decide +kernel) rfl rfl (Nat.le_of_ble_eq_true rfl) hd (fun H1 locs1 h1 h2 h3 => kk H1 locs1 ⟨h1, h2, h3⟩)
theorem gA_root {v : Int32} (C : CX p s m c args cc nL RX0 A D (tA b)) (P : PA D A a b S V s.heap H locs) (hv : S 0 1 = v) (hd : decode cc pc = .ok (.getfield 57, 3)) (kk : W p l e R s m args below meth c H locs cells slots Q (F0 m (pc + 3) ls (.int v :: rest))) : W p l e R s m args below meth c H locs cells slots Q (F0 m pc ls (.ref (a 0) :: rest)) := by
  subst hv
  exact
  va_get (D := D) (ci := 0) (v := .int (S 0 1)) (C := RX0) (T := TX0) (N := 15) C.1 C.2.1 C.2.2.2.1 in_X0 C.2.2.1 C.2.2.2.2.2.1 P.1 0 rfl rfl 1 (by decide) (C.2.2.2.1 _ q28) (fun _ h9 => h9) rfl hd kk
theorem pA_root {x : Int32} (C : CX p s m c args cc nL RX0 A D (tA b)) (P : PA D A a b S V s.heap H locs) (hd : decode cc pc = .ok (.putfield 57, 3)) (kk : ∀ (H1 : Heap) (locs1 : List Loc), PA D A a b (up2 S 0 1 x) V s.heap H1 locs1 → W p l e R s m args below meth c H1 locs1 cells slots Q (F0 m (pc + 3) ls rest)) : W p l e R s m args below meth c H locs cells slots Q (F0 m pc ls (.int x :: .ref (a 0) :: rest)) :=
  va_put (D := D) (ci := 0) (v := .int x) (ty := .int) (C := RX0) (T := TX0) (N := 15) C.1 C.2.1 C.2.2.2.1 in_X0 tyX0 tyX0_ok nmX0 C.2.2.1 C.2.2.2.2.2.1 P.1 P.2.1 P.2.2 0 rfl rfl 1 (by decide) (C.2.2.2.1 _ q28) (fun _ h9 => h9) rfl (by decide +kernel) rfl rfl (Nat.le_of_ble_eq_true rfl) hd (fun H1 locs1 h1 h2 h3 => kk H1 locs1 ⟨h1, h2, h3⟩)
theorem gA_left (C : CX p s m c args cc nL RX0 A D (tA b)) (P : PA D A a b S V s.heap H locs) (hd : decode cc pc = .ok (.getfield 7, 3)) (kk : W p l e R s m args below meth c H locs cells slots Q (F0 m (pc + 3) ls (.ref (a 2) :: rest))) : W p l e R s m args below meth c H locs cells slots Q (F0 m pc ls (.ref (a 0) :: rest)) :=
  va_get (D := D) (ci := 0) (v := .ref (a 2)) (C := RX0) (T := TX0) (N := 15) C.1 C.2.1 C.2.2.2.1 in_X0 C.2.2.1 C.2.2.2.2.2.1 P.1 0 rfl rfl 2 (by decide) (C.2.2.2.1 _ q29) (fun _ h9 => h9) rfl hd kk
theorem lA_left {i : Int32} {v : Int32} (C : CX p s m c args cc nL RX0 A D (tA b)) (P : PA D A a b S V s.heap H locs) (hin : vp_in i 49) (hv : S 2 (ix i) = v) (hd : decode cc pc = .ok (.iaload, 1)) (kk : W p l e R s m args below meth c H locs cells slots Q (F0 m (pc + 1) ls (.int v :: rest))) : W p l e R s m args below meth c H locs cells slots Q (F0 m pc ls (.int i :: .ref (a 2) :: rest)) := by
  subst hv
  exact va_iald C.1 C.2.1 C.2.2.2.2.2.1 P.1 1 0 rfl rfl hin hd kk
theorem sA_left {i x : Int32} (C : CX p s m c args cc nL RX0 A D (tA b)) (P : PA D A a b S V s.heap H locs) (hin : vp_in i 49) (hd : decode cc pc = .ok (.iastore, 1)) (kk : ∀ (H1 : Heap) (locs1 : List Loc), PA D A a b (up2 S 2 (ix i) x) V s.heap H1 locs1 → W p l e R s m args below meth c H1 locs1 cells slots Q (F0 m (pc + 1) ls rest)) : W p l e R s m args below meth c H locs cells slots Q (F0 m pc ls (.int x :: .int i :: .ref (a 2) :: rest)) :=
  va_iast C.1 C.2.1 C.2.2.2.2.2.1 P.1 P.2.1 P.2.2 1 0 rfl rfl hin hd (fun H1 locs1 h1 h2 h3 => kk H1 locs1 ⟨h1, h2, h3⟩)
theorem gA_right (C : CX p s m c args cc nL RX0 A D (tA b)) (P : PA D A a b S V s.heap H locs) (hd : decode cc pc = .ok (.getfield 13, 3)) (kk : W p l e R s m args below meth c H locs cells slots Q (F0 m (pc + 3) ls (.ref (a 3) :: rest))) : W p l e R s m args below meth c H locs cells slots Q (F0 m pc ls (.ref (a 0) :: rest)) :=
  va_get (D := D) (ci := 0) (v := .ref (a 3)) (C := RX0) (T := TX0) (N := 15) C.1 C.2.1 C.2.2.2.1 in_X0 C.2.2.1 C.2.2.2.2.2.1 P.1 0 rfl rfl 3 (by decide) (C.2.2.2.1 _ q30) (fun _ h9 => h9) rfl hd kk
theorem lA_right {i : Int32} {v : Int32} (C : CX p s m c args cc nL RX0 A D (tA b)) (P : PA D A a b S V s.heap H locs) (hin : vp_in i 49) (hv : S 3 (ix i) = v) (hd : decode cc pc = .ok (.iaload, 1)) (kk : W p l e R s m args below meth c H locs cells slots Q (F0 m (pc + 1) ls (.int v :: rest))) : W p l e R s m args below meth c H locs cells slots Q (F0 m pc ls (.int i :: .ref (a 3) :: rest)) := by
  subst hv
  exact va_iald C.1 C.2.1 C.2.2.2.2.2.1 P.1 2 1 rfl rfl hin hd kk
theorem sA_right {i x : Int32} (C : CX p s m c args cc nL RX0 A D (tA b)) (P : PA D A a b S V s.heap H locs) (hin : vp_in i 49) (hd : decode cc pc = .ok (.iastore, 1)) (kk : ∀ (H1 : Heap) (locs1 : List Loc), PA D A a b (up2 S 3 (ix i) x) V s.heap H1 locs1 → W p l e R s m args below meth c H1 locs1 cells slots Q (F0 m (pc + 1) ls rest)) : W p l e R s m args below meth c H locs cells slots Q (F0 m pc ls (.int x :: .int i :: .ref (a 3) :: rest)) :=
  va_iast C.1 C.2.1 C.2.2.2.2.2.1 P.1 P.2.1 P.2.2 2 1 rfl rfl hin hd (fun H1 locs1 h1 h2 h3 => kk H1 locs1 ⟨h1, h2, h3⟩)
theorem gA_up (C : CX p s m c args cc nL RX0 A D (tA b)) (P : PA D A a b S V s.heap H locs) (hd : decode cc pc = .ok (.getfield 16, 3)) (kk : W p l e R s m args below meth c H locs cells slots Q (F0 m (pc + 3) ls (.ref (a 4) :: rest))) : W p l e R s m args below meth c H locs cells slots Q (F0 m pc ls (.ref (a 0) :: rest)) :=
  va_get (D := D) (ci := 0) (v := .ref (a 4)) (C := RX0) (T := TX0) (N := 15) C.1 C.2.1 C.2.2.2.1 in_X0 C.2.2.1 C.2.2.2.2.2.1 P.1 0 rfl rfl 4 (by decide) (C.2.2.2.1 _ q31) (fun _ h9 => h9) rfl hd kk
theorem lA_up {i : Int32} {v : Int32} (C : CX p s m c args cc nL RX0 A D (tA b)) (P : PA D A a b S V s.heap H locs) (hin : vp_in i 49) (hv : S 4 (ix i) = v) (hd : decode cc pc = .ok (.iaload, 1)) (kk : W p l e R s m args below meth c H locs cells slots Q (F0 m (pc + 1) ls (.int v :: rest))) : W p l e R s m args below meth c H locs cells slots Q (F0 m pc ls (.int i :: .ref (a 4) :: rest)) := by
  subst hv
  exact va_iald C.1 C.2.1 C.2.2.2.2.2.1 P.1 3 2 rfl rfl hin hd kk
theorem sA_up {i x : Int32} (C : CX p s m c args cc nL RX0 A D (tA b)) (P : PA D A a b S V s.heap H locs) (hin : vp_in i 49) (hd : decode cc pc = .ok (.iastore, 1)) (kk : ∀ (H1 : Heap) (locs1 : List Loc), PA D A a b (up2 S 4 (ix i) x) V s.heap H1 locs1 → W p l e R s m args below meth c H1 locs1 cells slots Q (F0 m (pc + 1) ls rest)) : W p l e R s m args below meth c H locs cells slots Q (F0 m pc ls (.int x :: .int i :: .ref (a 4) :: rest)) :=
  va_iast C.1 C.2.1 C.2.2.2.2.2.1 P.1 P.2.1 P.2.2 3 2 rfl rfl hin hd (fun H1 locs1 h1 h2 h3 => kk H1 locs1 ⟨h1, h2, h3⟩)
theorem gA_rank (C : CX p s m c args cc nL RX0 A D (tA b)) (P : PA D A a b S V s.heap H locs) (hd : decode cc pc = .ok (.getfield 19, 3)) (kk : W p l e R s m args below meth c H locs cells slots Q (F0 m (pc + 3) ls (.ref (a 5) :: rest))) : W p l e R s m args below meth c H locs cells slots Q (F0 m pc ls (.ref (a 0) :: rest)) :=
  va_get (D := D) (ci := 0) (v := .ref (a 5)) (C := RX0) (T := TX0) (N := 15) C.1 C.2.1 C.2.2.2.1 in_X0 C.2.2.1 C.2.2.2.2.2.1 P.1 0 rfl rfl 5 (by decide) (C.2.2.2.1 _ q32) (fun _ h9 => h9) rfl hd kk
theorem lA_rank {i : Int32} {v : Int32} (C : CX p s m c args cc nL RX0 A D (tA b)) (P : PA D A a b S V s.heap H locs) (hin : vp_in i 49) (hv : S 5 (ix i) = v) (hd : decode cc pc = .ok (.iaload, 1)) (kk : W p l e R s m args below meth c H locs cells slots Q (F0 m (pc + 1) ls (.int v :: rest))) : W p l e R s m args below meth c H locs cells slots Q (F0 m pc ls (.int i :: .ref (a 5) :: rest)) := by
  subst hv
  exact va_iald C.1 C.2.1 C.2.2.2.2.2.1 P.1 4 3 rfl rfl hin hd kk
theorem sA_rank {i x : Int32} (C : CX p s m c args cc nL RX0 A D (tA b)) (P : PA D A a b S V s.heap H locs) (hin : vp_in i 49) (hd : decode cc pc = .ok (.iastore, 1)) (kk : ∀ (H1 : Heap) (locs1 : List Loc), PA D A a b (up2 S 5 (ix i) x) V s.heap H1 locs1 → W p l e R s m args below meth c H1 locs1 cells slots Q (F0 m (pc + 1) ls rest)) : W p l e R s m args below meth c H locs cells slots Q (F0 m pc ls (.int x :: .int i :: .ref (a 5) :: rest)) :=
  va_iast C.1 C.2.1 C.2.2.2.2.2.1 P.1 P.2.1 P.2.2 4 3 rfl rfl hin hd (fun H1 locs1 h1 h2 h3 => kk H1 locs1 ⟨h1, h2, h3⟩)
theorem gA_shownIn (C : CX p s m c args cc nL RX0 A D (tA b)) (P : PA D A a b S V s.heap H locs) (hd : decode cc pc = .ok (.getfield 22, 3)) (kk : W p l e R s m args below meth c H locs cells slots Q (F0 m (pc + 3) ls (.ref (a 6) :: rest))) : W p l e R s m args below meth c H locs cells slots Q (F0 m pc ls (.ref (a 0) :: rest)) :=
  va_get (D := D) (ci := 0) (v := .ref (a 6)) (C := RX0) (T := TX0) (N := 15) C.1 C.2.1 C.2.2.2.1 in_X0 C.2.2.1 C.2.2.2.2.2.1 P.1 0 rfl rfl 6 (by decide) (C.2.2.2.1 _ q33) (fun _ h9 => h9) rfl hd kk
theorem lA_shownIn {i : Int32} {v : Int32} (C : CX p s m c args cc nL RX0 A D (tA b)) (P : PA D A a b S V s.heap H locs) (hin : vp_in i 49) (hv : S 6 (ix i) = v) (hd : decode cc pc = .ok (.iaload, 1)) (kk : W p l e R s m args below meth c H locs cells slots Q (F0 m (pc + 1) ls (.int v :: rest))) : W p l e R s m args below meth c H locs cells slots Q (F0 m pc ls (.int i :: .ref (a 6) :: rest)) := by
  subst hv
  exact va_iald C.1 C.2.1 C.2.2.2.2.2.1 P.1 5 4 rfl rfl hin hd kk
theorem sA_shownIn {i x : Int32} (C : CX p s m c args cc nL RX0 A D (tA b)) (P : PA D A a b S V s.heap H locs) (hin : vp_in i 49) (hd : decode cc pc = .ok (.iastore, 1)) (kk : ∀ (H1 : Heap) (locs1 : List Loc), PA D A a b (up2 S 6 (ix i) x) V s.heap H1 locs1 → W p l e R s m args below meth c H1 locs1 cells slots Q (F0 m (pc + 1) ls rest)) : W p l e R s m args below meth c H locs cells slots Q (F0 m pc ls (.int x :: .int i :: .ref (a 6) :: rest)) :=
  va_iast C.1 C.2.1 C.2.2.2.2.2.1 P.1 P.2.1 P.2.2 5 4 rfl rfl hin hd (fun H1 locs1 h1 h2 h3 => kk H1 locs1 ⟨h1, h2, h3⟩)
theorem gA_letter (C : CX p s m c args cc nL RX0 A D (tA b)) (P : PA D A a b S V s.heap H locs) (hd : decode cc pc = .ok (.getfield 25, 3)) (kk : W p l e R s m args below meth c H locs cells slots Q (F0 m (pc + 3) ls (.ref (a 7) :: rest))) : W p l e R s m args below meth c H locs cells slots Q (F0 m pc ls (.ref (a 0) :: rest)) :=
  va_get (D := D) (ci := 0) (v := .ref (a 7)) (C := RX0) (T := TX0) (N := 15) C.1 C.2.1 C.2.2.2.1 in_X0 C.2.2.1 C.2.2.2.2.2.1 P.1 0 rfl rfl 7 (by decide) (C.2.2.2.1 _ q34) (fun _ h9 => h9) rfl hd kk
theorem lA_letter {i : Int32} {v : Int32} (C : CX p s m c args cc nL RX0 A D (tA b)) (P : PA D A a b S V s.heap H locs) (hin : vp_in i 49) (hv : S 7 (ix i) = v) (hd : decode cc pc = .ok (.iaload, 1)) (kk : W p l e R s m args below meth c H locs cells slots Q (F0 m (pc + 1) ls (.int v :: rest))) : W p l e R s m args below meth c H locs cells slots Q (F0 m pc ls (.int i :: .ref (a 7) :: rest)) := by
  subst hv
  exact va_iald C.1 C.2.1 C.2.2.2.2.2.1 P.1 6 5 rfl rfl hin hd kk
theorem sA_letter {i x : Int32} (C : CX p s m c args cc nL RX0 A D (tA b)) (P : PA D A a b S V s.heap H locs) (hin : vp_in i 49) (hd : decode cc pc = .ok (.iastore, 1)) (kk : ∀ (H1 : Heap) (locs1 : List Loc), PA D A a b (up2 S 7 (ix i) x) V s.heap H1 locs1 → W p l e R s m args below meth c H1 locs1 cells slots Q (F0 m (pc + 1) ls rest)) : W p l e R s m args below meth c H locs cells slots Q (F0 m pc ls (.int x :: .int i :: .ref (a 7) :: rest)) :=
  va_iast C.1 C.2.1 C.2.2.2.2.2.1 P.1 P.2.1 P.2.2 6 5 rfl rfl hin hd (fun H1 locs1 h1 h2 h3 => kk H1 locs1 ⟨h1, h2, h3⟩)
theorem gA_typist (C : CX p s m c args cc nL RX0 A D (tA b)) (P : PA D A a b S V s.heap H locs) (hd : decode cc pc = .ok (.getfield 28, 3)) (kk : W p l e R s m args below meth c H locs cells slots Q (F0 m (pc + 3) ls (.ref (a 8) :: rest))) : W p l e R s m args below meth c H locs cells slots Q (F0 m pc ls (.ref (a 0) :: rest)) :=
  va_get (D := D) (ci := 0) (v := .ref (a 8)) (C := RX0) (T := TX0) (N := 15) C.1 C.2.1 C.2.2.2.1 in_X0 C.2.2.1 C.2.2.2.2.2.1 P.1 0 rfl rfl 8 (by decide) (C.2.2.2.1 _ q35) (fun _ h9 => h9) rfl hd kk
theorem lA_typist {i : Int32} {v : Int32} (C : CX p s m c args cc nL RX0 A D (tA b)) (P : PA D A a b S V s.heap H locs) (hin : vp_in i 49) (hv : S 8 (ix i) = v) (hd : decode cc pc = .ok (.iaload, 1)) (kk : W p l e R s m args below meth c H locs cells slots Q (F0 m (pc + 1) ls (.int v :: rest))) : W p l e R s m args below meth c H locs cells slots Q (F0 m pc ls (.int i :: .ref (a 8) :: rest)) := by
  subst hv
  exact va_iald C.1 C.2.1 C.2.2.2.2.2.1 P.1 7 6 rfl rfl hin hd kk
theorem sA_typist {i x : Int32} (C : CX p s m c args cc nL RX0 A D (tA b)) (P : PA D A a b S V s.heap H locs) (hin : vp_in i 49) (hd : decode cc pc = .ok (.iastore, 1)) (kk : ∀ (H1 : Heap) (locs1 : List Loc), PA D A a b (up2 S 8 (ix i) x) V s.heap H1 locs1 → W p l e R s m args below meth c H1 locs1 cells slots Q (F0 m (pc + 1) ls rest)) : W p l e R s m args below meth c H locs cells slots Q (F0 m pc ls (.int x :: .int i :: .ref (a 8) :: rest)) :=
  va_iast C.1 C.2.1 C.2.2.2.2.2.1 P.1 P.2.1 P.2.2 7 6 rfl rfl hin hd (fun H1 locs1 h1 h2 h3 => kk H1 locs1 ⟨h1, h2, h3⟩)
theorem gA_covered (C : CX p s m c args cc nL RX0 A D (tA b)) (P : PA D A a b S V s.heap H locs) (hd : decode cc pc = .ok (.getfield 31, 3)) (kk : W p l e R s m args below meth c H locs cells slots Q (F0 m (pc + 3) ls (.ref (a 9) :: rest))) : W p l e R s m args below meth c H locs cells slots Q (F0 m pc ls (.ref (a 0) :: rest)) :=
  va_get (D := D) (ci := 0) (v := .ref (a 9)) (C := RX0) (T := TX0) (N := 15) C.1 C.2.1 C.2.2.2.1 in_X0 C.2.2.1 C.2.2.2.2.2.1 P.1 0 rfl rfl 9 (by decide) (C.2.2.2.1 _ q36) (fun _ h9 => h9) rfl hd kk
theorem lA_covered {i : Int32} {v : Int32} (C : CX p s m c args cc nL RX0 A D (tA b)) (P : PA D A a b S V s.heap H locs) (hin : vp_in i 49) (hv : S 9 (ix i) = v) (hd : decode cc pc = .ok (.iaload, 1)) (kk : W p l e R s m args below meth c H locs cells slots Q (F0 m (pc + 1) ls (.int v :: rest))) : W p l e R s m args below meth c H locs cells slots Q (F0 m pc ls (.int i :: .ref (a 9) :: rest)) := by
  subst hv
  exact va_iald C.1 C.2.1 C.2.2.2.2.2.1 P.1 8 7 rfl rfl hin hd kk
theorem sA_covered {i x : Int32} (C : CX p s m c args cc nL RX0 A D (tA b)) (P : PA D A a b S V s.heap H locs) (hin : vp_in i 49) (hd : decode cc pc = .ok (.iastore, 1)) (kk : ∀ (H1 : Heap) (locs1 : List Loc), PA D A a b (up2 S 9 (ix i) x) V s.heap H1 locs1 → W p l e R s m args below meth c H1 locs1 cells slots Q (F0 m (pc + 1) ls rest)) : W p l e R s m args below meth c H locs cells slots Q (F0 m pc ls (.int x :: .int i :: .ref (a 9) :: rest)) :=
  va_iast C.1 C.2.1 C.2.2.2.2.2.1 P.1 P.2.1 P.2.2 8 7 rfl rfl hin hd (fun H1 locs1 h1 h2 h3 => kk H1 locs1 ⟨h1, h2, h3⟩)
theorem gA_changes {v : Int32} (C : CX p s m c args cc nL RX0 A D (tA b)) (P : PA D A a b S V s.heap H locs) (hv : S 0 10 = v) (hd : decode cc pc = .ok (.getfield 74, 3)) (kk : W p l e R s m args below meth c H locs cells slots Q (F0 m (pc + 3) ls (.int v :: rest))) : W p l e R s m args below meth c H locs cells slots Q (F0 m pc ls (.ref (a 0) :: rest)) := by
  subst hv
  exact
  va_get (D := D) (ci := 0) (v := .int (S 0 10)) (C := RX0) (T := TX0) (N := 15) C.1 C.2.1 C.2.2.2.1 in_X0 C.2.2.1 C.2.2.2.2.2.1 P.1 0 rfl rfl 10 (by decide) (C.2.2.2.1 _ q37) (fun _ h9 => h9) rfl hd kk
theorem pA_changes {x : Int32} (C : CX p s m c args cc nL RX0 A D (tA b)) (P : PA D A a b S V s.heap H locs) (hd : decode cc pc = .ok (.putfield 74, 3)) (kk : ∀ (H1 : Heap) (locs1 : List Loc), PA D A a b (up2 S 0 10 x) V s.heap H1 locs1 → W p l e R s m args below meth c H1 locs1 cells slots Q (F0 m (pc + 3) ls rest)) : W p l e R s m args below meth c H locs cells slots Q (F0 m pc ls (.int x :: .ref (a 0) :: rest)) :=
  va_put (D := D) (ci := 0) (v := .int x) (ty := .int) (C := RX0) (T := TX0) (N := 15) C.1 C.2.1 C.2.2.2.1 in_X0 tyX0 tyX0_ok nmX0 C.2.2.1 C.2.2.2.2.2.1 P.1 P.2.1 P.2.2 0 rfl rfl 10 (by decide) (C.2.2.2.1 _ q37) (fun _ h9 => h9) rfl (by decide +kernel) rfl rfl (Nat.le_of_ble_eq_true rfl) hd (fun H1 locs1 h1 h2 h3 => kk H1 locs1 ⟨h1, h2, h3⟩)
theorem gA_on (C : CX p s m c args cc nL RX0 A D (tA b)) (P : PA D A a b S V s.heap H locs) (hd : decode cc pc = .ok (.getfield 34, 3)) (kk : W p l e R s m args below meth c H locs cells slots Q (F0 m (pc + 3) ls (.ref (a 11) :: rest))) : W p l e R s m args below meth c H locs cells slots Q (F0 m pc ls (.ref (a 0) :: rest)) :=
  va_get (D := D) (ci := 0) (v := .ref (a 11)) (C := RX0) (T := TX0) (N := 15) C.1 C.2.1 C.2.2.2.1 in_X0 C.2.2.1 C.2.2.2.2.2.1 P.1 0 rfl rfl 11 (by decide) (C.2.2.2.1 _ q38) (fun _ h9 => h9) rfl hd kk
theorem lA_on {i : Int32} {v : Int32} (C : CX p s m c args cc nL RX0 A D (tA b)) (P : PA D A a b S V s.heap H locs) (hin : vp_in i 32) (hv : S 11 (ix i) = v) (hd : decode cc pc = .ok (.baload, 1)) (kk : W p l e R s m args below meth c H locs cells slots Q (F0 m (pc + 1) ls (.int v :: rest))) : W p l e R s m args below meth c H locs cells slots Q (F0 m pc ls (.int i :: .ref (a 11) :: rest)) := by
  subst hv
  exact va_zald C.1 C.2.1 C.2.2.2.2.2.1 P.1 9 8 rfl rfl hin hd kk
theorem sA_on {i x : Int32} (C : CX p s m c args cc nL RX0 A D (tA b)) (P : PA D A a b S V s.heap H locs) (hin : vp_in i 32) (hz : vp_nar .boolean x = x) (hd : decode cc pc = .ok (.bastore, 1)) (kk : ∀ (H1 : Heap) (locs1 : List Loc), PA D A a b (up2 S 11 (ix i) x) V s.heap H1 locs1 → W p l e R s m args below meth c H1 locs1 cells slots Q (F0 m (pc + 1) ls rest)) : W p l e R s m args below meth c H locs cells slots Q (F0 m pc ls (.int x :: .int i :: .ref (a 11) :: rest)) := by
  refine va_zast C.1 C.2.1 C.2.2.2.2.2.1 P.1 P.2.1 P.2.2 9 8 rfl rfl hin hd (fun H1 locs1 h1 h2 h3 => ?_)
  rw [hz] at h1 h2
  exact kk H1 locs1 ⟨h1, h2, h3⟩
theorem gA_typed (C : CX p s m c args cc nL RX0 A D (tA b)) (P : PA D A a b S V s.heap H locs) (hd : decode cc pc = .ok (.getfield 38, 3)) (kk : W p l e R s m args below meth c H locs cells slots Q (F0 m (pc + 3) ls (.ref (a 12) :: rest))) : W p l e R s m args below meth c H locs cells slots Q (F0 m pc ls (.ref (a 0) :: rest)) :=
  va_get (D := D) (ci := 0) (v := .ref (a 12)) (C := RX0) (T := TX0) (N := 15) C.1 C.2.1 C.2.2.2.1 in_X0 C.2.2.1 C.2.2.2.2.2.1 P.1 0 rfl rfl 12 (by decide) (C.2.2.2.1 _ q39) (fun _ h9 => h9) rfl hd kk
theorem lA_typed {i : Int32} {v : Int32} (C : CX p s m c args cc nL RX0 A D (tA b)) (P : PA D A a b S V s.heap H locs) (hin : vp_in i 32) (hv : S 12 (ix i) = v) (hd : decode cc pc = .ok (.iaload, 1)) (kk : W p l e R s m args below meth c H locs cells slots Q (F0 m (pc + 1) ls (.int v :: rest))) : W p l e R s m args below meth c H locs cells slots Q (F0 m pc ls (.int i :: .ref (a 12) :: rest)) := by
  subst hv
  exact va_iald C.1 C.2.1 C.2.2.2.2.2.1 P.1 10 9 rfl rfl hin hd kk
theorem sA_typed {i x : Int32} (C : CX p s m c args cc nL RX0 A D (tA b)) (P : PA D A a b S V s.heap H locs) (hin : vp_in i 32) (hd : decode cc pc = .ok (.iastore, 1)) (kk : ∀ (H1 : Heap) (locs1 : List Loc), PA D A a b (up2 S 12 (ix i) x) V s.heap H1 locs1 → W p l e R s m args below meth c H1 locs1 cells slots Q (F0 m (pc + 1) ls rest)) : W p l e R s m args below meth c H locs cells slots Q (F0 m pc ls (.int x :: .int i :: .ref (a 12) :: rest)) :=
  va_iast C.1 C.2.1 C.2.2.2.2.2.1 P.1 P.2.1 P.2.2 10 9 rfl rfl hin hd (fun H1 locs1 h1 h2 h3 => kk H1 locs1 ⟨h1, h2, h3⟩)
theorem gA_cover (C : CX p s m c args cc nL RX0 A D (tA b)) (P : PA D A a b S V s.heap H locs) (hd : decode cc pc = .ok (.getfield 41, 3)) (kk : W p l e R s m args below meth c H locs cells slots Q (F0 m (pc + 3) ls (.ref (a 13) :: rest))) : W p l e R s m args below meth c H locs cells slots Q (F0 m pc ls (.ref (a 0) :: rest)) :=
  va_get (D := D) (ci := 0) (v := .ref (a 13)) (C := RX0) (T := TX0) (N := 15) C.1 C.2.1 C.2.2.2.1 in_X0 C.2.2.1 C.2.2.2.2.2.1 P.1 0 rfl rfl 13 (by decide) (C.2.2.2.1 _ q40) (fun _ h9 => h9) rfl hd kk
theorem lA_cover {i : Int32} {v : Int64} (C : CX p s m c args cc nL RX0 A D (tA b)) (P : PA D A a b S V s.heap H locs) (hin : vp_in i 32) (hv : V (ix i) = v) (hd : decode cc pc = .ok (.laload, 1)) (kk : W p l e R s m args below meth c H locs cells slots Q (F0 m (pc + 1) ls (.long v :: rest))) : W p l e R s m args below meth c H locs cells slots Q (F0 m pc ls (.int i :: .ref (a 13) :: rest)) := by
  subst hv
  exact va_lald C.1 C.2.1 C.2.2.2.2.2.1 P.1 11 10 rfl rfl hin hd kk
theorem sA_cover {i : Int32} {x : Int64} (C : CX p s m c args cc nL RX0 A D (tA b)) (P : PA D A a b S V s.heap H locs) (hin : vp_in i 32) (hd : decode cc pc = .ok (.lastore, 1)) (kk : ∀ (H1 : Heap) (locs1 : List Loc), PA D A a b S (vp_updL V (ix i) x) s.heap H1 locs1 → W p l e R s m args below meth c H1 locs1 cells slots Q (F0 m (pc + 1) ls rest)) : W p l e R s m args below meth c H locs cells slots Q (F0 m pc ls (.long x :: .int i :: .ref (a 13) :: rest)) :=
  va_last C.1 C.2.1 C.2.2.2.2.2.1 P.1 P.2.1 P.2.2 11 10 rfl rfl hin hd (fun H1 locs1 h1 h2 h3 => kk H1 locs1 ⟨h1, h2, h3⟩)
theorem gA_seed {v : Int32} (C : CX p s m c args cc nL RX0 A D (tA b)) (P : PA D A a b S V s.heap H locs) (hv : S 0 14 = v) (hd : decode cc pc = .ok (.getfield 45, 3)) (kk : W p l e R s m args below meth c H locs cells slots Q (F0 m (pc + 3) ls (.int v :: rest))) : W p l e R s m args below meth c H locs cells slots Q (F0 m pc ls (.ref (a 0) :: rest)) := by
  subst hv
  exact
  va_get (D := D) (ci := 0) (v := .int (S 0 14)) (C := RX0) (T := TX0) (N := 15) C.1 C.2.1 C.2.2.2.1 in_X0 C.2.2.1 C.2.2.2.2.2.1 P.1 0 rfl rfl 14 (by decide) (C.2.2.2.1 _ q41) (fun _ h9 => h9) rfl hd kk
theorem pA_seed {x : Int32} (C : CX p s m c args cc nL RX0 A D (tA b)) (P : PA D A a b S V s.heap H locs) (hd : decode cc pc = .ok (.putfield 45, 3)) (kk : ∀ (H1 : Heap) (locs1 : List Loc), PA D A a b (up2 S 0 14 x) V s.heap H1 locs1 → W p l e R s m args below meth c H1 locs1 cells slots Q (F0 m (pc + 3) ls rest)) : W p l e R s m args below meth c H locs cells slots Q (F0 m pc ls (.int x :: .ref (a 0) :: rest)) :=
  va_put (D := D) (ci := 0) (v := .int x) (ty := .int) (C := RX0) (T := TX0) (N := 15) C.1 C.2.1 C.2.2.2.1 in_X0 tyX0 tyX0_ok nmX0 C.2.2.1 C.2.2.2.2.2.1 P.1 P.2.1 P.2.2 0 rfl rfl 14 (by decide) (C.2.2.2.1 _ q41) (fun _ h9 => h9) rfl (by decide +kernel) rfl rfl (Nat.le_of_ble_eq_true rfl) hd (fun H1 locs1 h1 h2 h3 => kk H1 locs1 ⟨h1, h2, h3⟩)
theorem rA_i {v : Int32} {o : Int32 × SS × LL} (C : CX p s m c args cc nL RX0 A D (tA b)) (hr : meth.sig.returnType = some .int) (hlocks : meth.locks = false) (P : PA D A a b S V s.heap H locs) (ho : (v, S, V) = o) (hd : decode cc pc = .ok (.ireturn, 1)) : W p l e R s m args below meth c H locs 0 0 (QAi D a b A o below args s) (F0 m pc ls [.int v]) := by
  subst ho
  exact W.iret C.1 C.2.1 hr (fun t ht hW => ⟨⟨v, (), rfl, rfl, by rw [ht]; exact P.1, va_K.moved hW.alike C.2.2.2.2.2.1, P.2.1⟩, P.2.2.F ht⟩) P.2.2.2.2 hd
theorem rA_z {v : Int32} {o : Int32 × SS × LL} (C : CX p s m c args cc nL RX0 A D (tA b)) (hr : meth.sig.returnType = some .boolean) (hlocks : meth.locks = false) (P : PA D A a b S V s.heap H locs) (hz : narrow .boolean (.int v) = .int v) (ho : (v, S, V) = o) (hd : decode cc pc = .ok (.ireturn, 1)) : W p l e R s m args below meth c H locs 0 0 (QAi D a b A o below args s) (F0 m pc ls [.int v]) := by
  subst ho
  exact W.zret C.1 C.2.1 hr hz (fun t ht hW => ⟨⟨v, (), rfl, rfl, by rw [ht]; exact P.1, va_K.moved hW.alike C.2.2.2.2.2.1, P.2.1⟩, P.2.2.F ht⟩) P.2.2.2.2 hd
theorem rA_v {o : SS × LL} (C : CX p s m c args cc nL RX0 A D (tA b)) (hr : meth.sig.returnType = none) (hlocks : meth.locks = false) (P : PA D A a b S V s.heap H locs) (ho : (S, V) = o) (hd : decode cc pc = .ok (.return_, 1)) : W p l e R s m args below meth c H locs 0 0 (QAv D a b A o below args s) (F0 m pc ls []) := by
  subst ho
  exact W.vret C.1 C.2.1 hr (fun t ht hW => ⟨⟨(), rfl, trivial, by rw [ht]; exact P.1, va_K.moved hW.alike C.2.2.2.2.2.1, P.2.1⟩, P.2.2.F ht⟩) P.2.2.2.2 hd
theorem MAi.of {y : MethodName} {ret : FieldType} {rm : Room} {As : List Value} {o : Int32 × SS × LL} (hy : plainName y.cls = true) (hC : y.cls = RX0) (hn : (lg_sl (.ref (a 0) :: As)).length ≤ nL)
    (body : ∀ (p : Program) (e : Env) (s : State) (m : MethodId) (below : List Frame) (meth : Method) (c : Code) (A : Nat → Prop) (ls : Array Slot), CX p s m c ((.ref (a 0) :: As : List Value).toArray) cc nL RX0 A D (tA b) → meth.sig.returnType = (some ret) → meth.locks = false → PA D A a b S V s.heap s.heap [] → lv_has ls nL (lv_args 0 (.ref (a 0) :: As)) →
      W p l e rm s m ((.ref (a 0) :: As : List Value).toArray) below meth c s.heap [] 0 0 (QAi D a b A o below ((.ref (a 0) :: As : List Value).toArray) s) (F0 m 0 ls [])) : MAi l D a b y cc nL ret rm As S V o := by
  intro sz
  refine Met.ofW (cc := cc) (maxL := nL) (ret := (some ret)) hy rfl ?_
  intro p e s m args below meth c s₁ B hml hv
  obtain ⟨rfl, hsz, hP, hK, hD0⟩ := hv
  have hts := atoms_spec (ws := ws_ y cc nL (some ret)) B.pre
  have hts : ∀ w ∈ lw_all, w.before _ s = true := fun w h => hts w (List.mem_cons_of_mem _ h)
  have hown : s.vm.findClass y.cls = some m.cls := findClass_of_methodNamed B.named
  rw [hC] at hown
  subst hsz
  have hl := lv_entry (.ref (a 0) :: As) (n := nL) hn
  rw [lg_entry_eq]
  exact body p e s m below meth c _ _ ⟨B.exec, B.bytes, hown, hts, hml, hK, fun q h => Or.inr h⟩ B.returns B.notSynchronized ⟨hP, hD0.self, va_S.rf⟩ hl
theorem MAv.of {y : MethodName} {rm : Room} {As : List Value} {o : SS × LL} (hy : plainName y.cls = true) (hC : y.cls = RX0) (hn : (lg_sl (.ref (a 0) :: As)).length ≤ nL)
    (body : ∀ (p : Program) (e : Env) (s : State) (m : MethodId) (below : List Frame) (meth : Method) (c : Code) (A : Nat → Prop) (ls : Array Slot), CX p s m c ((.ref (a 0) :: As : List Value).toArray) cc nL RX0 A D (tA b) → meth.sig.returnType = none → meth.locks = false → PA D A a b S V s.heap s.heap [] → lv_has ls nL (lv_args 0 (.ref (a 0) :: As)) →
      W p l e rm s m ((.ref (a 0) :: As : List Value).toArray) below meth c s.heap [] 0 0 (QAv D a b A o below ((.ref (a 0) :: As : List Value).toArray) s) (F0 m 0 ls [])) : MAv l D a b y cc nL rm As S V o := by
  intro sz
  refine Met.ofW (cc := cc) (maxL := nL) (ret := none) hy rfl ?_
  intro p e s m args below meth c s₁ B hml hv
  obtain ⟨rfl, hsz, hP, hK, hD0⟩ := hv
  have hts := atoms_spec (ws := ws_ y cc nL none) B.pre
  have hts : ∀ w ∈ lw_all, w.before _ s = true := fun w h => hts w (List.mem_cons_of_mem _ h)
  have hown : s.vm.findClass y.cls = some m.cls := findClass_of_methodNamed B.named
  rw [hC] at hown
  subst hsz
  have hl := lv_entry (.ref (a 0) :: As) (n := nL) hn
  rw [lg_entry_eq]
  exact body p e s m below meth c _ _ ⟨B.exec, B.bytes, hown, hts, hml, hK, fun q h => Or.inr h⟩ B.returns B.notSynchronized ⟨hP, hD0.self, va_S.rf⟩ hl
theorem cA_i {y : MethodName} {cy : ByteArray} {nY idx : Nat} {ret : FieldType} {r : Int32} {rm : Room} {As : List Value} (C : CX p s m c args cc nL RX0 A D (tA b)) (P : PA D A a b S V s.heap H locs) (n : Nat) (hM : MAi l D a b y cy nY ret rm As S V (r, S1, V1)) (hw : GoodIn lw_all (wsV RX0 idx RX0 y (ws_ y cy nY (some ret)))) (hrc : rm.cells = 0) (hrs : rm.slots = 0)
    (hd : y.cls = RX0 ∧ y.cls ≠ "java/lang/invoke/MethodHandle" ∧ y.cls ≠ "java/lang/invoke/VarHandle" ∧ (parseMethodDescriptor y.desc).map (fun d => d.parameters.length) = some n) (hR : rm.frames + 1 ≤ R.frames ∧ 8 + (nY + 11) + rm.locals ≤ R.locals) (hn : As.length = n) (hls : ls.size = nL) (hst : st = As.reverse ++ .ref (a 0) :: rest) (hro : (rest.map fun v => v.category).sum ≤ 8) (hdg : decode cc pc = .ok (.invokevirtual idx, 3))
    (kk : ∀ (H1 : Heap) (locs1 : List Loc), PA D A a b S1 V1 s.heap H1 locs1 → W p l e R s m args below meth c H1 locs1 0 0 Q (F0 m (pc + 3) ls (.int r :: rest))) : W p l e R s m args below meth c H locs 0 0 Q (F0 m pc ls st) := by
  subst hst
  have hF : ∀ q : Nat, va_A (wA a b S V) H.size q → A q := by
    intro q h
    rcases h with ⟨k, e1, h⟩ | h
    · exact P.2.1.2 k _ h
    · exact C.2.2.2.2.2.2 q (Nat.le_trans P.2.2.1 h)
  refine va_calli (va_runV (As := As) (rest := rest) ⟨C.1, C.2.1, C.2.2.2.2.1, C.2.2.1, C.2.2.2.1⟩ (hM H.size) (cwV n C.2.2.2.1 hw rfl hrc hrs hd hR) ⟨fun a' U g mk q => ?_, ?_, fun U hU hW => ?_⟩ rfl hn hls rfl (lv_room hro) hdg ⟨Nat.zero_le _, Nat.zero_le _⟩) P.2.2 (fun q _ h => hF q h) hF (fun r9 u t H1 locs1 ht hvm hw hB hz hk hS => ?_)
  · obtain ⟨q0, q1, qP, qK, qD⟩ := q
    exact ⟨q0, q1, qP, va_K.moved (u := U) (U := U.calling g mk a') (Vm.Alike.refl U.vm) qK, qD⟩
  · exact va_recv C.2.2.2.2.2.1 P.1 (ci := 0) (q0 := 0) (q := (RX0, TX0, 15)) rfl rfl
  · exact ⟨rfl, by rw [hU], by rw [hU]; exact P.1, va_K.moved hW.alike C.2.2.2.2.2.1, P.2.1.weaken (fun _ _ _ _ => trivial)⟩
  · obtain ⟨hP1, hK1, hD1⟩ := hB
    rw [ht] at hP1
    have hw : r9 = r := hw
    subst hw
    exact kk H1 locs1 ⟨hP1, hD1.weaken (fun _ q _ h => hF q.1 h), hS⟩
theorem cA_v {y : MethodName} {cy : ByteArray} {nY idx : Nat} {rm : Room} {As : List Value} (C : CX p s m c args cc nL RX0 A D (tA b)) (P : PA D A a b S V s.heap H locs) (n : Nat) (hM : MAv l D a b y cy nY rm As S V (S1, V1)) (hw : GoodIn lw_all (wsV RX0 idx RX0 y (ws_ y cy nY none))) (hrc : rm.cells = 0) (hrs : rm.slots = 0)
    (hd : y.cls = RX0 ∧ y.cls ≠ "java/lang/invoke/MethodHandle" ∧ y.cls ≠ "java/lang/invoke/VarHandle" ∧ (parseMethodDescriptor y.desc).map (fun d => d.parameters.length) = some n) (hR : rm.frames + 1 ≤ R.frames ∧ 8 + (nY + 11) + rm.locals ≤ R.locals) (hn : As.length = n) (hls : ls.size = nL) (hst : st = As.reverse ++ .ref (a 0) :: rest) (hro : (rest.map fun v => v.category).sum ≤ 8) (hdg : decode cc pc = .ok (.invokevirtual idx, 3))
    (kk : ∀ (H1 : Heap) (locs1 : List Loc), PA D A a b S1 V1 s.heap H1 locs1 → W p l e R s m args below meth c H1 locs1 0 0 Q (F0 m (pc + 3) ls (rest))) : W p l e R s m args below meth c H locs 0 0 Q (F0 m pc ls st) := by
  subst hst
  have hF : ∀ q : Nat, va_A (wA a b S V) H.size q → A q := by
    intro q h
    rcases h with ⟨k, e1, h⟩ | h
    · exact P.2.1.2 k _ h
    · exact C.2.2.2.2.2.2 q (Nat.le_trans P.2.2.1 h)
  refine va_callv (va_runV (As := As) (rest := rest) ⟨C.1, C.2.1, C.2.2.2.2.1, C.2.2.1, C.2.2.2.1⟩ (hM H.size) (cwV n C.2.2.2.1 hw rfl hrc hrs hd hR) ⟨fun a' U g mk q => ?_, ?_, fun U hU hW => ?_⟩ rfl hn hls rfl (lv_room hro) hdg ⟨Nat.zero_le _, Nat.zero_le _⟩) P.2.2 (fun q _ h => hF q h) hF (fun u t H1 locs1 ht hvm hw hB hz hk hS => ?_)
  · obtain ⟨q0, q1, qP, qK, qD⟩ := q
    exact ⟨q0, q1, qP, va_K.moved (u := U) (U := U.calling g mk a') (Vm.Alike.refl U.vm) qK, qD⟩
  · exact va_recv C.2.2.2.2.2.1 P.1 (ci := 0) (q0 := 0) (q := (RX0, TX0, 15)) rfl rfl
  · exact ⟨rfl, by rw [hU], by rw [hU]; exact P.1, va_K.moved hW.alike C.2.2.2.2.2.1, P.2.1.weaken (fun _ _ _ _ => trivial)⟩
  · obtain ⟨hP1, hK1, hD1⟩ := hB
    rw [ht] at hP1
    exact kk H1 locs1 ⟨hP1, hD1.weaken (fun _ q _ h => hF q.1 h), hS⟩
theorem gB_list (C : CX p s m c args cc nL RX1 A D (tB b)) (P : PB D A a b S V s.heap H locs) (hd : decode cc pc = .ok (.getfield 7, 3)) (kk : W p l e R s m args below meth c H locs cells slots Q (F0 m (pc + 3) ls (.ref (a 1) :: rest))) : W p l e R s m args below meth c H locs cells slots Q (F0 m pc ls (.ref (a 0) :: rest)) :=
  va_get (D := D) (ci := 1) (v := .ref (a 1)) (C := RX1) (T := TX1) (N := 7) C.1 C.2.1 C.2.2.2.1 in_X1 C.2.2.1 C.2.2.2.2.2.1 P.1 0 rfl rfl 0 (by decide) (C.2.2.2.1 _ q195) (fun _ h9 => h9) rfl hd kk
theorem lB_list {i : Int32} {v : Int32} (C : CX p s m c args cc nL RX1 A D (tB b)) (P : PB D A a b S V s.heap H locs) (hin : vp_in i 32) (hv : S 1 (ix i) = v) (hd : decode cc pc = .ok (.iaload, 1)) (kk : W p l e R s m args below meth c H locs cells slots Q (F0 m (pc + 1) ls (.int v :: rest))) : W p l e R s m args below meth c H locs cells slots Q (F0 m pc ls (.int i :: .ref (a 1) :: rest)) := by
  subst hv
  exact va_iald C.1 C.2.1 C.2.2.2.2.2.1 P.1 1 0 rfl rfl hin hd kk
theorem sB_list {i x : Int32} (C : CX p s m c args cc nL RX1 A D (tB b)) (P : PB D A a b S V s.heap H locs) (hin : vp_in i 32) (hd : decode cc pc = .ok (.iastore, 1)) (kk : ∀ (H1 : Heap) (locs1 : List Loc), PB D A a b (up2 S 1 (ix i) x) V s.heap H1 locs1 → W p l e R s m args below meth c H1 locs1 cells slots Q (F0 m (pc + 1) ls rest)) : W p l e R s m args below meth c H locs cells slots Q (F0 m pc ls (.int x :: .int i :: .ref (a 1) :: rest)) :=
  va_iast C.1 C.2.1 C.2.2.2.2.2.1 P.1 P.2.1 P.2.2 1 0 rfl rfl hin hd (fun H1 locs1 h1 h2 h3 => kk H1 locs1 ⟨h1, h2, h3⟩)
theorem gB_listed {v : Int32} (C : CX p s m c args cc nL RX1 A D (tB b)) (P : PB D A a b S V s.heap H locs) (hv : S 0 1 = v) (hd : decode cc pc = .ok (.getfield 34, 3)) (kk : W p l e R s m args below meth c H locs cells slots Q (F0 m (pc + 3) ls (.int v :: rest))) : W p l e R s m args below meth c H locs cells slots Q (F0 m pc ls (.ref (a 0) :: rest)) := by
  subst hv
  exact
  va_get (D := D) (ci := 1) (v := .int (S 0 1)) (C := RX1) (T := TX1) (N := 7) C.1 C.2.1 C.2.2.2.1 in_X1 C.2.2.1 C.2.2.2.2.2.1 P.1 0 rfl rfl 1 (by decide) (C.2.2.2.1 _ q196) (fun _ h9 => h9) rfl hd kk
theorem pB_listed {x : Int32} (C : CX p s m c args cc nL RX1 A D (tB b)) (P : PB D A a b S V s.heap H locs) (hd : decode cc pc = .ok (.putfield 34, 3)) (kk : ∀ (H1 : Heap) (locs1 : List Loc), PB D A a b (up2 S 0 1 x) V s.heap H1 locs1 → W p l e R s m args below meth c H1 locs1 cells slots Q (F0 m (pc + 3) ls rest)) : W p l e R s m args below meth c H locs cells slots Q (F0 m pc ls (.int x :: .ref (a 0) :: rest)) :=
  va_put (D := D) (ci := 1) (v := .int x) (ty := .int) (C := RX1) (T := TX1) (N := 7) C.1 C.2.1 C.2.2.2.1 in_X1 tyX1 tyX1_ok nmX1 C.2.2.1 C.2.2.2.2.2.1 P.1 P.2.1 P.2.2 0 rfl rfl 1 (by decide) (C.2.2.2.1 _ q196) (fun _ h9 => h9) rfl (by decide +kernel) rfl rfl (Nat.le_of_ble_eq_true rfl) hd (fun H1 locs1 h1 h2 h3 => kk H1 locs1 ⟨h1, h2, h3⟩)
theorem gB_types (C : CX p s m c args cc nL RX1 A D (tB b)) (P : PB D A a b S V s.heap H locs) (hd : decode cc pc = .ok (.getfield 13, 3)) (kk : W p l e R s m args below meth c H locs cells slots Q (F0 m (pc + 3) ls (.ref (a 2) :: rest))) : W p l e R s m args below meth c H locs cells slots Q (F0 m pc ls (.ref (a 0) :: rest)) :=
  va_get (D := D) (ci := 1) (v := .ref (a 2)) (C := RX1) (T := TX1) (N := 7) C.1 C.2.1 C.2.2.2.1 in_X1 C.2.2.1 C.2.2.2.2.2.1 P.1 0 rfl rfl 2 (by decide) (C.2.2.2.1 _ q197) (fun _ h9 => h9) rfl hd kk
theorem lB_types {i : Int32} {v : Int32} (C : CX p s m c args cc nL RX1 A D (tB b)) (P : PB D A a b S V s.heap H locs) (hin : vp_in i 32) (hv : S 2 (ix i) = v) (hd : decode cc pc = .ok (.baload, 1)) (kk : W p l e R s m args below meth c H locs cells slots Q (F0 m (pc + 1) ls (.int v :: rest))) : W p l e R s m args below meth c H locs cells slots Q (F0 m pc ls (.int i :: .ref (a 2) :: rest)) := by
  subst hv
  exact va_zald C.1 C.2.1 C.2.2.2.2.2.1 P.1 2 1 rfl rfl hin hd kk
theorem sB_types {i x : Int32} (C : CX p s m c args cc nL RX1 A D (tB b)) (P : PB D A a b S V s.heap H locs) (hin : vp_in i 32) (hz : vp_nar .boolean x = x) (hd : decode cc pc = .ok (.bastore, 1)) (kk : ∀ (H1 : Heap) (locs1 : List Loc), PB D A a b (up2 S 2 (ix i) x) V s.heap H1 locs1 → W p l e R s m args below meth c H1 locs1 cells slots Q (F0 m (pc + 1) ls rest)) : W p l e R s m args below meth c H locs cells slots Q (F0 m pc ls (.int x :: .int i :: .ref (a 2) :: rest)) := by
  refine va_zast C.1 C.2.1 C.2.2.2.2.2.1 P.1 P.2.1 P.2.2 2 1 rfl rfl hin hd (fun H1 locs1 h1 h2 h3 => ?_)
  rw [hz] at h1 h2
  exact kk H1 locs1 ⟨h1, h2, h3⟩
theorem gB_letters (C : CX p s m c args cc nL RX1 A D (tB b)) (P : PB D A a b S V s.heap H locs) (hd : decode cc pc = .ok (.getfield 17, 3)) (kk : W p l e R s m args below meth c H locs cells slots Q (F0 m (pc + 3) ls (.ref (a 3) :: rest))) : W p l e R s m args below meth c H locs cells slots Q (F0 m pc ls (.ref (a 0) :: rest)) :=
  va_get (D := D) (ci := 1) (v := .ref (a 3)) (C := RX1) (T := TX1) (N := 7) C.1 C.2.1 C.2.2.2.1 in_X1 C.2.2.1 C.2.2.2.2.2.1 P.1 0 rfl rfl 3 (by decide) (C.2.2.2.1 _ q198) (fun _ h9 => h9) rfl hd kk
theorem lB_letters {i : Int32} {v : Int32} (C : CX p s m c args cc nL RX1 A D (tB b)) (P : PB D A a b S V s.heap H locs) (hin : vp_in i 32) (hv : S 3 (ix i) = v) (hd : decode cc pc = .ok (.iaload, 1)) (kk : W p l e R s m args below meth c H locs cells slots Q (F0 m (pc + 1) ls (.int v :: rest))) : W p l e R s m args below meth c H locs cells slots Q (F0 m pc ls (.int i :: .ref (a 3) :: rest)) := by
  subst hv
  exact va_iald C.1 C.2.1 C.2.2.2.2.2.1 P.1 3 2 rfl rfl hin hd kk
theorem sB_letters {i x : Int32} (C : CX p s m c args cc nL RX1 A D (tB b)) (P : PB D A a b S V s.heap H locs) (hin : vp_in i 32) (hd : decode cc pc = .ok (.iastore, 1)) (kk : ∀ (H1 : Heap) (locs1 : List Loc), PB D A a b (up2 S 3 (ix i) x) V s.heap H1 locs1 → W p l e R s m args below meth c H1 locs1 cells slots Q (F0 m (pc + 1) ls rest)) : W p l e R s m args below meth c H locs cells slots Q (F0 m pc ls (.int x :: .int i :: .ref (a 3) :: rest)) :=
  va_iast C.1 C.2.1 C.2.2.2.2.2.1 P.1 P.2.1 P.2.2 3 2 rfl rfl hin hd (fun H1 locs1 h1 h2 h3 => kk H1 locs1 ⟨h1, h2, h3⟩)
theorem gB_covered (C : CX p s m c args cc nL RX1 A D (tB b)) (P : PB D A a b S V s.heap H locs) (hd : decode cc pc = .ok (.getfield 20, 3)) (kk : W p l e R s m args below meth c H locs cells slots Q (F0 m (pc + 3) ls (.ref (a 4) :: rest))) : W p l e R s m args below meth c H locs cells slots Q (F0 m pc ls (.ref (a 0) :: rest)) :=
  va_get (D := D) (ci := 1) (v := .ref (a 4)) (C := RX1) (T := TX1) (N := 7) C.1 C.2.1 C.2.2.2.1 in_X1 C.2.2.1 C.2.2.2.2.2.1 P.1 0 rfl rfl 4 (by decide) (C.2.2.2.1 _ q199) (fun _ h9 => h9) rfl hd kk
theorem lB_covered {i : Int32} {v : Int32} (C : CX p s m c args cc nL RX1 A D (tB b)) (P : PB D A a b S V s.heap H locs) (hin : vp_in i 32) (hv : S 4 (ix i) = v) (hd : decode cc pc = .ok (.iaload, 1)) (kk : W p l e R s m args below meth c H locs cells slots Q (F0 m (pc + 1) ls (.int v :: rest))) : W p l e R s m args below meth c H locs cells slots Q (F0 m pc ls (.int i :: .ref (a 4) :: rest)) := by
  subst hv
  exact va_iald C.1 C.2.1 C.2.2.2.2.2.1 P.1 4 3 rfl rfl hin hd kk
theorem sB_covered {i x : Int32} (C : CX p s m c args cc nL RX1 A D (tB b)) (P : PB D A a b S V s.heap H locs) (hin : vp_in i 32) (hd : decode cc pc = .ok (.iastore, 1)) (kk : ∀ (H1 : Heap) (locs1 : List Loc), PB D A a b (up2 S 4 (ix i) x) V s.heap H1 locs1 → W p l e R s m args below meth c H1 locs1 cells slots Q (F0 m (pc + 1) ls rest)) : W p l e R s m args below meth c H locs cells slots Q (F0 m pc ls (.int x :: .int i :: .ref (a 4) :: rest)) :=
  va_iast C.1 C.2.1 C.2.2.2.2.2.1 P.1 P.2.1 P.2.2 4 3 rfl rfl hin hd (fun H1 locs1 h1 h2 h3 => kk H1 locs1 ⟨h1, h2, h3⟩)
theorem gB_on (C : CX p s m c args cc nL RX1 A D (tB b)) (P : PB D A a b S V s.heap H locs) (hd : decode cc pc = .ok (.getfield 23, 3)) (kk : W p l e R s m args below meth c H locs cells slots Q (F0 m (pc + 3) ls (.ref (a 5) :: rest))) : W p l e R s m args below meth c H locs cells slots Q (F0 m pc ls (.ref (a 0) :: rest)) :=
  va_get (D := D) (ci := 1) (v := .ref (a 5)) (C := RX1) (T := TX1) (N := 7) C.1 C.2.1 C.2.2.2.1 in_X1 C.2.2.1 C.2.2.2.2.2.1 P.1 0 rfl rfl 5 (by decide) (C.2.2.2.1 _ q200) (fun _ h9 => h9) rfl hd kk
theorem lB_on {i : Int32} {v : Int32} (C : CX p s m c args cc nL RX1 A D (tB b)) (P : PB D A a b S V s.heap H locs) (hin : vp_in i 32) (hv : S 5 (ix i) = v) (hd : decode cc pc = .ok (.baload, 1)) (kk : W p l e R s m args below meth c H locs cells slots Q (F0 m (pc + 1) ls (.int v :: rest))) : W p l e R s m args below meth c H locs cells slots Q (F0 m pc ls (.int i :: .ref (a 5) :: rest)) := by
  subst hv
  exact va_zald C.1 C.2.1 C.2.2.2.2.2.1 P.1 5 4 rfl rfl hin hd kk
theorem sB_on {i x : Int32} (C : CX p s m c args cc nL RX1 A D (tB b)) (P : PB D A a b S V s.heap H locs) (hin : vp_in i 32) (hz : vp_nar .boolean x = x) (hd : decode cc pc = .ok (.bastore, 1)) (kk : ∀ (H1 : Heap) (locs1 : List Loc), PB D A a b (up2 S 5 (ix i) x) V s.heap H1 locs1 → W p l e R s m args below meth c H1 locs1 cells slots Q (F0 m (pc + 1) ls rest)) : W p l e R s m args below meth c H locs cells slots Q (F0 m pc ls (.int x :: .int i :: .ref (a 5) :: rest)) := by
  refine va_zast C.1 C.2.1 C.2.2.2.2.2.1 P.1 P.2.1 P.2.2 5 4 rfl rfl hin hd (fun H1 locs1 h1 h2 h3 => ?_)
  rw [hz] at h1 h2
  exact kk H1 locs1 ⟨h1, h2, h3⟩
theorem gB_count {v : Int32} (C : CX p s m c args cc nL RX1 A D (tB b)) (P : PB D A a b S V s.heap H locs) (hv : S 0 6 = v) (hd : decode cc pc = .ok (.getfield 26, 3)) (kk : W p l e R s m args below meth c H locs cells slots Q (F0 m (pc + 3) ls (.int v :: rest))) : W p l e R s m args below meth c H locs cells slots Q (F0 m pc ls (.ref (a 0) :: rest)) := by
  subst hv
  exact
  va_get (D := D) (ci := 1) (v := .int (S 0 6)) (C := RX1) (T := TX1) (N := 7) C.1 C.2.1 C.2.2.2.1 in_X1 C.2.2.1 C.2.2.2.2.2.1 P.1 0 rfl rfl 6 (by decide) (C.2.2.2.1 _ q201) (fun _ h9 => h9) rfl hd kk
theorem pB_count {x : Int32} (C : CX p s m c args cc nL RX1 A D (tB b)) (P : PB D A a b S V s.heap H locs) (hd : decode cc pc = .ok (.putfield 26, 3)) (kk : ∀ (H1 : Heap) (locs1 : List Loc), PB D A a b (up2 S 0 6 x) V s.heap H1 locs1 → W p l e R s m args below meth c H1 locs1 cells slots Q (F0 m (pc + 3) ls rest)) : W p l e R s m args below meth c H locs cells slots Q (F0 m pc ls (.int x :: .ref (a 0) :: rest)) :=
  va_put (D := D) (ci := 1) (v := .int x) (ty := .int) (C := RX1) (T := TX1) (N := 7) C.1 C.2.1 C.2.2.2.1 in_X1 tyX1 tyX1_ok nmX1 C.2.2.1 C.2.2.2.2.2.1 P.1 P.2.1 P.2.2 0 rfl rfl 6 (by decide) (C.2.2.2.1 _ q201) (fun _ h9 => h9) rfl (by decide +kernel) rfl rfl (Nat.le_of_ble_eq_true rfl) hd (fun H1 locs1 h1 h2 h3 => kk H1 locs1 ⟨h1, h2, h3⟩)
theorem rB_i {v : Int32} {o : Int32 × SS × LL} (C : CX p s m c args cc nL RX1 A D (tB b)) (hr : meth.sig.returnType = some .int) (hlocks : meth.locks = false) (P : PB D A a b S V s.heap H locs) (ho : (v, S, V) = o) (hd : decode cc pc = .ok (.ireturn, 1)) : W p l e R s m args below meth c H locs 0 0 (QBi D a b A o below args s) (F0 m pc ls [.int v]) := by
  subst ho
  exact W.iret C.1 C.2.1 hr (fun t ht hW => ⟨⟨v, (), rfl, rfl, by rw [ht]; exact P.1, va_K.moved hW.alike C.2.2.2.2.2.1, P.2.1⟩, P.2.2.F ht⟩) P.2.2.2.2 hd
theorem rB_z {v : Int32} {o : Int32 × SS × LL} (C : CX p s m c args cc nL RX1 A D (tB b)) (hr : meth.sig.returnType = some .boolean) (hlocks : meth.locks = false) (P : PB D A a b S V s.heap H locs) (hz : narrow .boolean (.int v) = .int v) (ho : (v, S, V) = o) (hd : decode cc pc = .ok (.ireturn, 1)) : W p l e R s m args below meth c H locs 0 0 (QBi D a b A o below args s) (F0 m pc ls [.int v]) := by
  subst ho
  exact W.zret C.1 C.2.1 hr hz (fun t ht hW => ⟨⟨v, (), rfl, rfl, by rw [ht]; exact P.1, va_K.moved hW.alike C.2.2.2.2.2.1, P.2.1⟩, P.2.2.F ht⟩) P.2.2.2.2 hd
theorem rB_v {o : SS × LL} (C : CX p s m c args cc nL RX1 A D (tB b)) (hr : meth.sig.returnType = none) (hlocks : meth.locks = false) (P : PB D A a b S V s.heap H locs) (ho : (S, V) = o) (hd : decode cc pc = .ok (.return_, 1)) : W p l e R s m args below meth c H locs 0 0 (QBv D a b A o below args s) (F0 m pc ls []) := by
  subst ho
  exact W.vret C.1 C.2.1 hr (fun t ht hW => ⟨⟨(), rfl, trivial, by rw [ht]; exact P.1, va_K.moved hW.alike C.2.2.2.2.2.1, P.2.1⟩, P.2.2.F ht⟩) P.2.2.2.2 hd
theorem MBi.of {y : MethodName} {ret : FieldType} {rm : Room} {As : List Value} {o : Int32 × SS × LL} (hy : plainName y.cls = true) (hC : y.cls = RX1) (hn : (lg_sl (.ref (a 0) :: As)).length ≤ nL)
    (body : ∀ (p : Program) (e : Env) (s : State) (m : MethodId) (below : List Frame) (meth : Method) (c : Code) (A : Nat → Prop) (ls : Array Slot), CX p s m c ((.ref (a 0) :: As : List Value).toArray) cc nL RX1 A D (tB b) → meth.sig.returnType = (some ret) → meth.locks = false → PB D A a b S V s.heap s.heap [] → lv_has ls nL (lv_args 0 (.ref (a 0) :: As)) →
      W p l e rm s m ((.ref (a 0) :: As : List Value).toArray) below meth c s.heap [] 0 0 (QBi D a b A o below ((.ref (a 0) :: As : List Value).toArray) s) (F0 m 0 ls [])) : MBi l D a b y cc nL ret rm As S V o := by
  intro sz
  refine Met.ofW (cc := cc) (maxL := nL) (ret := (some ret)) hy rfl ?_
  intro p e s m args below meth c s₁ B hml hv
  obtain ⟨rfl, hsz, hP, hK, hD0⟩ := hv
  have hts := atoms_spec (ws := ws_ y cc nL (some ret)) B.pre
  have hts : ∀ w ∈ lw_all, w.before _ s = true := fun w h => hts w (List.mem_cons_of_mem _ h)
  have hown : s.vm.findClass y.cls = some m.cls := findClass_of_methodNamed B.named
  rw [hC] at hown
  subst hsz
  have hl := lv_entry (.ref (a 0) :: As) (n := nL) hn
  rw [lg_entry_eq]
  exact body p e s m below meth c _ _ ⟨B.exec, B.bytes, hown, hts, hml, hK, fun q h => Or.inr h⟩ B.returns B.notSynchronized ⟨hP, hD0.self, va_S.rf⟩ hl
theorem MBv.of {y : MethodName} {rm : Room} {As : List Value} {o : SS × LL} (hy : plainName y.cls = true) (hC : y.cls = RX1) (hn : (lg_sl (.ref (a 0) :: As)).length ≤ nL)
    (body : ∀ (p : Program) (e : Env) (s : State) (m : MethodId) (below : List Frame) (meth : Method) (c : Code) (A : Nat → Prop) (ls : Array Slot), CX p s m c ((.ref (a 0) :: As : List Value).toArray) cc nL RX1 A D (tB b) → meth.sig.returnType = none → meth.locks = false → PB D A a b S V s.heap s.heap [] → lv_has ls nL (lv_args 0 (.ref (a 0) :: As)) →
      W p l e rm s m ((.ref (a 0) :: As : List Value).toArray) below meth c s.heap [] 0 0 (QBv D a b A o below ((.ref (a 0) :: As : List Value).toArray) s) (F0 m 0 ls [])) : MBv l D a b y cc nL rm As S V o := by
  intro sz
  refine Met.ofW (cc := cc) (maxL := nL) (ret := none) hy rfl ?_
  intro p e s m args below meth c s₁ B hml hv
  obtain ⟨rfl, hsz, hP, hK, hD0⟩ := hv
  have hts := atoms_spec (ws := ws_ y cc nL none) B.pre
  have hts : ∀ w ∈ lw_all, w.before _ s = true := fun w h => hts w (List.mem_cons_of_mem _ h)
  have hown : s.vm.findClass y.cls = some m.cls := findClass_of_methodNamed B.named
  rw [hC] at hown
  subst hsz
  have hl := lv_entry (.ref (a 0) :: As) (n := nL) hn
  rw [lg_entry_eq]
  exact body p e s m below meth c _ _ ⟨B.exec, B.bytes, hown, hts, hml, hK, fun q h => Or.inr h⟩ B.returns B.notSynchronized ⟨hP, hD0.self, va_S.rf⟩ hl
theorem cB_i {y : MethodName} {cy : ByteArray} {nY idx : Nat} {ret : FieldType} {r : Int32} {rm : Room} {As : List Value} (C : CX p s m c args cc nL RX1 A D (tB b)) (P : PB D A a b S V s.heap H locs) (n : Nat) (hM : MBi l D a b y cy nY ret rm As S V (r, S1, V1)) (hw : GoodIn lw_all (wsV RX1 idx RX1 y (ws_ y cy nY (some ret)))) (hrc : rm.cells = 0) (hrs : rm.slots = 0)
    (hd : y.cls = RX1 ∧ y.cls ≠ "java/lang/invoke/MethodHandle" ∧ y.cls ≠ "java/lang/invoke/VarHandle" ∧ (parseMethodDescriptor y.desc).map (fun d => d.parameters.length) = some n) (hR : rm.frames + 1 ≤ R.frames ∧ 8 + (nY + 11) + rm.locals ≤ R.locals) (hn : As.length = n) (hls : ls.size = nL) (hst : st = As.reverse ++ .ref (a 0) :: rest) (hro : (rest.map fun v => v.category).sum ≤ 8) (hdg : decode cc pc = .ok (.invokevirtual idx, 3))
    (kk : ∀ (H1 : Heap) (locs1 : List Loc), PB D A a b S1 V1 s.heap H1 locs1 → W p l e R s m args below meth c H1 locs1 0 0 Q (F0 m (pc + 3) ls (.int r :: rest))) : W p l e R s m args below meth c H locs 0 0 Q (F0 m pc ls st) := by
  subst hst
  have hF : ∀ q : Nat, va_A (wB a b S V) H.size q → A q := by
    intro q h
    rcases h with ⟨k, e1, h⟩ | h
    · exact P.2.1.2 k _ h
    · exact C.2.2.2.2.2.2 q (Nat.le_trans P.2.2.1 h)
  refine va_calli (va_runV (As := As) (rest := rest) ⟨C.1, C.2.1, C.2.2.2.2.1, C.2.2.1, C.2.2.2.1⟩ (hM H.size) (cwV n C.2.2.2.1 hw rfl hrc hrs hd hR) ⟨fun a' U g mk q => ?_, ?_, fun U hU hW => ?_⟩ rfl hn hls rfl (lv_room hro) hdg ⟨Nat.zero_le _, Nat.zero_le _⟩) P.2.2 (fun q _ h => hF q h) hF (fun r9 u t H1 locs1 ht hvm hw hB hz hk hS => ?_)
  · obtain ⟨q0, q1, qP, qK, qD⟩ := q
    exact ⟨q0, q1, qP, va_K.moved (u := U) (U := U.calling g mk a') (Vm.Alike.refl U.vm) qK, qD⟩
  · exact va_recv C.2.2.2.2.2.1 P.1 (ci := 1) (q0 := 0) (q := (RX1, TX1, 7)) rfl rfl
  · exact ⟨rfl, by rw [hU], by rw [hU]; exact P.1, va_K.moved hW.alike C.2.2.2.2.2.1, P.2.1.weaken (fun _ _ _ _ => trivial)⟩
  · obtain ⟨hP1, hK1, hD1⟩ := hB
    rw [ht] at hP1
    have hw : r9 = r := hw
    subst hw
    exact kk H1 locs1 ⟨hP1, hD1.weaken (fun _ q _ h => hF q.1 h), hS⟩
theorem cB_v {y : MethodName} {cy : ByteArray} {nY idx : Nat} {rm : Room} {As : List Value} (C : CX p s m c args cc nL RX1 A D (tB b)) (P : PB D A a b S V s.heap H locs) (n : Nat) (hM : MBv l D a b y cy nY rm As S V (S1, V1)) (hw : GoodIn lw_all (wsV RX1 idx RX1 y (ws_ y cy nY none))) (hrc : rm.cells = 0) (hrs : rm.slots = 0)
    (hd : y.cls = RX1 ∧ y.cls ≠ "java/lang/invoke/MethodHandle" ∧ y.cls ≠ "java/lang/invoke/VarHandle" ∧ (parseMethodDescriptor y.desc).map (fun d => d.parameters.length) = some n) (hR : rm.frames + 1 ≤ R.frames ∧ 8 + (nY + 11) + rm.locals ≤ R.locals) (hn : As.length = n) (hls : ls.size = nL) (hst : st = As.reverse ++ .ref (a 0) :: rest) (hro : (rest.map fun v => v.category).sum ≤ 8) (hdg : decode cc pc = .ok (.invokevirtual idx, 3))
    (kk : ∀ (H1 : Heap) (locs1 : List Loc), PB D A a b S1 V1 s.heap H1 locs1 → W p l e R s m args below meth c H1 locs1 0 0 Q (F0 m (pc + 3) ls (rest))) : W p l e R s m args below meth c H locs 0 0 Q (F0 m pc ls st) := by
  subst hst
  have hF : ∀ q : Nat, va_A (wB a b S V) H.size q → A q := by
    intro q h
    rcases h with ⟨k, e1, h⟩ | h
    · exact P.2.1.2 k _ h
    · exact C.2.2.2.2.2.2 q (Nat.le_trans P.2.2.1 h)
  refine va_callv (va_runV (As := As) (rest := rest) ⟨C.1, C.2.1, C.2.2.2.2.1, C.2.2.1, C.2.2.2.1⟩ (hM H.size) (cwV n C.2.2.2.1 hw rfl hrc hrs hd hR) ⟨fun a' U g mk q => ?_, ?_, fun U hU hW => ?_⟩ rfl hn hls rfl (lv_room hro) hdg ⟨Nat.zero_le _, Nat.zero_le _⟩) P.2.2 (fun q _ h => hF q h) hF (fun u t H1 locs1 ht hvm hw hB hz hk hS => ?_)
  · obtain ⟨q0, q1, qP, qK, qD⟩ := q
    exact ⟨q0, q1, qP, va_K.moved (u := U) (U := U.calling g mk a') (Vm.Alike.refl U.vm) qK, qD⟩
  · exact va_recv C.2.2.2.2.2.1 P.1 (ci := 1) (q0 := 0) (q := (RX1, TX1, 7)) rfl rfl
  · exact ⟨rfl, by rw [hU], by rw [hU]; exact P.1, va_K.moved hW.alike C.2.2.2.2.2.1, P.2.1.weaken (fun _ _ _ _ => trivial)⟩
  · obtain ⟨hP1, hK1, hD1⟩ := hB
    rw [ht] at hP1
    exact kk H1 locs1 ⟨hP1, hD1.weaken (fun _ q _ h => hF q.1 h), hS⟩
end ROWS
end
section
/-! the methods of the class (state S, V) and of the reference (state M) as plain functions -/
def b01 (v : Int32) : Int32 := if v = 0 then 0 else 1
abbrev bitL (w : Int64) (i : Int32) : Prop := lg_cmp ((w.toUInt64 >>> (i.toInt64.toUInt64 &&& Int64.toUInt64 63)).toInt64 &&& 1) 1 = 0
def shI (S : SS) (x : Int32) : Int32 := if x = 0 then 0 else if S 11 (ix (S 8 (ix x))) = 0 then 0 else if S 9 (ix x) = 0 then 1 else 0
def plS (S : SS) (x : Int32) : SS := up2 S 6 (ix x) (S 6 (ix (S 2 (ix x))) + b01 (shI S x) + S 6 (ix (S 3 (ix x))))
def puS : Nat → SS → Int32 → SS
  | 0, S, _ => S
  | n + 1, S, x => if x = 0 then S else puS n (plS S x) (S 4 (ix x))
def rbS (S : SS) (g old x : Int32) : SS := if g = 0 then up2 S 0 1 x else if S 2 (ix g) = old then up2 S 2 (ix g) x else up2 S 3 (ix g) x
def lfA (S : SS) (x p : Int32) : SS :=
  if S 2 (ix p) = x then
    (if S 3 (ix x) = 0 then up2 (up2 S 2 (ix p) (S 3 (ix x))) 3 (ix x) p else up2 (up2 (up2 S 2 (ix p) (S 3 (ix x))) 4 (ix (S 3 (ix x))) p) 3 (ix x) p)
  else
    (if S 2 (ix x) = 0 then up2 (up2 S 3 (ix p) (S 2 (ix x))) 2 (ix x) p else up2 (up2 (up2 S 3 (ix p) (S 2 (ix x))) 4 (ix (S 2 (ix x))) p) 2 (ix x) p)
def lfB (S : SS) (x p g : Int32) : SS := rbS (up2 (up2 (lfA S x p) 4 (ix p) x) 4 (ix x) g) g p x
def lfS (S : SS) (x : Int32) : SS := plS (plS (lfB S x (S 4 (ix x)) (S 4 (ix (S 4 (ix x))))) (S 4 (ix x))) x
def lmF : Nat → SS → Int32 → Int32
  | 0, _, x => x
  | n + 1, S, x => if S 2 (ix x) = 0 then x else lmF n S (S 2 (ix x))
def hkS (S : SS) (made z : Int32) : SS := up2 (up2 S 2 (ix z) made) 4 (ix made) z
def h1S (S : SS) (made x : Int32) : SS :=
  if S 0 1 = 0 then up2 S 0 1 made
  else if x = 0 then hkS S made (lmF 48 S (S 0 1))
  else if S 3 (ix x) = 0 then up2 (up2 S 3 (ix x) made) 4 (ix made) x
  else hkS S made (lmF 48 S (S 3 (ix x)))
def lnS : Nat → SS → Int32 → SS
  | 0, S, _ => S
  | n + 1, S, x => if S 4 (ix x) = 0 then S else if S 5 (ix x) ≤ S 5 (ix (S 4 (ix x))) then S else lnS n (lfS S x) x
def hgS (S : SS) (made x : Int32) : SS := lnS 48 (puS 48 (h1S S made x) made) made
def naF : Nat → SS → Int32 → Int32 → Int32
  | 0, _, x, _ => x
  | n + 1, S, x, r => if S 6 (ix (S 2 (ix x))) ≤ r then (if r = S 6 (ix (S 2 (ix x))) ∧ ¬ shI S x = 0 then x else naF n S (S 3 (ix x)) (r - S 6 (ix (S 2 (ix x))) - b01 (shI S x))) else naF n S (S 2 (ix x)) r
def nodeF (S : SS) (q : Int32) : Int32 := naF 48 S (S 0 1) q
def poF : Nat → SS → Int32 → Int32 → Int32
  | 0, _, _, bf => bf
  | n + 1, S, z, bf => if S 4 (ix z) = 0 then bf else poF n S (S 4 (ix z)) (if S 3 (ix (S 4 (ix z))) = z then bf + S 6 (ix (S 2 (ix (S 4 (ix z))))) + b01 (shI S (S 4 (ix z))) else bf)
def placeF (S : SS) (x : Int32) : Int32 := poF 48 S x (S 6 (ix (S 2 (ix x))))
def tlF (S : SS) : Int32 := S 6 (ix (S 0 1))
def sd1 (S : SS) : Int32 := S 0 14 * 1103515245 + 12345
def tyS (S : SS) (ch : Int32) : SS :=
  up2 (up2 (up2 (up2 (up2 (up2 (up2 (up2 S 0 0 (S 0 0 + 1)) 7 (ix (S 0 0 + 1)) ch) 8 (ix (S 0 0 + 1)) (S 0 10)) 0 14 (sd1 S)) 5 (ix (S 0 0 + 1)) ((sd1 S).toUInt32 >>> ((8 : Int32).toUInt32 &&& Int32.toUInt32 31)).toInt32) 11 (ix (S 0 10)) 1) 12 (ix (S 0 10)) (S 0 0 + 1)) 0 10 (S 0 10 + 1)
def tyB (S : SS) (q : Int32) : Int32 := if q = 0 then 0 else nodeF S (q - 1)
def tyT (S : SS) (q ch : Int32) : SS := hgS (tyS S ch) (S 0 0 + 1) (tyB S q)
def tyO (S : SS) (V : LL) (q ch : Int32) : Int32 × SS × LL :=
  if ch < 0 then (-1, S, V) else if 25 < ch then (-1, S, V) else if q < 0 then (-1, S, V) else if q ≤ tlF S then
    (if S 0 10 = 32 then (-2, S, V) else if S 0 0 = 48 then (-2, S, V) else (tyT S q ch 0 10 - 1, tyT S q ch, vp_updL V (ix (S 0 10)) 0))
  else (-1, S, V)
def erW : Nat → SS → Nat → Int64 → Int64
  | 0, _, _, w => w
  | d + 1, S, k, w => erW d S (k + 1) (w ||| ((1 : Int64) <<< ((nodeF S (nI k) - 1).toInt64 &&& 63)))
def cbL : Nat → SS → Nat → Int64 → Int32 → SS
  | 0, S, _, _, _ => S
  | d + 1, S, x, w, mo => cbL d (if bitL w (nI x - 1) then puS 48 (up2 S 9 (ix (nI x)) (S 9 (ix (nI x)) + mo)) (nI x) else S) (x + 1) w mo
def cbS (S : SS) (w : Int64) (mo : Int32) : SS := cbL (ix (S 0 0)) S 1 w mo
def erS (S : SS) : SS := up2 (up2 (up2 S 11 (ix (S 0 10)) 1) 12 (ix (S 0 10)) 0) 0 10 (S 0 10 + 1)
def erO (S : SS) (V : LL) (i j : Int32) : Int32 × SS × LL :=
  if i < 0 then (-1, S, V) else if j ≤ i then (-1, S, V) else if j ≤ tlF S then
    (if S 0 10 = 32 then (-2, S, V) else
      (cbS (erS S) (erW (ix j - ix i) S (ix i) 0) 1 0 10 - 1, cbS (erS S) (erW (ix j - ix i) S (ix i) 0) 1, vp_updL V (ix (S 0 10)) (erW (ix j - ix i) S (ix i) 0)))
  else (-1, S, V)
def bdI (S : SS) (k : Int32) : Int32 := if k < 0 then 1 else if k < S 0 10 then 0 else 1
def tgA (S : SS) (k : Int32) : SS := up2 S 11 (ix k) (if S 11 (ix k) = 0 then 1 else 0)
def tgS (S : SS) (V : LL) (k : Int32) : SS :=
  if S 12 (ix k) = 0 then cbS (tgA S k) (V (ix k)) (if tgA S k 11 (ix k) = 0 then -1 else 1) else puS 48 (tgA S k) (S 12 (ix k))
def ptO (S : SS) (V : LL) (k z : Int32) : Int32 × SS × LL :=
  if bdI S k = 0 then (b01 (S 11 (ix k)), (if S 11 (ix k) = b01 z then S else tgS S V k), V) else (-1, S, V)
def unO (S : SS) (V : LL) : Nat → Int32 × SS × LL
  | 0 => (-4, S, V)
  | d + 1 => if S 11 (ix (nI d)) = 0 then unO S V d else (nI d, tgS S V (nI d), V)
def rdO (S : SS) (V : LL) : Nat → Nat → Int32 × SS × LL
  | 0, _ => (-4, S, V)
  | d + 1, k => if S 11 (ix (nI k)) = 0 then (nI k, tgS S V (nI k), V) else rdO S V d (k + 1)
def flL : Nat → SS → LL → Nat → Int32 → Int32 × SS × LL
  | 0, S, V, _, n => (n, S, V)
  | d + 1, S, V, k, n => flL d (tgS S V (nI k)) V (k + 1) (if tgS S V (nI k) 11 (ix (nI k)) = 0 then n else n + 1)
def flO (S : SS) (V : LL) (i j : Int32) : Int32 × SS × LL :=
  if i < 0 then (-1, S, V) else if j < i then (-1, S, V) else if bdI S j = 0 then flL (ix j + 1 - ix i) S V (ix i) 0 else (-1, S, V)
def ioF (S : SS) (k : Int32) : Int32 := if bdI S k = 0 then (if S 11 (ix k) = 0 then 0 else 1) else 0
def ltF (S : SS) (k : Int32) : Int32 := if k < 0 then -4 else if k < tlF S then S 7 (ix (nodeF S k)) else -4
def ogF (S : SS) (k : Int32) : Int32 := if k < 0 then -4 else if k < tlF S then S 8 (ix (nodeF S k)) else -4
def whF (S : SS) (k : Int32) : Int32 := if bdI S k = 0 then (if S 12 (ix k) = 0 then -4 else if shI S (S 12 (ix k)) = 0 then -4 else placeF S (S 12 (ix k))) else -4
def cvL : Nat → Int64 → Nat → Int32 → Int32
  | 0, _, _, n => n
  | d + 1, w, x, n => cvL d w (x + 1) (if bitL w (nI x) then n + 1 else n)
def cvF (S : SS) (V : LL) (k : Int32) : Int32 := if bdI S k = 0 then cvL 48 (V (ix k)) 0 0 else -1
def cyF (S : SS) (k : Int32) : Int32 := if bdI S k = 0 then (if S 12 (ix k) = 0 then -4 else S 9 (ix (S 12 (ix k)))) else -1
def efL : Nat → SS → Int64 → Int32 → Nat → Int32 → Int32
  | 0, _, _, _, _, n => n
  | d + 1, S, w, le, x, n => efL d S w le (x + 1) (if bitL w (nI x - 1) ∧ ¬ S 11 (ix (S 8 (ix (nI x)))) = 0 ∧ S 9 (ix (nI x)) = le then n + 1 else n)
def efF (S : SS) (V : LL) (k : Int32) : Int32 :=
  if bdI S k = 0 then
    (if S 12 (ix k) = 0 then (if S 11 (ix k) = 0 then -(efL (ix (S 0 0)) S (V (ix k)) (b01 (S 11 (ix k))) 1 0) else efL (ix (S 0 0)) S (V (ix k)) (b01 (S 11 (ix k))) 1 0)
     else (if S 11 (ix k) = 0 then (if S 9 (ix (S 12 (ix k))) = 0 then 1 else 0) else -(if S 9 (ix (S 12 (ix k))) = 0 then 1 else 0)))
  else 0
def dgL : Nat → SS → Nat → Int32 → Int32
  | 0, _, _, n => n
  | d + 1, S, k, n => dgL d S (k + 1) (n + (nI k + 1) * (S 7 (ix (nodeF S (nI k))) + 1))
def dgF (S : SS) : Int32 := dgL (ix (tlF S)) S 0 0
/-- what the walks of the class ask of its state -/
def RG (S : SS) : Prop := (∀ j, j < 49 → vp_in (S 2 j) 49) ∧ (∀ j, j < 49 → vp_in (S 3 j) 49) ∧ (∀ j, j < 49 → vp_in (S 4 j) 49) ∧ (∀ j, j < 49 → vp_in (S 8 j) 32) ∧ (∀ j, j < 32 → vp_in (S 12 j) 49) ∧ vp_in (S 0 1) 49 ∧ vp_in (S 0 0) 49 ∧ vp_in (S 0 10) 33
theorem ix_lt {i : Int32} {n : Nat} (h : vp_in i n) : ix i < n := Nat.not_le.mp fun q => h (Or.inr q)
theorem rgL {S : SS} (h : RG S) {i : Int32} (hi : vp_in i 49) : vp_in (S 2 (ix i)) 49 := h.1 _ (ix_lt hi)
theorem rgR {S : SS} (h : RG S) {i : Int32} (hi : vp_in i 49) : vp_in (S 3 (ix i)) 49 := h.2.1 _ (ix_lt hi)
theorem rgU {S : SS} (h : RG S) {i : Int32} (hi : vp_in i 49) : vp_in (S 4 (ix i)) 49 := h.2.2.1 _ (ix_lt hi)
theorem rgT {S : SS} (h : RG S) {i : Int32} (hi : vp_in i 49) : vp_in (S 8 (ix i)) 32 := h.2.2.2.1 _ (ix_lt hi)
theorem rgY {S : SS} (h : RG S) {i : Int32} (hi : vp_in i 32) : vp_in (S 12 (ix i)) 49 := h.2.2.2.2.1 _ (ix_lt hi)
theorem rgO {S : SS} (h : RG S) : vp_in (S 0 1) 49 := h.2.2.2.2.2.1
theorem rgC {S : SS} (h : RG S) : vp_in (S 0 0) 49 := h.2.2.2.2.2.2.1
theorem rgN {S : SS} (h : RG S) : vp_in (S 0 10) 33 := h.2.2.2.2.2.2.2
theorem upd_rg {f : Nat → Int32} {n N j : Nat} {v : Int32} (h : ∀ j, j < n → vp_in (f j) N) (hv : vp_in v N) : ∀ i, i < n → vp_in (upd f j v i) N := by
  intro i hi
  unfold upd
  split
  · exact hv
  · exact h i hi
theorem RG_2 {S : SS} {j : Nat} {v : Int32} (h : RG S) (hv : vp_in v 49) : RG (up2 S 2 j v) := ⟨upd_rg h.1 hv, h.2⟩
theorem RG_3 {S : SS} {j : Nat} {v : Int32} (h : RG S) (hv : vp_in v 49) : RG (up2 S 3 j v) := ⟨h.1, upd_rg h.2.1 hv, h.2.2⟩
theorem RG_4 {S : SS} {j : Nat} {v : Int32} (h : RG S) (hv : vp_in v 49) : RG (up2 S 4 j v) := ⟨h.1, h.2.1, upd_rg h.2.2.1 hv, h.2.2.2⟩
theorem RG_8 {S : SS} {j : Nat} {v : Int32} (h : RG S) (hv : vp_in v 32) : RG (up2 S 8 j v) := ⟨h.1, h.2.1, h.2.2.1, upd_rg h.2.2.2.1 hv, h.2.2.2.2⟩
theorem RG_12 {S : SS} {j : Nat} {v : Int32} (h : RG S) (hv : vp_in v 49) : RG (up2 S 12 j v) := ⟨h.1, h.2.1, h.2.2.1, h.2.2.2.1, upd_rg h.2.2.2.2.1 hv, h.2.2.2.2.2⟩
theorem RG_5 {S : SS} {j : Nat} {v : Int32} (h : RG S) : RG (up2 S 5 j v) := h
theorem RG_6 {S : SS} {j : Nat} {v : Int32} (h : RG S) : RG (up2 S 6 j v) := h
theorem RG_7 {S : SS} {j : Nat} {v : Int32} (h : RG S) : RG (up2 S 7 j v) := h
theorem RG_9 {S : SS} {j : Nat} {v : Int32} (h : RG S) : RG (up2 S 9 j v) := h
theorem RG_11 {S : SS} {j : Nat} {v : Int32} (h : RG S) : RG (up2 S 11 j v) := h
theorem RG_root {S : SS} {v : Int32} (h : RG S) (hv : vp_in v 49) : RG (up2 S 0 1 v) := ⟨h.1, h.2.1, h.2.2.1, h.2.2.2.1, h.2.2.2.2.1, hv, h.2.2.2.2.2.2⟩
theorem RG_count {S : SS} {v : Int32} (h : RG S) (hv : vp_in v 49) : RG (up2 S 0 0 v) := ⟨h.1, h.2.1, h.2.2.1, h.2.2.2.1, h.2.2.2.2.1, h.2.2.2.2.2.1, hv, h.2.2.2.2.2.2.2⟩
theorem RG_changes {S : SS} {v : Int32} (h : RG S) (hv : vp_in v 33) : RG (up2 S 0 10 v) := ⟨h.1, h.2.1, h.2.2.1, h.2.2.2.1, h.2.2.2.2.1, h.2.2.2.2.2.1, h.2.2.2.2.2.2.1, hv⟩
theorem RG_seed {S : SS} {v : Int32} (h : RG S) : RG (up2 S 0 14 v) := h
theorem RG_pl {S : SS} {x : Int32} (h : RG S) : RG (plS S x) := h
theorem RG_pu {n : Nat} : ∀ {S : SS} {x : Int32}, RG S → RG (puS n S x) := by
  induction n with
  | zero => intro S x h; exact h
  | succ n ih =>
    intro S x h
    unfold puS
    split
    · exact h
    · exact ih (RG_pl h)
theorem RG_rb {S : SS} {g o x : Int32} (h : RG S) (hx : vp_in x 49) : RG (rbS S g o x) := by
  unfold rbS
  split
  · exact RG_root h hx
  · split
    · exact RG_2 h hx
    · exact RG_3 h hx
theorem RG_lfA {S : SS} {x p : Int32} (h : RG S) (hx : vp_in x 49) (hp : vp_in p 49) : RG (lfA S x p) := by
  unfold lfA
  split
  · split
    · exact RG_3 (RG_2 h (rgR h hx)) hp
    · exact RG_3 (RG_4 (RG_2 h (rgR h hx)) hp) hp
  · split
    · exact RG_2 (RG_3 h (rgL h hx)) hp
    · exact RG_2 (RG_4 (RG_3 h (rgL h hx)) hp) hp
theorem RG_lf {S : SS} {x : Int32} (h : RG S) (hx : vp_in x 49) : RG (lfS S x) :=
  RG_pl (RG_pl (RG_rb (RG_4 (RG_4 (RG_lfA h hx (rgU h hx)) hx) (rgU h (rgU h hx))) hx))
theorem vin_lm {n : Nat} : ∀ {S : SS} {x : Int32}, RG S → vp_in x 49 → vp_in (lmF n S x) 49 := by
  induction n with
  | zero => intro S x h hx; exact hx
  | succ n ih =>
    intro S x h hx
    unfold lmF
    split
    · exact hx
    · exact ih h (rgL h hx)
theorem vin_na {n : Nat} : ∀ {S : SS} {x r : Int32}, RG S → vp_in x 49 → vp_in (naF n S x r) 49 := by
  induction n with
  | zero => intro S x r h hx; exact hx
  | succ n ih =>
    intro S x r h hx
    unfold naF
    split
    · split
      · exact hx
      · exact ih h (rgR h hx)
    · exact ih h (rgL h hx)
theorem vin_node {S : SS} {q : Int32} (h : RG S) : vp_in (nodeF S q) 49 := vin_na h (rgO h)
theorem RG_h1 {S : SS} {made x : Int32} (h : RG S) (hm : vp_in made 49) (hx : vp_in x 49) : RG (h1S S made x) := by
  unfold h1S
  split
  · exact RG_root h hm
  · split
    · exact RG_4 (RG_2 h hm) (vin_lm h (rgO h))
    · split
      · exact RG_4 (RG_3 h hm) hx
      · exact RG_4 (RG_2 h hm) (vin_lm h (rgR h hx))
theorem RG_ln {n : Nat} : ∀ {S : SS} {x : Int32}, RG S → vp_in x 49 → RG (lnS n S x) := by
  induction n with
  | zero => intro S x h hx; exact h
  | succ n ih =>
    intro S x h hx
    unfold lnS
    split
    · exact h
    · split
      · exact h
      · exact ih (RG_lf h hx) hx
theorem RG_cb {d : Nat} : ∀ {S : SS} {x : Nat} {w : Int64} {mo : Int32}, RG S → RG (cbL d S x w mo) := by
  induction d with
  | zero => intro S x w mo h; exact h
  | succ d ih =>
    intro S x w mo h
    unfold cbL
    refine ih ?_
    split
    · exact RG_pu (RG_9 h)
    · exact h
theorem RG_tg {S : SS} {V : LL} {k : Int32} (h : RG S) : RG (tgS S V k) := by
  unfold tgS
  split
  · exact RG_cb (RG_11 h)
  · exact RG_pu (RG_11 h)
/-- what the lower methods leave alone -/
theorem puS_k {n : Nat} : ∀ {S : SS} {x : Int32} {k : Nat}, k ≠ 6 → puS n S x k = S k := by
  induction n with
  | zero => intro S x k h; rfl
  | succ n ih =>
    intro S x k h
    unfold puS
    split
    · rfl
    · rw [ih h]
      simp [plS, up2, h]
theorem cbL_k {d : Nat} : ∀ {S : SS} {x : Nat} {w : Int64} {mo : Int32} {k : Nat}, k ≠ 6 → k ≠ 9 → cbL d S x w mo k = S k := by
  induction d with
  | zero => intro S x w mo k h h9; rfl
  | succ d ih =>
    intro S x w mo k h h9
    unfold cbL
    rw [ih h h9]
    split
    · rw [puS_k h]
      simp [up2, h9]
    · rfl
theorem tgS_k {S : SS} {V : LL} {k : Int32} {j : Nat} (h : j ≠ 6) (h9 : j ≠ 9) (h11 : j ≠ 11) : tgS S V k j = S j := by
  unfold tgS
  split
  · unfold cbS
    rw [cbL_k h h9]
    simp [tgA, up2, h11]
  · rw [puS_k h]
    simp [tgA, up2, h11]
-- the reference: list 1, types 2, letters 3, covered 4, on 5; its own ints: listed 1, count 6
def icI (M : SS) (k : Int32) : Int32 := if k < 0 then 0 else if M 0 6 ≤ k then 0 else 1
def coL : Nat → SS → Int32 → Nat → Int32 → Int32
  | 0, _, _, _, n => n
  | d + 1, M, ch, k, n => coL d M ch (k + 1) (if M 5 (ix (nI k)) = 0 then n else if ((M 4 (ix (nI k)) >>> (ch &&& 31)) &&& 1) = 1 then n + 1 else n)
def coF (M : SS) (ch : Int32) : Int32 := coL (ix (M 0 6)) M ch 0 0
def isI (M : SS) (ch : Int32) : Int32 := if M 5 (ix ch) = 0 then 0 else if coF M ch = 0 then 1 else 0
def caL : Nat → SS → Int32 → Nat → Int32 → Int32
  | 0, _, _, _, _ => -4
  | d + 1, M, q, i, bf => if isI M (M 1 (ix (nI i))) = 0 then caL d M q (i + 1) bf else if bf = q then M 1 (ix (nI i)) else caL d M q (i + 1) (bf + 1)
def caF (M : SS) (q : Int32) : Int32 := caL (ix (M 0 1)) M q 0 0
def leL : Nat → SS → Nat → Int32 → Int32
  | 0, _, _, n => n
  | d + 1, M, i, n => leL d M (i + 1) (if isI M (M 1 (ix (nI i))) = 0 then n else n + 1)
def leF (M : SS) : Int32 := leL (ix (M 0 1)) M 0 0
def shL : Nat → SS → Int32 → SS × Nat
  | 0, M, _ => (M, 0)
  | t + 1, M, bh => if M 1 (ix (nI t)) = bh then (M, t + 1) else shL t (up2 M 1 (ix (nI (t + 1))) (M 1 (ix (nI t)))) bh
def tzS (M : SS) (z : Nat) (ch : Int32) : SS :=
  up2 (up2 (up2 (up2 (up2 (up2 (up2 M 1 (ix (nI z)) (M 0 6)) 0 1 (M 0 1 + 1)) 2 (ix (M 0 6)) 1) 3 (ix (M 0 6)) ch) 4 (ix (M 0 6)) 0) 5 (ix (M 0 6)) 1) 0 6 (M 0 6 + 1)
def tzB (M : SS) (q : Int32) : Int32 := if q = 0 then -4 else caF M (q - 1)
def tzO (M : SS) (V : LL) (q ch : Int32) : Int32 × SS × LL :=
  if ch < 0 then (-1, M, V) else if 25 < ch then (-1, M, V) else if q < 0 then (-1, M, V) else if q ≤ leF M then
    (if M 0 6 = 32 then (-2, M, V) else ((shL (ix (M 0 1)) M (tzB M q)).1 0 6 + 1 - 1, tzS (shL (ix (M 0 1)) M (tzB M q)).1 (shL (ix (M 0 1)) M (tzB M q)).2 ch, V))
  else (-1, M, V)
def ezW : Nat → SS → Nat → Int32 → Int32
  | 0, _, _, w => w
  | d + 1, M, k, w => ezW d M (k + 1) (if 0 ≤ caF M (nI k) then w ||| ((1 : Int32) <<< (caF M (nI k) &&& 31)) else w)
def ezS (M : SS) (w : Int32) : SS := up2 (up2 (up2 (up2 M 2 (ix (M 0 6)) 0) 4 (ix (M 0 6)) w) 5 (ix (M 0 6)) 1) 0 6 (M 0 6 + 1)
def ezO (M : SS) (V : LL) (i j : Int32) : Int32 × SS × LL :=
  if i < 0 then (-1, M, V) else if j ≤ i then (-1, M, V) else if j ≤ leF M then
    (if M 0 6 = 32 then (-2, M, V) else (M 0 6 + 1 - 1, ezS M (ezW (ix j - ix i) M (ix i) 0), V))
  else (-1, M, V)
def pzO (M : SS) (V : LL) (k z : Int32) : Int32 × SS × LL :=
  if icI M k = 0 then (-1, M, V) else (b01 (M 5 (ix k)), up2 M 5 (ix k) (b01 z), V)
def uzO (M : SS) (V : LL) : Nat → Int32 × SS × LL
  | 0 => (-4, M, V)
  | d + 1 => if M 5 (ix (nI d)) = 0 then uzO M V d else (nI d, up2 M 5 (ix (nI d)) 0, V)
def rzO (M : SS) (V : LL) : Nat → Nat → Int32 × SS × LL
  | 0, _ => (-4, M, V)
  | d + 1, k => if M 5 (ix (nI k)) = 0 then (nI k, up2 M 5 (ix (nI k)) 1, V) else rzO M V d (k + 1)
def tgZ (M : SS) (k : Int32) : SS := up2 M 5 (ix k) (if M 5 (ix k) = 0 then 1 else 0)
def fzL : Nat → SS → LL → Nat → Int32 → Int32 × SS × LL
  | 0, M, V, _, n => (n, M, V)
  | d + 1, M, V, k, n => fzL d (tgZ M (nI k)) V (k + 1) (if tgZ M (nI k) 5 (ix (nI k)) = 0 then n else n + 1)
def fzO (M : SS) (V : LL) (i j : Int32) : Int32 × SS × LL :=
  if i < 0 then (-1, M, V) else if j < i then (-1, M, V) else if j < M 0 6 then fzL (ix j + 1 - ix i) M V (ix i) 0 else (-1, M, V)
def izF (M : SS) (k : Int32) : Int32 := if icI M k = 0 then 0 else if M 5 (ix k) = 0 then 0 else 1
def lzF (M : SS) (k : Int32) : Int32 := if 0 ≤ caF M k then M 3 (ix (caF M k)) else -4
def wzL : Nat → SS → Int32 → Nat → Int32
  | 0, _, _, _ => -4
  | d + 1, M, k, q => if caF M (nI q) = k ∧ ¬ caF M (nI q) < 0 then nI q else wzL d M k (q + 1)
def czL : Nat → Int32 → Nat → Int32 → Int32
  | 0, _, _, n => n
  | d + 1, w, x, n => czL d w (x + 1) (n + ((w >>> (nI x &&& 31)) &&& 1))
def czF (M : SS) (k : Int32) : Int32 := if icI M k = 0 then -1 else czL 32 (M 4 (ix k)) 0 0
def cqF (M : SS) (k : Int32) : Int32 := if icI M k = 0 then -1 else if M 2 (ix k) = 0 then -4 else coF M k
def ezF (M : SS) (k : Int32) : Int32 := if icI M k = 0 then 0 else leF (tgZ M k) - leF M
def ezT (M : SS) (k : Int32) : SS := if icI M k = 0 then M else tgZ (tgZ M k) k
def dzL : Nat → SS → Nat → Int32 → Int32
  | 0, _, _, n => n
  | d + 1, M, k, n => dzL d M (k + 1) (if 0 ≤ caF M (nI k) then n + (nI k + 1) * (M 3 (ix (caF M (nI k))) + 1) else n)
def dzF (M : SS) : Int32 := dzL 32 M 0 0
def RZ (M : SS) : Prop := (∀ j, j < 32 → vp_in (M 1 j) 32) ∧ vp_in (M 0 1) 33 ∧ vp_in (M 0 6) 33
theorem rzL {M : SS} (h : RZ M) {i : Int32} (hi : vp_in i 32) : vp_in (M 1 (ix i)) 32 := h.1 _ (ix_lt hi)
theorem rzI {M : SS} (h : RZ M) : vp_in (M 0 1) 33 := h.2.1
theorem rzN {M : SS} (h : RZ M) : vp_in (M 0 6) 33 := h.2.2
theorem RZ_5 {M : SS} {j : Nat} {v : Int32} (h : RZ M) : RZ (up2 M 5 j v) := h
theorem RZ_1 {M : SS} {j : Nat} {v : Int32} (h : RZ M) (hv : vp_in v 32) : RZ (up2 M 1 j v) := ⟨upd_rg h.1 hv, h.2⟩
end
section
set_option maxHeartbeats 4000000 in
set_option maxRecDepth 100000 in
theorem mA_shown (l : Launch) (D : va_G) (a : Nat → Nat) (b : Nat → ClassId) {S : SS} {V : LL} {x : Int32} (rg : RG S) (hx0 : vp_in x 49) : MAi l D a b yX0_shown cX0_shown 2 .boolean { frames := 0, cells := 0, slots := 0, locals := 0 } [.int x] S V (shI S x, S, V) := by
  refine MAi.of (by decide) rfl (Nat.le_of_ble_eq_true rfl) ?_
  intro p e s m below meth c A ls C hr hlocks P hl
  have hx := C.1
  have hb := C.2.1
  have hl : lv_has ls 2 [(0, .ref (a 0)), (1, .int x)] := hl
  refine lv_iload_n hx hb dX0_shown_0 rfl (lv_at hl 1 rfl) ?_
  refine lv_if_eq (tgt := 31) hx hb dX0_shown_1 (by decide) (fun c1 => ?_) (fun c1 => ?_)
  · refine lv_iconst (v := 0) hx hb dX0_shown_31 (by decide) ?_
    exact rA_z C hr hlocks P (by decide) (by simp [shI, c1]) dX0_shown_32
  · refine lv_aload_n hx hb dX0_shown_4 rfl (lv_at hl 0 rfl) ?_
    refine gA_on C P dX0_shown_5 ?_
    refine lv_aload_n hx hb dX0_shown_8 rfl (lv_at hl 0 rfl) ?_
    refine gA_typist C P dX0_shown_9 ?_
    refine lv_iload_n hx hb dX0_shown_12 rfl (lv_at hl 1 rfl) ?_
    refine lA_typist (v := (S 8 (ix x))) C P hx0 rfl dX0_shown_13 ?_
    refine lA_on (v := (S 11 (ix (S 8 (ix x))))) C P (rgT rg hx0) rfl dX0_shown_14 ?_
    refine lv_if_eq (tgt := 31) hx hb dX0_shown_15 (by decide) (fun c2 => ?_) (fun c2 => ?_)
    · refine lv_iconst (v := 0) hx hb dX0_shown_31 (by decide) ?_
      exact rA_z C hr hlocks P (by decide) (by simp [shI, c1, c2]) dX0_shown_32
    · refine lv_aload_n hx hb dX0_shown_18 rfl (lv_at hl 0 rfl) ?_
      refine gA_covered C P dX0_shown_19 ?_
      refine lv_iload_n hx hb dX0_shown_22 rfl (lv_at hl 1 rfl) ?_
      refine lA_covered (v := (S 9 (ix x))) C P hx0 rfl dX0_shown_23 ?_
      refine lv_if_ne (tgt := 31) hx hb dX0_shown_24 (by decide) (fun c3 => ?_) (fun c3 => ?_)
      · refine lv_iconst (v := 0) hx hb dX0_shown_31 (by decide) ?_
        exact rA_z C hr hlocks P (by decide) (by simp [shI, c1, c2, c3]) dX0_shown_32
      · refine lv_iconst (v := 1) hx hb dX0_shown_27 (by decide) ?_
        refine lv_goto (tgt := 32) hx hb dX0_shown_28 (by decide) ?_
        exact rA_z C hr hlocks P (by decide) (by simp [shI, c1, c2, c3]) dX0_shown_32

set_option maxHeartbeats 4000000 in
set_option maxRecDepth 100000 in
theorem mA_textLength (l : Launch) (D : va_G) (a : Nat → Nat) (b : Nat → ClassId) {S : SS} {V : LL} (rg : RG S) : MAi l D a b yX0_textLength cX0_textLength 1 .int { frames := 0, cells := 0, slots := 0, locals := 0 } [] S V (tlF S, S, V) := by
  refine MAi.of (by decide) rfl (Nat.le_of_ble_eq_true rfl) ?_
  intro p e s m below meth c A ls C hr hlocks P hl
  have hx := C.1
  have hb := C.2.1
  have hl : lv_has ls 1 [(0, .ref (a 0))] := hl
  refine lv_aload_n hx hb dX0_textLength_0 rfl (lv_at hl 0 rfl) ?_
  refine gA_shownIn C P dX0_textLength_1 ?_
  refine lv_aload_n hx hb dX0_textLength_4 rfl (lv_at hl 0 rfl) ?_
  refine gA_root (v := (S 0 1)) C P rfl dX0_textLength_5 ?_
  refine lA_shownIn (v := (S 6 (ix (S 0 1)))) C P (rgO rg) rfl dX0_textLength_8 ?_
  exact rA_i C hr hlocks P (by simp [tlF]) dX0_textLength_9

set_option maxHeartbeats 4000000 in
set_option maxRecDepth 100000 in
theorem mA_pull (l : Launch) (D : va_G) (a : Nat → Nat) (b : Nat → ClassId) {S : SS} {V : LL} {x : Int32} (rg : RG S) (hx0 : vp_in x 49) : MAv l D a b yX0_pull cX0_pull 3 { frames := 1, cells := 0, slots := 0, locals := 21 } [.int x] S V (plS S x, V) := by
  refine MAv.of (by decide) rfl (Nat.le_of_ble_eq_true rfl) ?_
  intro p e s m below meth c A ls C hr hlocks P hl
  have hx := C.1
  have hb := C.2.1
  have hl : lv_has ls 3 [(0, .ref (a 0)), (1, .int x)] := hl
  refine lv_aload_n hx hb dX0_pull_0 rfl (lv_at hl 0 rfl) ?_
  refine lv_iload_n hx hb dX0_pull_1 rfl (lv_at hl 1 rfl) ?_
  refine cA_i (rest := []) C P 1 (mA_shown (x := x) l D a b rg hx0) (lw_V q88 q90 qs2 q17 q91) rfl rfl (by decide +kernel) ⟨Nat.le_of_ble_eq_true rfl, Nat.le_of_ble_eq_true rfl⟩ rfl hl.1 rfl (Nat.le_of_ble_eq_true rfl) dX0_pull_2 (fun H locs P => ?_)
  refine lv_if_eq (tgt := 12) hx hb dX0_pull_5 (by decide) (fun c1 => ?_) (fun c1 => ?_)
  · refine lv_iconst (v := 0) hx hb dX0_pull_12 (by decide) ?_
    refine lv_istore_n (lv' := [(2, .int 0), (0, .ref (a 0)), (1, .int x)]) hx hb dX0_pull_13 rfl hl (by decide) rfl (fun ls hl => ?_)
    refine lv_aload_n hx hb dX0_pull_14 rfl (lv_at hl 1 rfl) ?_
    refine gA_shownIn C P dX0_pull_15 ?_
    refine lv_iload_n hx hb dX0_pull_18 rfl (lv_at hl 2 rfl) ?_
    refine lv_aload_n hx hb dX0_pull_19 rfl (lv_at hl 1 rfl) ?_
    refine gA_shownIn C P dX0_pull_20 ?_
    refine lv_aload_n hx hb dX0_pull_23 rfl (lv_at hl 1 rfl) ?_
    refine gA_left C P dX0_pull_24 ?_
    refine lv_iload_n hx hb dX0_pull_27 rfl (lv_at hl 2 rfl) ?_
    refine lA_left (v := (S 2 (ix x))) C P hx0 rfl dX0_pull_28 ?_
    refine lA_shownIn (v := (S 6 (ix (S 2 (ix x))))) C P (rgL rg hx0) rfl dX0_pull_29 ?_
    refine lv_iload_n hx hb dX0_pull_30 rfl (lv_at hl 0 rfl) ?_
    refine lv_iadd hx hb dX0_pull_31 ?_
    refine lv_aload_n hx hb dX0_pull_32 rfl (lv_at hl 1 rfl) ?_
    refine gA_shownIn C P dX0_pull_33 ?_
    refine lv_aload_n hx hb dX0_pull_36 rfl (lv_at hl 1 rfl) ?_
    refine gA_right C P dX0_pull_37 ?_
    refine lv_iload_n hx hb dX0_pull_40 rfl (lv_at hl 2 rfl) ?_
    refine lA_right (v := (S 3 (ix x))) C P hx0 rfl dX0_pull_41 ?_
    refine lA_shownIn (v := (S 6 (ix (S 3 (ix x))))) C P (rgR rg hx0) rfl dX0_pull_42 ?_
    refine lv_iadd hx hb dX0_pull_43 ?_
    refine sA_shownIn C P hx0 dX0_pull_44 (fun H locs P => ?_)
    have rg2 : RG (up2 S 6 (ix x) (((S 6 (ix (S 2 (ix x)))) + 0) + (S 6 (ix (S 3 (ix x)))))) := RG_6 rg
    exact rA_v C hr hlocks P (by simp [plS, b01, c1]) dX0_pull_45
  · refine lv_iconst (v := 1) hx hb dX0_pull_8 (by decide) ?_
    refine lv_goto (tgt := 13) hx hb dX0_pull_9 (by decide) ?_
    refine lv_istore_n (lv' := [(2, .int 1), (0, .ref (a 0)), (1, .int x)]) hx hb dX0_pull_13 rfl hl (by decide) rfl (fun ls hl => ?_)
    refine lv_aload_n hx hb dX0_pull_14 rfl (lv_at hl 1 rfl) ?_
    refine gA_shownIn C P dX0_pull_15 ?_
    refine lv_iload_n hx hb dX0_pull_18 rfl (lv_at hl 2 rfl) ?_
    refine lv_aload_n hx hb dX0_pull_19 rfl (lv_at hl 1 rfl) ?_
    refine gA_shownIn C P dX0_pull_20 ?_
    refine lv_aload_n hx hb dX0_pull_23 rfl (lv_at hl 1 rfl) ?_
    refine gA_left C P dX0_pull_24 ?_
    refine lv_iload_n hx hb dX0_pull_27 rfl (lv_at hl 2 rfl) ?_
    refine lA_left (v := (S 2 (ix x))) C P hx0 rfl dX0_pull_28 ?_
    refine lA_shownIn (v := (S 6 (ix (S 2 (ix x))))) C P (rgL rg hx0) rfl dX0_pull_29 ?_
    refine lv_iload_n hx hb dX0_pull_30 rfl (lv_at hl 0 rfl) ?_
    refine lv_iadd hx hb dX0_pull_31 ?_
    refine lv_aload_n hx hb dX0_pull_32 rfl (lv_at hl 1 rfl) ?_
    refine gA_shownIn C P dX0_pull_33 ?_
    refine lv_aload_n hx hb dX0_pull_36 rfl (lv_at hl 1 rfl) ?_
    refine gA_right C P dX0_pull_37 ?_
    refine lv_iload_n hx hb dX0_pull_40 rfl (lv_at hl 2 rfl) ?_
    refine lA_right (v := (S 3 (ix x))) C P hx0 rfl dX0_pull_41 ?_
    refine lA_shownIn (v := (S 6 (ix (S 3 (ix x))))) C P (rgR rg hx0) rfl dX0_pull_42 ?_
    refine lv_iadd hx hb dX0_pull_43 ?_
    refine sA_shownIn C P hx0 dX0_pull_44 (fun H locs P => ?_)
    have rg3 : RG (up2 S 6 (ix x) (((S 6 (ix (S 2 (ix x)))) + 1) + (S 6 (ix (S 3 (ix x)))))) := RG_6 rg
    exact rA_v C hr hlocks P (by simp [plS, b01, c1]) dX0_pull_45

set_option maxHeartbeats 4000000 in
set_option maxRecDepth 100000 in
theorem lpA_pullUp {p : Program} {l : Launch} {e : Env} {s : State} {m : MethodId} {args : Array Value} {below : List Frame} {meth : Method} {c : Code} {D : va_G} {A : Nat → Prop} {a : Nat → Nat} {b : Nat → ClassId} {V : LL} (C : CX p s m c args cX0_pullUp 4 RX0 A D (tA b)) (hr : meth.sig.returnType = none) (hlocks : meth.locks = false) (x : Int32) (T : SS) : ∀ (n i : Nat) (S : SS) (z : Int32) (H : Heap) (locs : List Loc) (ls : Array Slot), i + n = 48 → RG S → vp_in z 49 → puS n S z = T → PA D A a b S V s.heap H locs → lv_has ls 4 [(0, .ref (a 0)), (1, .int x), (2, .int z), (3, .int (nI i))] → W p l e ({ frames := 2, cells := 0, slots := 0, locals := 43 }) s m args below meth c H locs 0 0 (QAv D a b A (T, V) below args s) (F0 m 4 ls []) := by
  have hx := C.1
  have hb := C.2.1
  intro n
  induction n with
  | zero =>
    intro i S z H locs ls hi rg hz hT P hl
    have hi : i = 48 := by omega
    subst hi
    refine lv_iload_n hx hb dX0_pullUp_4 rfl (lv_at hl 3 rfl) ?_
    refine lv_bipush (v := (nI 48)) hx hb dX0_pullUp_5 (by decide) ?_
    refine lv_icmp_ge (tgt := 32) hx hb dX0_pullUp_7 (by decide) (fun c1 => ?_) (fun c1 => absurd (nI_le (Nat.le_refl 48) (by decide)) c1)
    exact rA_v C hr hlocks P (by rw [← hT]; rfl) dX0_pullUp_32
  | succ n ih =>
    intro i S z H locs ls hi rg hz hT P hl
    have hi2 : i < 48 := by omega
    refine lv_iload_n hx hb dX0_pullUp_4 rfl (lv_at hl 3 rfl) ?_
    refine lv_bipush (v := (nI 48)) hx hb dX0_pullUp_5 (by decide) ?_
    refine lv_icmp_ge (tgt := 32) hx hb dX0_pullUp_7 (by decide) (fun c1 => absurd c1 (nI_ge hi2 (by decide))) (fun c1 => ?_)
    refine lv_iload_n hx hb dX0_pullUp_10 rfl (lv_at hl 2 rfl) ?_
    refine lv_if_eq (tgt := 32) hx hb dX0_pullUp_11 (by decide) (fun c2 => ?_) (fun c2 => ?_)
    · exact rA_v C hr hlocks P (by rw [← hT]; simp [puS, c2]) dX0_pullUp_32
    · refine lv_aload_n hx hb dX0_pullUp_14 rfl (lv_at hl 0 rfl) ?_
      refine lv_iload_n hx hb dX0_pullUp_15 rfl (lv_at hl 2 rfl) ?_
      refine cA_v (rest := []) C P 1 (mA_pull (x := z) l D a b rg hz) (lw_V q101 q103 qs5 q17 q104) rfl rfl (by decide +kernel) ⟨Nat.le_of_ble_eq_true rfl, Nat.le_of_ble_eq_true rfl⟩ rfl hl.1 rfl (Nat.le_of_ble_eq_true rfl) dX0_pullUp_16 (fun H locs P => ?_)
      have rg3 : RG (plS S z) := RG_pl rg
      refine lv_aload_n hx hb dX0_pullUp_19 rfl (lv_at hl 0 rfl) ?_
      refine gA_up C P dX0_pullUp_20 ?_
      refine lv_iload_n hx hb dX0_pullUp_23 rfl (lv_at hl 2 rfl) ?_
      refine lA_up (v := (S 4 (ix z))) C P hz rfl dX0_pullUp_24 ?_
      refine lv_istore_n (lv' := [(2, .int (S 4 (ix z))), (0, .ref (a 0)), (1, .int x), (3, .int (nI i))]) hx hb dX0_pullUp_25 rfl hl (by decide) rfl (fun ls hl => ?_)
      refine lv_iinc (v := (nI (i + 1))) (lv' := [(3, .int (nI (i + 1))), (2, .int (S 4 (ix z))), (0, .ref (a 0)), (1, .int x)]) hx hb dX0_pullUp_26 hl (k := 3) rfl (nI_1 i) (by decide) rfl (fun ls hl => ?_)
      refine lv_goto (tgt := 4) hx hb dX0_pullUp_29 (by decide) ?_
      exact ih (i + 1) (plS S z) (S 4 (ix z)) H locs ls (by omega) rg3 (rgU rg3 hz) (by rw [← hT]; exact (if_neg c2).symm) P (lv_sub hl [2, 3, 1, 0] rfl)

set_option maxHeartbeats 4000000 in
set_option maxRecDepth 100000 in
theorem mA_pullUp (l : Launch) (D : va_G) (a : Nat → Nat) (b : Nat → ClassId) {S : SS} {V : LL} {x : Int32} (rg : RG S) (hx0 : vp_in x 49) : MAv l D a b yX0_pullUp cX0_pullUp 4 { frames := 2, cells := 0, slots := 0, locals := 43 } [.int x] S V (puS 48 S x, V) := by
  refine MAv.of (by decide) rfl (Nat.le_of_ble_eq_true rfl) ?_
  intro p e s m below meth c A ls C hr hlocks P hl
  have hx := C.1
  have hb := C.2.1
  have hl : lv_has ls 4 [(0, .ref (a 0)), (1, .int x)] := hl
  refine lv_iload_n hx hb dX0_pullUp_0 rfl (lv_at hl 1 rfl) ?_
  refine lv_istore_n (lv' := [(2, .int x), (0, .ref (a 0)), (1, .int x)]) hx hb dX0_pullUp_1 rfl hl (by decide) rfl (fun ls hl => ?_)
  refine lv_iconst (v := (nI 0)) hx hb dX0_pullUp_2 (by decide) ?_
  refine lv_istore_n (lv' := [(3, .int (nI 0)), (2, .int x), (0, .ref (a 0)), (1, .int x)]) hx hb dX0_pullUp_3 rfl hl (by decide) rfl (fun ls hl => ?_)
  exact lpA_pullUp C hr hlocks x _ 48 0 S x _ _ _ rfl rg hx0 rfl P (lv_sub hl [2, 3, 1, 0] rfl)

set_option maxHeartbeats 4000000 in
set_option maxRecDepth 100000 in
theorem mA_replaceBelow (l : Launch) (D : va_G) (a : Nat → Nat) (b : Nat → ClassId) {S : SS} {V : LL} {g o x : Int32} (hg : vp_in g 49) : MAv l D a b yX0_replaceBelow cX0_replaceBelow 4 { frames := 0, cells := 0, slots := 0, locals := 0 } [.int g, .int o, .int x] S V (rbS S g o x, V) := by
  refine MAv.of (by decide) rfl (Nat.le_of_ble_eq_true rfl) ?_
  intro p e s m below meth c A ls C hr hlocks P hl
  have hx := C.1
  have hb := C.2.1
  have hl : lv_has ls 4 [(0, .ref (a 0)), (1, .int g), (2, .int o), (3, .int x)] := hl
  refine lv_iload_n hx hb dX0_replaceBelow_0 rfl (lv_at hl 1 rfl) ?_
  refine lv_if_ne (tgt := 12) hx hb dX0_replaceBelow_1 (by decide) (fun c1 => ?_) (fun c1 => ?_)
  · refine lv_aload_n hx hb dX0_replaceBelow_12 rfl (lv_at hl 0 rfl) ?_
    refine gA_left C P dX0_replaceBelow_13 ?_
    refine lv_iload_n hx hb dX0_replaceBelow_16 rfl (lv_at hl 1 rfl) ?_
    refine lA_left (v := (S 2 (ix g))) C P hg rfl dX0_replaceBelow_17 ?_
    refine lv_iload_n hx hb dX0_replaceBelow_18 rfl (lv_at hl 2 rfl) ?_
    refine lv_icmp_ne (tgt := 32) hx hb dX0_replaceBelow_19 (by decide) (fun c2 => ?_) (fun c2 => ?_)
    · refine lv_aload_n hx hb dX0_replaceBelow_32 rfl (lv_at hl 0 rfl) ?_
      refine gA_right C P dX0_replaceBelow_33 ?_
      refine lv_iload_n hx hb dX0_replaceBelow_36 rfl (lv_at hl 1 rfl) ?_
      refine lv_iload_n hx hb dX0_replaceBelow_37 rfl (lv_at hl 3 rfl) ?_
      refine sA_right C P hg dX0_replaceBelow_38 (fun H locs P => ?_)
      exact rA_v C hr hlocks P (by simp [rbS, c1, c2]) dX0_replaceBelow_39
    · refine lv_aload_n hx hb dX0_replaceBelow_22 rfl (lv_at hl 0 rfl) ?_
      refine gA_left C P dX0_replaceBelow_23 ?_
      refine lv_iload_n hx hb dX0_replaceBelow_26 rfl (lv_at hl 1 rfl) ?_
      refine lv_iload_n hx hb dX0_replaceBelow_27 rfl (lv_at hl 3 rfl) ?_
      refine sA_left C P hg dX0_replaceBelow_28 (fun H locs P => ?_)
      refine lv_goto (tgt := 39) hx hb dX0_replaceBelow_29 (by decide) ?_
      exact rA_v C hr hlocks P (by simp [rbS, c1, c2]) dX0_replaceBelow_39
  · refine lv_aload_n hx hb dX0_replaceBelow_4 rfl (lv_at hl 0 rfl) ?_
    refine lv_iload_n hx hb dX0_replaceBelow_5 rfl (lv_at hl 3 rfl) ?_
    refine pA_root C P dX0_replaceBelow_6 (fun H locs P => ?_)
    refine lv_goto (tgt := 39) hx hb dX0_replaceBelow_9 (by decide) ?_
    exact rA_v C hr hlocks P (by simp [rbS, c1]) dX0_replaceBelow_39

set_option maxHeartbeats 4000000 in
set_option maxRecDepth 100000 in
theorem mA_lift (l : Launch) (D : va_G) (a : Nat → Nat) (b : Nat → ClassId) {S : SS} {V : LL} {x : Int32} (rg : RG S) (hx0 : vp_in x 49) : MAv l D a b yX0_lift cX0_lift 4 { frames := 2, cells := 0, slots := 0, locals := 43 } [.int x] S V (lfS S x, V) := by
  refine MAv.of (by decide) rfl (Nat.le_of_ble_eq_true rfl) ?_
  intro p e s m below meth c A ls C hr hlocks P hl
  have hx := C.1
  have hb := C.2.1
  have hl : lv_has ls 4 [(0, .ref (a 0)), (1, .int x)] := hl
  refine lv_aload_n hx hb dX0_lift_0 rfl (lv_at hl 0 rfl) ?_
  refine gA_up C P dX0_lift_1 ?_
  refine lv_iload_n hx hb dX0_lift_4 rfl (lv_at hl 1 rfl) ?_
  refine lA_up (v := (S 4 (ix x))) C P hx0 rfl dX0_lift_5 ?_
  refine lv_istore_n (lv' := [(2, .int (S 4 (ix x))), (0, .ref (a 0)), (1, .int x)]) hx hb dX0_lift_6 rfl hl (by decide) rfl (fun ls hl => ?_)
  refine lv_aload_n hx hb dX0_lift_7 rfl (lv_at hl 1 rfl) ?_
  refine gA_up C P dX0_lift_8 ?_
  refine lv_iload_n hx hb dX0_lift_11 rfl (lv_at hl 0 rfl) ?_
  refine lA_up (v := (S 4 (ix (S 4 (ix x))))) C P (rgU rg hx0) rfl dX0_lift_12 ?_
  refine lv_istore_n (lv' := [(3, .int (S 4 (ix (S 4 (ix x))))), (2, .int (S 4 (ix x))), (0, .ref (a 0)), (1, .int x)]) hx hb dX0_lift_13 rfl hl (by decide) rfl (fun ls hl => ?_)
  refine lv_aload_n hx hb dX0_lift_14 rfl (lv_at hl 2 rfl) ?_
  refine gA_left C P dX0_lift_15 ?_
  refine lv_iload_n hx hb dX0_lift_18 rfl (lv_at hl 1 rfl) ?_
  refine lA_left (v := (S 2 (ix (S 4 (ix x))))) C P (rgU rg hx0) rfl dX0_lift_19 ?_
  refine lv_iload_n hx hb dX0_lift_20 rfl (lv_at hl 3 rfl) ?_
  refine lv_icmp_ne (tgt := 67) hx hb dX0_lift_21 (by decide) (fun c1 => ?_) (fun c1 => ?_)
  · refine lv_aload_n hx hb dX0_lift_67 rfl (lv_at hl 2 rfl) ?_
    refine gA_right C P dX0_lift_68 ?_
    refine lv_iload_n hx hb dX0_lift_71 rfl (lv_at hl 1 rfl) ?_
    refine lv_aload_n hx hb dX0_lift_72 rfl (lv_at hl 2 rfl) ?_
    refine gA_left C P dX0_lift_73 ?_
    refine lv_iload_n hx hb dX0_lift_76 rfl (lv_at hl 3 rfl) ?_
    refine lA_left (v := (S 2 (ix x))) C P hx0 rfl dX0_lift_77 ?_
    refine sA_right C P (rgU rg hx0) dX0_lift_78 (fun H locs P => ?_)
    have rg2 : RG (up2 S 3 (ix (S 4 (ix x))) (S 2 (ix x))) := RG_3 rg (rgL rg hx0)
    refine lv_aload_n hx hb dX0_lift_79 rfl (lv_at hl 2 rfl) ?_
    refine gA_left C P dX0_lift_80 ?_
    refine lv_iload_n hx hb dX0_lift_83 rfl (lv_at hl 3 rfl) ?_
    refine lA_left (v := (S 2 (ix x))) C P hx0 rfl dX0_lift_84 ?_
    refine lv_if_eq (tgt := 100) hx hb dX0_lift_85 (by decide) (fun c3 => ?_) (fun c3 => ?_)
    · refine lv_aload_n hx hb dX0_lift_100 rfl (lv_at hl 2 rfl) ?_
      refine gA_left C P dX0_lift_101 ?_
      refine lv_iload_n hx hb dX0_lift_104 rfl (lv_at hl 3 rfl) ?_
      refine lv_iload_n hx hb dX0_lift_105 rfl (lv_at hl 1 rfl) ?_
      refine sA_left C P hx0 dX0_lift_106 (fun H locs P => ?_)
      have rg4 : RG (up2 (up2 S 3 (ix (S 4 (ix x))) (S 2 (ix x))) 2 (ix x) (S 4 (ix x))) := RG_2 rg2 (rgU rg hx0)
      refine lv_aload_n hx hb dX0_lift_107 rfl (lv_at hl 2 rfl) ?_
      refine gA_up C P dX0_lift_108 ?_
      refine lv_iload_n hx hb dX0_lift_111 rfl (lv_at hl 1 rfl) ?_
      refine lv_iload_n hx hb dX0_lift_112 rfl (lv_at hl 3 rfl) ?_
      refine sA_up C P (rgU rg hx0) dX0_lift_113 (fun H locs P => ?_)
      have rg5 : RG (up2 (up2 (up2 S 3 (ix (S 4 (ix x))) (S 2 (ix x))) 2 (ix x) (S 4 (ix x))) 4 (ix (S 4 (ix x))) x) := RG_4 rg4 hx0
      refine lv_aload_n hx hb dX0_lift_114 rfl (lv_at hl 2 rfl) ?_
      refine gA_up C P dX0_lift_115 ?_
      refine lv_iload_n hx hb dX0_lift_118 rfl (lv_at hl 3 rfl) ?_
      refine lv_iload_n hx hb dX0_lift_119 rfl (lv_at hl 0 rfl) ?_
      refine sA_up C P hx0 dX0_lift_120 (fun H locs P => ?_)
      have rg6 : RG (up2 (up2 (up2 (up2 S 3 (ix (S 4 (ix x))) (S 2 (ix x))) 2 (ix x) (S 4 (ix x))) 4 (ix (S 4 (ix x))) x) 4 (ix x) (S 4 (ix (S 4 (ix x))))) := RG_4 rg5 (rgU rg (rgU rg hx0))
      refine lv_aload_n hx hb dX0_lift_121 rfl (lv_at hl 2 rfl) ?_
      refine lv_iload_n hx hb dX0_lift_122 rfl (lv_at hl 0 rfl) ?_
      refine lv_iload_n hx hb dX0_lift_123 rfl (lv_at hl 1 rfl) ?_
      refine lv_iload_n hx hb dX0_lift_124 rfl (lv_at hl 3 rfl) ?_
      refine cA_v (rest := []) C P 3 (mA_replaceBelow (g := (S 4 (ix (S 4 (ix x))))) l D a b (rgU rg (rgU rg hx0))) (lw_V q109 q111 qs7 q17 q112) rfl rfl (by decide +kernel) ⟨Nat.le_of_ble_eq_true rfl, Nat.le_of_ble_eq_true rfl⟩ rfl hl.1 rfl (Nat.le_of_ble_eq_true rfl) dX0_lift_125 (fun H locs P => ?_)
      have rg7 : RG (rbS (up2 (up2 (up2 (up2 S 3 (ix (S 4 (ix x))) (S 2 (ix x))) 2 (ix x) (S 4 (ix x))) 4 (ix (S 4 (ix x))) x) 4 (ix x) (S 4 (ix (S 4 (ix x))))) (S 4 (ix (S 4 (ix x)))) (S 4 (ix x)) x) := RG_rb rg6 hx0
      refine lv_aload_n hx hb dX0_lift_128 rfl (lv_at hl 2 rfl) ?_
      refine lv_iload_n hx hb dX0_lift_129 rfl (lv_at hl 1 rfl) ?_
      refine cA_v (rest := []) C P 1 (mA_pull (x := (S 4 (ix x))) l D a b rg7 (rgU rg hx0)) (lw_V q101 q103 qs5 q17 q104) rfl rfl (by decide +kernel) ⟨Nat.le_of_ble_eq_true rfl, Nat.le_of_ble_eq_true rfl⟩ rfl hl.1 rfl (Nat.le_of_ble_eq_true rfl) dX0_lift_130 (fun H locs P => ?_)
      have rg8 : RG (plS (rbS (up2 (up2 (up2 (up2 S 3 (ix (S 4 (ix x))) (S 2 (ix x))) 2 (ix x) (S 4 (ix x))) 4 (ix (S 4 (ix x))) x) 4 (ix x) (S 4 (ix (S 4 (ix x))))) (S 4 (ix (S 4 (ix x)))) (S 4 (ix x)) x) (S 4 (ix x))) := RG_pl rg7
      refine lv_aload_n hx hb dX0_lift_133 rfl (lv_at hl 2 rfl) ?_
      refine lv_iload_n hx hb dX0_lift_134 rfl (lv_at hl 3 rfl) ?_
      refine cA_v (rest := []) C P 1 (mA_pull (x := x) l D a b rg8 hx0) (lw_V q101 q103 qs5 q17 q104) rfl rfl (by decide +kernel) ⟨Nat.le_of_ble_eq_true rfl, Nat.le_of_ble_eq_true rfl⟩ rfl hl.1 rfl (Nat.le_of_ble_eq_true rfl) dX0_lift_135 (fun H locs P => ?_)
      have rg9 : RG (plS (plS (rbS (up2 (up2 (up2 (up2 S 3 (ix (S 4 (ix x))) (S 2 (ix x))) 2 (ix x) (S 4 (ix x))) 4 (ix (S 4 (ix x))) x) 4 (ix x) (S 4 (ix (S 4 (ix x))))) (S 4 (ix (S 4 (ix x)))) (S 4 (ix x)) x) (S 4 (ix x))) x) := RG_pl rg8
      exact rA_v C hr hlocks P (by simp [lfS, lfB, lfA, c1, c3]) dX0_lift_138
    · refine lv_aload_n hx hb dX0_lift_88 rfl (lv_at hl 2 rfl) ?_
      refine gA_up C P dX0_lift_89 ?_
      refine lv_aload_n hx hb dX0_lift_92 rfl (lv_at hl 2 rfl) ?_
      refine gA_left C P dX0_lift_93 ?_
      refine lv_iload_n hx hb dX0_lift_96 rfl (lv_at hl 3 rfl) ?_
      refine lA_left (v := (S 2 (ix x))) C P hx0 rfl dX0_lift_97 ?_
      refine lv_iload_n hx hb dX0_lift_98 rfl (lv_at hl 1 rfl) ?_
      refine sA_up C P (rgL rg hx0) dX0_lift_99 (fun H locs P => ?_)
      have rg10 : RG (up2 (up2 S 3 (ix (S 4 (ix x))) (S 2 (ix x))) 4 (ix (S 2 (ix x))) (S 4 (ix x))) := RG_4 rg2 (rgU rg hx0)
      refine lv_aload_n hx hb dX0_lift_100 rfl (lv_at hl 2 rfl) ?_
      refine gA_left C P dX0_lift_101 ?_
      refine lv_iload_n hx hb dX0_lift_104 rfl (lv_at hl 3 rfl) ?_
      refine lv_iload_n hx hb dX0_lift_105 rfl (lv_at hl 1 rfl) ?_
      refine sA_left C P hx0 dX0_lift_106 (fun H locs P => ?_)
      have rg11 : RG (up2 (up2 (up2 S 3 (ix (S 4 (ix x))) (S 2 (ix x))) 4 (ix (S 2 (ix x))) (S 4 (ix x))) 2 (ix x) (S 4 (ix x))) := RG_2 rg10 (rgU rg hx0)
      refine lv_aload_n hx hb dX0_lift_107 rfl (lv_at hl 2 rfl) ?_
      refine gA_up C P dX0_lift_108 ?_
      refine lv_iload_n hx hb dX0_lift_111 rfl (lv_at hl 1 rfl) ?_
      refine lv_iload_n hx hb dX0_lift_112 rfl (lv_at hl 3 rfl) ?_
      refine sA_up C P (rgU rg hx0) dX0_lift_113 (fun H locs P => ?_)
      have rg12 : RG (up2 (up2 (up2 (up2 S 3 (ix (S 4 (ix x))) (S 2 (ix x))) 4 (ix (S 2 (ix x))) (S 4 (ix x))) 2 (ix x) (S 4 (ix x))) 4 (ix (S 4 (ix x))) x) := RG_4 rg11 hx0
      refine lv_aload_n hx hb dX0_lift_114 rfl (lv_at hl 2 rfl) ?_
      refine gA_up C P dX0_lift_115 ?_
      refine lv_iload_n hx hb dX0_lift_118 rfl (lv_at hl 3 rfl) ?_
      refine lv_iload_n hx hb dX0_lift_119 rfl (lv_at hl 0 rfl) ?_
      refine sA_up C P hx0 dX0_lift_120 (fun H locs P => ?_)
      have rg13 : RG (up2 (up2 (up2 (up2 (up2 S 3 (ix (S 4 (ix x))) (S 2 (ix x))) 4 (ix (S 2 (ix x))) (S 4 (ix x))) 2 (ix x) (S 4 (ix x))) 4 (ix (S 4 (ix x))) x) 4 (ix x) (S 4 (ix (S 4 (ix x))))) := RG_4 rg12 (rgU rg (rgU rg hx0))
      refine lv_aload_n hx hb dX0_lift_121 rfl (lv_at hl 2 rfl) ?_
      refine lv_iload_n hx hb dX0_lift_122 rfl (lv_at hl 0 rfl) ?_
      refine lv_iload_n hx hb dX0_lift_123 rfl (lv_at hl 1 rfl) ?_
      refine lv_iload_n hx hb dX0_lift_124 rfl (lv_at hl 3 rfl) ?_
      refine cA_v (rest := []) C P 3 (mA_replaceBelow (g := (S 4 (ix (S 4 (ix x))))) l D a b (rgU rg (rgU rg hx0))) (lw_V q109 q111 qs7 q17 q112) rfl rfl (by decide +kernel) ⟨Nat.le_of_ble_eq_true rfl, Nat.le_of_ble_eq_true rfl⟩ rfl hl.1 rfl (Nat.le_of_ble_eq_true rfl) dX0_lift_125 (fun H locs P => ?_)
      have rg14 : RG (rbS (up2 (up2 (up2 (up2 (up2 S 3 (ix (S 4 (ix x))) (S 2 (ix x))) 4 (ix (S 2 (ix x))) (S 4 (ix x))) 2 (ix x) (S 4 (ix x))) 4 (ix (S 4 (ix x))) x) 4 (ix x) (S 4 (ix (S 4 (ix x))))) (S 4 (ix (S 4 (ix x)))) (S 4 (ix x)) x) := RG_rb rg13 hx0
      refine lv_aload_n hx hb dX0_lift_128 rfl (lv_at hl 2 rfl) ?_
      refine lv_iload_n hx hb dX0_lift_129 rfl (lv_at hl 1 rfl) ?_
      refine cA_v (rest := []) C P 1 (mA_pull (x := (S 4 (ix x))) l D a b rg14 (rgU rg hx0)) (lw_V q101 q103 qs5 q17 q104) rfl rfl (by decide +kernel) ⟨Nat.le_of_ble_eq_true rfl, Nat.le_of_ble_eq_true rfl⟩ rfl hl.1 rfl (Nat.le_of_ble_eq_true rfl) dX0_lift_130 (fun H locs P => ?_)
      have rg15 : RG (plS (rbS (up2 (up2 (up2 (up2 (up2 S 3 (ix (S 4 (ix x))) (S 2 (ix x))) 4 (ix (S 2 (ix x))) (S 4 (ix x))) 2 (ix x) (S 4 (ix x))) 4 (ix (S 4 (ix x))) x) 4 (ix x) (S 4 (ix (S 4 (ix x))))) (S 4 (ix (S 4 (ix x)))) (S 4 (ix x)) x) (S 4 (ix x))) := RG_pl rg14
      refine lv_aload_n hx hb dX0_lift_133 rfl (lv_at hl 2 rfl) ?_
      refine lv_iload_n hx hb dX0_lift_134 rfl (lv_at hl 3 rfl) ?_
      refine cA_v (rest := []) C P 1 (mA_pull (x := x) l D a b rg15 hx0) (lw_V q101 q103 qs5 q17 q104) rfl rfl (by decide +kernel) ⟨Nat.le_of_ble_eq_true rfl, Nat.le_of_ble_eq_true rfl⟩ rfl hl.1 rfl (Nat.le_of_ble_eq_true rfl) dX0_lift_135 (fun H locs P => ?_)
      have rg16 : RG (plS (plS (rbS (up2 (up2 (up2 (up2 (up2 S 3 (ix (S 4 (ix x))) (S 2 (ix x))) 4 (ix (S 2 (ix x))) (S 4 (ix x))) 2 (ix x) (S 4 (ix x))) 4 (ix (S 4 (ix x))) x) 4 (ix x) (S 4 (ix (S 4 (ix x))))) (S 4 (ix (S 4 (ix x)))) (S 4 (ix x)) x) (S 4 (ix x))) x) := RG_pl rg15
      exact rA_v C hr hlocks P (by simp [lfS, lfB, lfA, c1, c3]) dX0_lift_138
  · refine lv_aload_n hx hb dX0_lift_24 rfl (lv_at hl 2 rfl) ?_
    refine gA_left C P dX0_lift_25 ?_
    refine lv_iload_n hx hb dX0_lift_28 rfl (lv_at hl 1 rfl) ?_
    refine lv_aload_n hx hb dX0_lift_29 rfl (lv_at hl 2 rfl) ?_
    refine gA_right C P dX0_lift_30 ?_
    refine lv_iload_n hx hb dX0_lift_33 rfl (lv_at hl 3 rfl) ?_
    refine lA_right (v := (S 3 (ix x))) C P hx0 rfl dX0_lift_34 ?_
    refine sA_left C P (rgU rg hx0) dX0_lift_35 (fun H locs P => ?_)
    have rg17 : RG (up2 S 2 (ix (S 4 (ix x))) (S 3 (ix x))) := RG_2 rg (rgR rg hx0)
    refine lv_aload_n hx hb dX0_lift_36 rfl (lv_at hl 2 rfl) ?_
    refine gA_right C P dX0_lift_37 ?_
    refine lv_iload_n hx hb dX0_lift_40 rfl (lv_at hl 3 rfl) ?_
    refine lA_right (v := (S 3 (ix x))) C P hx0 rfl dX0_lift_41 ?_
    refine lv_if_eq (tgt := 57) hx hb dX0_lift_42 (by decide) (fun c18 => ?_) (fun c18 => ?_)
    · refine lv_aload_n hx hb dX0_lift_57 rfl (lv_at hl 2 rfl) ?_
      refine gA_right C P dX0_lift_58 ?_
      refine lv_iload_n hx hb dX0_lift_61 rfl (lv_at hl 3 rfl) ?_
      refine lv_iload_n hx hb dX0_lift_62 rfl (lv_at hl 1 rfl) ?_
      refine sA_right C P hx0 dX0_lift_63 (fun H locs P => ?_)
      have rg19 : RG (up2 (up2 S 2 (ix (S 4 (ix x))) (S 3 (ix x))) 3 (ix x) (S 4 (ix x))) := RG_3 rg17 (rgU rg hx0)
      refine lv_goto (tgt := 107) hx hb dX0_lift_64 (by decide) ?_
      refine lv_aload_n hx hb dX0_lift_107 rfl (lv_at hl 2 rfl) ?_
      refine gA_up C P dX0_lift_108 ?_
      refine lv_iload_n hx hb dX0_lift_111 rfl (lv_at hl 1 rfl) ?_
      refine lv_iload_n hx hb dX0_lift_112 rfl (lv_at hl 3 rfl) ?_
      refine sA_up C P (rgU rg hx0) dX0_lift_113 (fun H locs P => ?_)
      have rg20 : RG (up2 (up2 (up2 S 2 (ix (S 4 (ix x))) (S 3 (ix x))) 3 (ix x) (S 4 (ix x))) 4 (ix (S 4 (ix x))) x) := RG_4 rg19 hx0
      refine lv_aload_n hx hb dX0_lift_114 rfl (lv_at hl 2 rfl) ?_
      refine gA_up C P dX0_lift_115 ?_
      refine lv_iload_n hx hb dX0_lift_118 rfl (lv_at hl 3 rfl) ?_
      refine lv_iload_n hx hb dX0_lift_119 rfl (lv_at hl 0 rfl) ?_
      refine sA_up C P hx0 dX0_lift_120 (fun H locs P => ?_)
      have rg21 : RG (up2 (up2 (up2 (up2 S 2 (ix (S 4 (ix x))) (S 3 (ix x))) 3 (ix x) (S 4 (ix x))) 4 (ix (S 4 (ix x))) x) 4 (ix x) (S 4 (ix (S 4 (ix x))))) := RG_4 rg20 (rgU rg (rgU rg hx0))
      refine lv_aload_n hx hb dX0_lift_121 rfl (lv_at hl 2 rfl) ?_
      refine lv_iload_n hx hb dX0_lift_122 rfl (lv_at hl 0 rfl) ?_
      refine lv_iload_n hx hb dX0_lift_123 rfl (lv_at hl 1 rfl) ?_
      refine lv_iload_n hx hb dX0_lift_124 rfl (lv_at hl 3 rfl) ?_
      refine cA_v (rest := []) C P 3 (mA_replaceBelow (g := (S 4 (ix (S 4 (ix x))))) l D a b (rgU rg (rgU rg hx0))) (lw_V q109 q111 qs7 q17 q112) rfl rfl (by decide +kernel) ⟨Nat.le_of_ble_eq_true rfl, Nat.le_of_ble_eq_true rfl⟩ rfl hl.1 rfl (Nat.le_of_ble_eq_true rfl) dX0_lift_125 (fun H locs P => ?_)
      have rg22 : RG (rbS (up2 (up2 (up2 (up2 S 2 (ix (S 4 (ix x))) (S 3 (ix x))) 3 (ix x) (S 4 (ix x))) 4 (ix (S 4 (ix x))) x) 4 (ix x) (S 4 (ix (S 4 (ix x))))) (S 4 (ix (S 4 (ix x)))) (S 4 (ix x)) x) := RG_rb rg21 hx0
      refine lv_aload_n hx hb dX0_lift_128 rfl (lv_at hl 2 rfl) ?_
      refine lv_iload_n hx hb dX0_lift_129 rfl (lv_at hl 1 rfl) ?_
      refine cA_v (rest := []) C P 1 (mA_pull (x := (S 4 (ix x))) l D a b rg22 (rgU rg hx0)) (lw_V q101 q103 qs5 q17 q104) rfl rfl (by decide +kernel) ⟨Nat.le_of_ble_eq_true rfl, Nat.le_of_ble_eq_true rfl⟩ rfl hl.1 rfl (Nat.le_of_ble_eq_true rfl) dX0_lift_130 (fun H locs P => ?_)
      have rg23 : RG (plS (rbS (up2 (up2 (up2 (up2 S 2 (ix (S 4 (ix x))) (S 3 (ix x))) 3 (ix x) (S 4 (ix x))) 4 (ix (S 4 (ix x))) x) 4 (ix x) (S 4 (ix (S 4 (ix x))))) (S 4 (ix (S 4 (ix x)))) (S 4 (ix x)) x) (S 4 (ix x))) := RG_pl rg22
      refine lv_aload_n hx hb dX0_lift_133 rfl (lv_at hl 2 rfl) ?_
      refine lv_iload_n hx hb dX0_lift_134 rfl (lv_at hl 3 rfl) ?_
      refine cA_v (rest := []) C P 1 (mA_pull (x := x) l D a b rg23 hx0) (lw_V q101 q103 qs5 q17 q104) rfl rfl (by decide +kernel) ⟨Nat.le_of_ble_eq_true rfl, Nat.le_of_ble_eq_true rfl⟩ rfl hl.1 rfl (Nat.le_of_ble_eq_true rfl) dX0_lift_135 (fun H locs P => ?_)
      have rg24 : RG (plS (plS (rbS (up2 (up2 (up2 (up2 S 2 (ix (S 4 (ix x))) (S 3 (ix x))) 3 (ix x) (S 4 (ix x))) 4 (ix (S 4 (ix x))) x) 4 (ix x) (S 4 (ix (S 4 (ix x))))) (S 4 (ix (S 4 (ix x)))) (S 4 (ix x)) x) (S 4 (ix x))) x) := RG_pl rg23
      exact rA_v C hr hlocks P (by simp [lfS, lfB, lfA, c1, c18]) dX0_lift_138
    · refine lv_aload_n hx hb dX0_lift_45 rfl (lv_at hl 2 rfl) ?_
      refine gA_up C P dX0_lift_46 ?_
      refine lv_aload_n hx hb dX0_lift_49 rfl (lv_at hl 2 rfl) ?_
      refine gA_right C P dX0_lift_50 ?_
      refine lv_iload_n hx hb dX0_lift_53 rfl (lv_at hl 3 rfl) ?_
      refine lA_right (v := (S 3 (ix x))) C P hx0 rfl dX0_lift_54 ?_
      refine lv_iload_n hx hb dX0_lift_55 rfl (lv_at hl 1 rfl) ?_
      refine sA_up C P (rgR rg hx0) dX0_lift_56 (fun H locs P => ?_)
      have rg25 : RG (up2 (up2 S 2 (ix (S 4 (ix x))) (S 3 (ix x))) 4 (ix (S 3 (ix x))) (S 4 (ix x))) := RG_4 rg17 (rgU rg hx0)
      refine lv_aload_n hx hb dX0_lift_57 rfl (lv_at hl 2 rfl) ?_
      refine gA_right C P dX0_lift_58 ?_
      refine lv_iload_n hx hb dX0_lift_61 rfl (lv_at hl 3 rfl) ?_
      refine lv_iload_n hx hb dX0_lift_62 rfl (lv_at hl 1 rfl) ?_
      refine sA_right C P hx0 dX0_lift_63 (fun H locs P => ?_)
      have rg26 : RG (up2 (up2 (up2 S 2 (ix (S 4 (ix x))) (S 3 (ix x))) 4 (ix (S 3 (ix x))) (S 4 (ix x))) 3 (ix x) (S 4 (ix x))) := RG_3 rg25 (rgU rg hx0)
      refine lv_goto (tgt := 107) hx hb dX0_lift_64 (by decide) ?_
      refine lv_aload_n hx hb dX0_lift_107 rfl (lv_at hl 2 rfl) ?_
      refine gA_up C P dX0_lift_108 ?_
      refine lv_iload_n hx hb dX0_lift_111 rfl (lv_at hl 1 rfl) ?_
      refine lv_iload_n hx hb dX0_lift_112 rfl (lv_at hl 3 rfl) ?_
      refine sA_up C P (rgU rg hx0) dX0_lift_113 (fun H locs P => ?_)
      have rg27 : RG (up2 (up2 (up2 (up2 S 2 (ix (S 4 (ix x))) (S 3 (ix x))) 4 (ix (S 3 (ix x))) (S 4 (ix x))) 3 (ix x) (S 4 (ix x))) 4 (ix (S 4 (ix x))) x) := RG_4 rg26 hx0
      refine lv_aload_n hx hb dX0_lift_114 rfl (lv_at hl 2 rfl) ?_
      refine gA_up C P dX0_lift_115 ?_
      refine lv_iload_n hx hb dX0_lift_118 rfl (lv_at hl 3 rfl) ?_
      refine lv_iload_n hx hb dX0_lift_119 rfl (lv_at hl 0 rfl) ?_
      refine sA_up C P hx0 dX0_lift_120 (fun H locs P => ?_)
      have rg28 : RG (up2 (up2 (up2 (up2 (up2 S 2 (ix (S 4 (ix x))) (S 3 (ix x))) 4 (ix (S 3 (ix x))) (S 4 (ix x))) 3 (ix x) (S 4 (ix x))) 4 (ix (S 4 (ix x))) x) 4 (ix x) (S 4 (ix (S 4 (ix x))))) := RG_4 rg27 (rgU rg (rgU rg hx0))
      refine lv_aload_n hx hb dX0_lift_121 rfl (lv_at hl 2 rfl) ?_
      refine lv_iload_n hx hb dX0_lift_122 rfl (lv_at hl 0 rfl) ?_
      refine lv_iload_n hx hb dX0_lift_123 rfl (lv_at hl 1 rfl) ?_
      refine lv_iload_n hx hb dX0_lift_124 rfl (lv_at hl 3 rfl) ?_
      refine cA_v (rest := []) C P 3 (mA_replaceBelow (g := (S 4 (ix (S 4 (ix x))))) l D a b (rgU rg (rgU rg hx0))) (lw_V q109 q111 qs7 q17 q112) rfl rfl (by decide +kernel) ⟨Nat.le_of_ble_eq_true rfl, Nat.le_of_ble_eq_true rfl⟩ rfl hl.1 rfl (Nat.le_of_ble_eq_true rfl) dX0_lift_125 (fun H locs P => ?_)
      have rg29 : RG (rbS (up2 (up2 (up2 (up2 (up2 S 2 (ix (S 4 (ix x))) (S 3 (ix x))) 4 (ix (S 3 (ix x))) (S 4 (ix x))) 3 (ix x) (S 4 (ix x))) 4 (ix (S 4 (ix x))) x) 4 (ix x) (S 4 (ix (S 4 (ix x))))) (S 4 (ix (S 4 (ix x)))) (S 4 (ix x)) x) := RG_rb rg28 hx0
      refine lv_aload_n hx hb dX0_lift_128 rfl (lv_at hl 2 rfl) ?_
      refine lv_iload_n hx hb dX0_lift_129 rfl (lv_at hl 1 rfl) ?_
      refine cA_v (rest := []) C P 1 (mA_pull (x := (S 4 (ix x))) l D a b rg29 (rgU rg hx0)) (lw_V q101 q103 qs5 q17 q104) rfl rfl (by decide +kernel) ⟨Nat.le_of_ble_eq_true rfl, Nat.le_of_ble_eq_true rfl⟩ rfl hl.1 rfl (Nat.le_of_ble_eq_true rfl) dX0_lift_130 (fun H locs P => ?_)
      have rg30 : RG (plS (rbS (up2 (up2 (up2 (up2 (up2 S 2 (ix (S 4 (ix x))) (S 3 (ix x))) 4 (ix (S 3 (ix x))) (S 4 (ix x))) 3 (ix x) (S 4 (ix x))) 4 (ix (S 4 (ix x))) x) 4 (ix x) (S 4 (ix (S 4 (ix x))))) (S 4 (ix (S 4 (ix x)))) (S 4 (ix x)) x) (S 4 (ix x))) := RG_pl rg29
      refine lv_aload_n hx hb dX0_lift_133 rfl (lv_at hl 2 rfl) ?_
      refine lv_iload_n hx hb dX0_lift_134 rfl (lv_at hl 3 rfl) ?_
      refine cA_v (rest := []) C P 1 (mA_pull (x := x) l D a b rg30 hx0) (lw_V q101 q103 qs5 q17 q104) rfl rfl (by decide +kernel) ⟨Nat.le_of_ble_eq_true rfl, Nat.le_of_ble_eq_true rfl⟩ rfl hl.1 rfl (Nat.le_of_ble_eq_true rfl) dX0_lift_135 (fun H locs P => ?_)
      have rg31 : RG (plS (plS (rbS (up2 (up2 (up2 (up2 (up2 S 2 (ix (S 4 (ix x))) (S 3 (ix x))) 4 (ix (S 3 (ix x))) (S 4 (ix x))) 3 (ix x) (S 4 (ix x))) 4 (ix (S 4 (ix x))) x) 4 (ix x) (S 4 (ix (S 4 (ix x))))) (S 4 (ix (S 4 (ix x)))) (S 4 (ix x)) x) (S 4 (ix x))) x) := RG_pl rg30
      exact rA_v C hr hlocks P (by simp [lfS, lfB, lfA, c1, c18]) dX0_lift_138
end
section
set_option maxHeartbeats 4000000 in
set_option maxRecDepth 100000 in
theorem lpA_hang2 {p : Program} {l : Launch} {e : Env} {s : State} {m : MethodId} {args : Array Value} {below : List Frame} {meth : Method} {c : Code} {D : va_G} {A : Nat → Prop} {a : Nat → Nat} {b : Nat → ClassId} {V : LL} (C : CX p s m c args cX0_hang 5 RX0 A D (tA b)) (hr : meth.sig.returnType = none) (hlocks : meth.locks = false) (made x : Int32) (hm : vp_in made 49) (T : SS) : ∀ (n i : Nat) (S : SS) (H : Heap) (locs : List Loc) (ls : Array Slot), i + n = 48 → RG S → lnS n S made = T → PA D A a b S V s.heap H locs → lv_has ls 5 [(0, .ref (a 0)), (1, .int made), (2, .int x), (3, .int (nI i))] → W p l e ({ frames := 3, cells := 0, slots := 0, locals := 66 }) s m args below meth c H locs 0 0 (QAv D a b A (T, V) below args s) (F0 m 116 ls []) := by
  have hx := C.1
  have hb := C.2.1
  intro n
  induction n with
  | zero =>
    intro i S H locs ls hi rg hT P hl
    have hi : i = 48 := by omega
    subst hi
    refine lv_iload_n hx hb dX0_hang_116 rfl (lv_at hl 3 rfl) ?_
    refine lv_bipush (v := (nI 48)) hx hb dX0_hang_117 (by decide) ?_
    refine lv_icmp_ge (tgt := 162) hx hb dX0_hang_119 (by decide) (fun c1 => ?_) (fun c1 => absurd (nI_le (Nat.le_refl 48) (by decide)) c1)
    exact rA_v C hr hlocks P (by rw [← hT]; rfl) dX0_hang_162
  | succ n ih =>
    intro i S H locs ls hi rg hT P hl
    have hi2 : i < 48 := by omega
    refine lv_iload_n hx hb dX0_hang_116 rfl (lv_at hl 3 rfl) ?_
    refine lv_bipush (v := (nI 48)) hx hb dX0_hang_117 (by decide) ?_
    refine lv_icmp_ge (tgt := 162) hx hb dX0_hang_119 (by decide) (fun c1 => absurd c1 (nI_ge hi2 (by decide))) (fun c1 => ?_)
    refine lv_aload_n hx hb dX0_hang_122 rfl (lv_at hl 0 rfl) ?_
    refine gA_up C P dX0_hang_123 ?_
    refine lv_iload_n hx hb dX0_hang_126 rfl (lv_at hl 1 rfl) ?_
    refine lA_up (v := (S 4 (ix made))) C P hm rfl dX0_hang_127 ?_
    refine lv_if_eq (tgt := 162) hx hb dX0_hang_128 (by decide) (fun c2 => ?_) (fun c2 => ?_)
    · exact rA_v C hr hlocks P (by rw [← hT]; simp [lnS, c2]) dX0_hang_162
    · refine lv_aload_n hx hb dX0_hang_131 rfl (lv_at hl 0 rfl) ?_
      refine gA_rank C P dX0_hang_132 ?_
      refine lv_aload_n hx hb dX0_hang_135 rfl (lv_at hl 0 rfl) ?_
      refine gA_up C P dX0_hang_136 ?_
      refine lv_iload_n hx hb dX0_hang_139 rfl (lv_at hl 1 rfl) ?_
      refine lA_up (v := (S 4 (ix made))) C P hm rfl dX0_hang_140 ?_
      refine lA_rank (v := (S 5 (ix (S 4 (ix made))))) C P (rgU rg hm) rfl dX0_hang_141 ?_
      refine lv_aload_n hx hb dX0_hang_142 rfl (lv_at hl 0 rfl) ?_
      refine gA_rank C P dX0_hang_143 ?_
      refine lv_iload_n hx hb dX0_hang_146 rfl (lv_at hl 1 rfl) ?_
      refine lA_rank (v := (S 5 (ix made))) C P hm rfl dX0_hang_147 ?_
      refine lv_icmp_ge (tgt := 162) hx hb dX0_hang_148 (by decide) (fun c3 => ?_) (fun c3 => ?_)
      · exact rA_v C hr hlocks P (by rw [← hT]; simp [lnS, c2, c3]) dX0_hang_162
      · refine lv_aload_n hx hb dX0_hang_151 rfl (lv_at hl 0 rfl) ?_
        refine lv_iload_n hx hb dX0_hang_152 rfl (lv_at hl 1 rfl) ?_
        refine cA_v (rest := []) C P 1 (mA_lift (x := made) l D a b rg hm) (lw_V q105 q107 qs6 q17 q108) rfl rfl (by decide +kernel) ⟨Nat.le_of_ble_eq_true rfl, Nat.le_of_ble_eq_true rfl⟩ rfl hl.1 rfl (Nat.le_of_ble_eq_true rfl) dX0_hang_153 (fun H locs P => ?_)
        have rg4 : RG (lfS S made) := RG_lf rg hm
        refine lv_iinc (v := (nI (i + 1))) (lv' := [(3, .int (nI (i + 1))), (0, .ref (a 0)), (1, .int made), (2, .int x)]) hx hb dX0_hang_156 hl (k := 3) rfl (nI_1 i) (by decide) rfl (fun ls hl => ?_)
        refine lv_goto (tgt := 116) hx hb dX0_hang_159 (by decide) ?_
        exact ih (i + 1) (lfS S made) H locs ls (by omega) rg4 (by rw [← hT]; simp [lnS, c2, c3]) P (lv_sub hl [1, 2, 3, 0] rfl)

set_option maxHeartbeats 4000000 in
set_option maxRecDepth 100000 in
theorem lpA_hang1 {p : Program} {l : Launch} {e : Env} {s : State} {m : MethodId} {args : Array Value} {below : List Frame} {meth : Method} {c : Code} {D : va_G} {A : Nat → Prop} {a : Nat → Nat} {b : Nat → ClassId} {V : LL} (C : CX p s m c args cX0_hang 5 RX0 A D (tA b)) (hr : meth.sig.returnType = none) (hlocks : meth.locks = false) (made x : Int32) (hm : vp_in made 49) (T : SS) : ∀ (S : SS) (H : Heap) (locs : List Loc) (ls : Array Slot), RG S → lnS 48 (puS 48 S made) made = T → PA D A a b S V s.heap H locs → lv_has ls 5 [(0, .ref (a 0)), (1, .int made), (2, .int x)] → W p l e ({ frames := 3, cells := 0, slots := 0, locals := 66 }) s m args below meth c H locs 0 0 (QAv D a b A (T, V) below args s) (F0 m 109 ls []) := by
  have hx := C.1
  have hb := C.2.1
  intro S H locs ls rg hT P hl
  refine lv_aload_n hx hb dX0_hang_109 rfl (lv_at hl 0 rfl) ?_
  refine lv_iload_n hx hb dX0_hang_110 rfl (lv_at hl 1 rfl) ?_
  refine cA_v (rest := []) C P 1 (mA_pullUp (x := made) l D a b rg hm) (lw_V q97 q99 qs4 q17 q100) rfl rfl (by decide +kernel) ⟨Nat.le_of_ble_eq_true rfl, Nat.le_of_ble_eq_true rfl⟩ rfl hl.1 rfl (Nat.le_of_ble_eq_true rfl) dX0_hang_111 (fun H locs P => ?_)
  have rg1 : RG (puS 48 S made) := RG_pu rg
  refine lv_iconst (v := (nI 0)) hx hb dX0_hang_114 (by decide) ?_
  refine lv_istore_n (lv' := [(3, .int (nI 0)), (0, .ref (a 0)), (1, .int made), (2, .int x)]) hx hb dX0_hang_115 rfl hl (by decide) rfl (fun ls hl => ?_)
  exact lpA_hang2 C hr hlocks made x hm _ 48 0 (puS 48 S made) _ _ _ rfl rg1 hT P (lv_sub hl [1, 2, 3, 0] rfl)

set_option maxHeartbeats 4000000 in
set_option maxRecDepth 100000 in
theorem lpA_hang0 {p : Program} {l : Launch} {e : Env} {s : State} {m : MethodId} {args : Array Value} {below : List Frame} {meth : Method} {c : Code} {D : va_G} {A : Nat → Prop} {a : Nat → Nat} {b : Nat → ClassId} {V : LL} (C : CX p s m c args cX0_hang 5 RX0 A D (tA b)) (hr : meth.sig.returnType = none) (hlocks : meth.locks = false) {S : SS} (rg : RG S) (made x : Int32) (hm : vp_in made 49) (T : SS) : ∀ (n i : Nat) (z : Int32) (H : Heap) (locs : List Loc) (ls : Array Slot), i + n = 48 → vp_in z 49 → lnS 48 (puS 48 (hkS S made (lmF n S z)) made) made = T → PA D A a b S V s.heap H locs → lv_has ls 5 [(0, .ref (a 0)), (1, .int made), (2, .int x), (3, .int z), (4, .int (nI i))] → W p l e ({ frames := 3, cells := 0, slots := 0, locals := 66 }) s m args below meth c H locs 0 0 (QAv D a b A (T, V) below args s) (F0 m 66 ls []) := by
  have hx := C.1
  have hb := C.2.1
  intro n
  induction n with
  | zero =>
    intro i z H locs ls hi hz hT P hl
    have hi : i = 48 := by omega
    subst hi
    refine lv_iload hx hb dX0_hang_66 (lv_at hl 4 rfl) ?_
    refine lv_bipush (v := (nI 48)) hx hb dX0_hang_68 (by decide) ?_
    refine lv_icmp_ge (tgt := 95) hx hb dX0_hang_70 (by decide) (fun c1 => ?_) (fun c1 => absurd (nI_le (Nat.le_refl 48) (by decide)) c1)
    refine lv_aload_n hx hb dX0_hang_95 rfl (lv_at hl 0 rfl) ?_
    refine gA_left C P dX0_hang_96 ?_
    refine lv_iload_n hx hb dX0_hang_99 rfl (lv_at hl 3 rfl) ?_
    refine lv_iload_n hx hb dX0_hang_100 rfl (lv_at hl 1 rfl) ?_
    refine sA_left C P hz dX0_hang_101 (fun H locs P => ?_)
    have rg2 : RG (up2 S 2 (ix z) made) := RG_2 rg hm
    refine lv_aload_n hx hb dX0_hang_102 rfl (lv_at hl 0 rfl) ?_
    refine gA_up C P dX0_hang_103 ?_
    refine lv_iload_n hx hb dX0_hang_106 rfl (lv_at hl 1 rfl) ?_
    refine lv_iload_n hx hb dX0_hang_107 rfl (lv_at hl 3 rfl) ?_
    refine sA_up C P hm dX0_hang_108 (fun H locs P => ?_)
    have rg3 : RG (up2 (up2 S 2 (ix z) made) 4 (ix made) z) := RG_4 rg2 hz
    exact lpA_hang1 C hr hlocks made x hm _ (up2 (up2 S 2 (ix z) made) 4 (ix made) z) _ _ _ rg3 hT P (lv_sub hl [0, 1, 2] rfl)
  | succ n ih =>
    intro i z H locs ls hi hz hT P hl
    have hi2 : i < 48 := by omega
    refine lv_iload hx hb dX0_hang_66 (lv_at hl 4 rfl) ?_
    refine lv_bipush (v := (nI 48)) hx hb dX0_hang_68 (by decide) ?_
    refine lv_icmp_ge (tgt := 95) hx hb dX0_hang_70 (by decide) (fun c1 => absurd c1 (nI_ge hi2 (by decide))) (fun c1 => ?_)
    refine lv_aload_n hx hb dX0_hang_73 rfl (lv_at hl 0 rfl) ?_
    refine gA_left C P dX0_hang_74 ?_
    refine lv_iload_n hx hb dX0_hang_77 rfl (lv_at hl 3 rfl) ?_
    refine lA_left (v := (S 2 (ix z))) C P hz rfl dX0_hang_78 ?_
    refine lv_if_eq (tgt := 95) hx hb dX0_hang_79 (by decide) (fun c2 => ?_) (fun c2 => ?_)
    · refine lv_aload_n hx hb dX0_hang_95 rfl (lv_at hl 0 rfl) ?_
      refine gA_left C P dX0_hang_96 ?_
      refine lv_iload_n hx hb dX0_hang_99 rfl (lv_at hl 3 rfl) ?_
      refine lv_iload_n hx hb dX0_hang_100 rfl (lv_at hl 1 rfl) ?_
      refine sA_left C P hz dX0_hang_101 (fun H locs P => ?_)
      have rg3 : RG (up2 S 2 (ix z) made) := RG_2 rg hm
      refine lv_aload_n hx hb dX0_hang_102 rfl (lv_at hl 0 rfl) ?_
      refine gA_up C P dX0_hang_103 ?_
      refine lv_iload_n hx hb dX0_hang_106 rfl (lv_at hl 1 rfl) ?_
      refine lv_iload_n hx hb dX0_hang_107 rfl (lv_at hl 3 rfl) ?_
      refine sA_up C P hm dX0_hang_108 (fun H locs P => ?_)
      have rg4 : RG (up2 (up2 S 2 (ix z) made) 4 (ix made) z) := RG_4 rg3 hz
      exact lpA_hang1 C hr hlocks made x hm _ (up2 (up2 S 2 (ix z) made) 4 (ix made) z) _ _ _ rg4 (by rw [← hT]; simp [lmF, c2, hkS]) P (lv_sub hl [0, 1, 2] rfl)
    · refine lv_aload_n hx hb dX0_hang_82 rfl (lv_at hl 0 rfl) ?_
      refine gA_left C P dX0_hang_83 ?_
      refine lv_iload_n hx hb dX0_hang_86 rfl (lv_at hl 3 rfl) ?_
      refine lA_left (v := (S 2 (ix z))) C P hz rfl dX0_hang_87 ?_
      refine lv_istore_n (lv' := [(3, .int (S 2 (ix z))), (0, .ref (a 0)), (1, .int made), (2, .int x), (4, .int (nI i))]) hx hb dX0_hang_88 rfl hl (by decide) rfl (fun ls hl => ?_)
      refine lv_iinc (v := (nI (i + 1))) (lv' := [(4, .int (nI (i + 1))), (3, .int (S 2 (ix z))), (0, .ref (a 0)), (1, .int made), (2, .int x)]) hx hb dX0_hang_89 hl (k := 4) rfl (nI_1 i) (by decide) rfl (fun ls hl => ?_)
      refine lv_goto (tgt := 66) hx hb dX0_hang_92 (by decide) ?_
      exact ih (i + 1) (S 2 (ix z)) H locs ls (by omega) (rgL rg hz) (by rw [← hT]; simp [lmF, c2]) P (lv_sub hl [2, 3, 4, 1, 0] rfl)

set_option maxHeartbeats 4000000 in
set_option maxRecDepth 100000 in
theorem mA_hang (l : Launch) (D : va_G) (a : Nat → Nat) (b : Nat → ClassId) {S : SS} {V : LL} {made x : Int32} (rg : RG S) (hm : vp_in made 49) (hx0 : vp_in x 49) : MAv l D a b yX0_hang cX0_hang 5 { frames := 3, cells := 0, slots := 0, locals := 66 } [.int made, .int x] S V (hgS S made x, V) := by
  refine MAv.of (by decide) rfl (Nat.le_of_ble_eq_true rfl) ?_
  intro p e s m below meth c A ls C hr hlocks P hl
  have hx := C.1
  have hb := C.2.1
  have hl : lv_has ls 5 [(0, .ref (a 0)), (1, .int made), (2, .int x)] := hl
  refine lv_aload_n hx hb dX0_hang_0 rfl (lv_at hl 0 rfl) ?_
  refine gA_root (v := (S 0 1)) C P rfl dX0_hang_1 ?_
  refine lv_if_ne (tgt := 15) hx hb dX0_hang_4 (by decide) (fun c1 => ?_) (fun c1 => ?_)
  · refine lv_iload_n hx hb dX0_hang_15 rfl (lv_at hl 2 rfl) ?_
    refine lv_if_eq (tgt := 45) hx hb dX0_hang_16 (by decide) (fun c2 => ?_) (fun c2 => ?_)
    · refine lv_iload_n hx hb dX0_hang_45 rfl (lv_at hl 2 rfl) ?_
      refine lv_if_ne (tgt := 56) hx hb dX0_hang_46 (by decide) (fun c3 => ?_) (fun c3 => ?_)
      · exact absurd c2 c3
      · refine lv_aload_n hx hb dX0_hang_49 rfl (lv_at hl 0 rfl) ?_
        refine gA_root (v := (S 0 1)) C P rfl dX0_hang_50 ?_
        refine lv_goto (tgt := 62) hx hb dX0_hang_53 (by decide) ?_
        refine lv_istore_n (lv' := [(3, .int (S 0 1)), (0, .ref (a 0)), (1, .int made), (2, .int x)]) hx hb dX0_hang_62 rfl hl (by decide) rfl (fun ls hl => ?_)
        refine lv_iconst (v := (nI 0)) hx hb dX0_hang_63 (by decide) ?_
        refine lv_istore (lv' := [(4, .int (nI 0)), (3, .int (S 0 1)), (0, .ref (a 0)), (1, .int made), (2, .int x)]) hx hb dX0_hang_64 hl (by decide) rfl (fun ls hl => ?_)
        exact lpA_hang0 C hr hlocks rg made x hm _ 48 0 (S 0 1) _ _ _ rfl (rgO rg) (by simp [hgS, h1S, c1, c2, c3]) P (lv_sub hl [2, 3, 4, 1, 0] rfl)
    · refine lv_aload_n hx hb dX0_hang_19 rfl (lv_at hl 0 rfl) ?_
      refine gA_right C P dX0_hang_20 ?_
      refine lv_iload_n hx hb dX0_hang_23 rfl (lv_at hl 2 rfl) ?_
      refine lA_right (v := (S 3 (ix x))) C P hx0 rfl dX0_hang_24 ?_
      refine lv_if_ne (tgt := 45) hx hb dX0_hang_25 (by decide) (fun c4 => ?_) (fun c4 => ?_)
      · refine lv_iload_n hx hb dX0_hang_45 rfl (lv_at hl 2 rfl) ?_
        refine lv_if_ne (tgt := 56) hx hb dX0_hang_46 (by decide) (fun c5 => ?_) (fun c5 => ?_)
        · refine lv_aload_n hx hb dX0_hang_56 rfl (lv_at hl 0 rfl) ?_
          refine gA_right C P dX0_hang_57 ?_
          refine lv_iload_n hx hb dX0_hang_60 rfl (lv_at hl 2 rfl) ?_
          refine lA_right (v := (S 3 (ix x))) C P hx0 rfl dX0_hang_61 ?_
          refine lv_istore_n (lv' := [(3, .int (S 3 (ix x))), (0, .ref (a 0)), (1, .int made), (2, .int x)]) hx hb dX0_hang_62 rfl hl (by decide) rfl (fun ls hl => ?_)
          refine lv_iconst (v := (nI 0)) hx hb dX0_hang_63 (by decide) ?_
          refine lv_istore (lv' := [(4, .int (nI 0)), (3, .int (S 3 (ix x))), (0, .ref (a 0)), (1, .int made), (2, .int x)]) hx hb dX0_hang_64 hl (by decide) rfl (fun ls hl => ?_)
          exact lpA_hang0 C hr hlocks rg made x hm _ 48 0 (S 3 (ix x)) _ _ _ rfl (rgR rg hx0) (by simp [hgS, h1S, c1, c2, c4, c5]) P (lv_sub hl [2, 3, 4, 1, 0] rfl)
        · exact absurd c5 c2
      · refine lv_aload_n hx hb dX0_hang_28 rfl (lv_at hl 0 rfl) ?_
        refine gA_right C P dX0_hang_29 ?_
        refine lv_iload_n hx hb dX0_hang_32 rfl (lv_at hl 2 rfl) ?_
        refine lv_iload_n hx hb dX0_hang_33 rfl (lv_at hl 1 rfl) ?_
        refine sA_right C P hx0 dX0_hang_34 (fun H locs P => ?_)
        have rg6 : RG (up2 S 3 (ix x) made) := RG_3 rg hm
        refine lv_aload_n hx hb dX0_hang_35 rfl (lv_at hl 0 rfl) ?_
        refine gA_up C P dX0_hang_36 ?_
        refine lv_iload_n hx hb dX0_hang_39 rfl (lv_at hl 1 rfl) ?_
        refine lv_iload_n hx hb dX0_hang_40 rfl (lv_at hl 2 rfl) ?_
        refine sA_up C P hm dX0_hang_41 (fun H locs P => ?_)
        have rg7 : RG (up2 (up2 S 3 (ix x) made) 4 (ix made) x) := RG_4 rg6 hx0
        refine lv_goto (tgt := 109) hx hb dX0_hang_42 (by decide) ?_
        exact lpA_hang1 C hr hlocks made x hm _ (up2 (up2 S 3 (ix x) made) 4 (ix made) x) _ _ _ rg7 (by simp [hgS, h1S, c1, c2, c4]) P (lv_sub hl [0, 1, 2] rfl)
  · refine lv_aload_n hx hb dX0_hang_7 rfl (lv_at hl 0 rfl) ?_
    refine lv_iload_n hx hb dX0_hang_8 rfl (lv_at hl 1 rfl) ?_
    refine pA_root C P dX0_hang_9 (fun H locs P => ?_)
    have rg8 : RG (up2 S 0 1 made) := RG_root rg hm
    refine lv_goto (tgt := 109) hx hb dX0_hang_12 (by decide) ?_
    exact lpA_hang1 C hr hlocks made x hm _ (up2 S 0 1 made) _ _ _ rg8 (by simp [hgS, h1S, c1]) P (lv_sub hl [0, 1, 2] rfl)
end
section
set_option maxHeartbeats 4000000 in
set_option maxRecDepth 100000 in
theorem lpA_nodeAt {p : Program} {l : Launch} {e : Env} {s : State} {m : MethodId} {args : Array Value} {below : List Frame} {meth : Method} {c : Code} {D : va_G} {A : Nat → Prop} {a : Nat → Nat} {b : Nat → ClassId} {V : LL} (C : CX p s m c args cX0_nodeAt 6 RX0 A D (tA b)) (hr : meth.sig.returnType = (some .int)) (hlocks : meth.locks = false) {S : SS} (rg : RG S) (q v : Int32) : ∀ (n i : Nat) (x r : Int32) (H : Heap) (locs : List Loc) (ls : Array Slot), i + n = 48 → vp_in x 49 → naF n S x r = v → PA D A a b S V s.heap H locs → lv_has ls 6 [(0, .ref (a 0)), (1, .int q), (2, .int x), (3, .int r), (4, .int (nI i))] → W p l e ({ frames := 1, cells := 0, slots := 0, locals := 21 }) s m args below meth c H locs 0 0 (QAi D a b A (v, S, V) below args s) (F0 m 10 ls []) := by
  have hx := C.1
  have hb := C.2.1
  intro n
  induction n with
  | zero =>
    intro i x r H locs ls hi hx0 hT P hl
    have hi : i = 48 := by omega
    subst hi
    refine lv_iload hx hb dX0_nodeAt_10 (lv_at hl 4 rfl) ?_
    refine lv_bipush (v := (nI 48)) hx hb dX0_nodeAt_12 (by decide) ?_
    refine lv_icmp_ge (tgt := 94) hx hb dX0_nodeAt_14 (by decide) (fun c1 => ?_) (fun c1 => absurd (nI_le (Nat.le_refl 48) (by decide)) c1)
    refine lv_iload_n hx hb dX0_nodeAt_94 rfl (lv_at hl 2 rfl) ?_
    exact rA_i C hr hlocks P (by rw [← hT]; rfl) dX0_nodeAt_95
  | succ n ih =>
    intro i x r H locs ls hi hx0 hT P hl
    have hi2 : i < 48 := by omega
    refine lv_iload hx hb dX0_nodeAt_10 (lv_at hl 4 rfl) ?_
    refine lv_bipush (v := (nI 48)) hx hb dX0_nodeAt_12 (by decide) ?_
    refine lv_icmp_ge (tgt := 94) hx hb dX0_nodeAt_14 (by decide) (fun c1 => absurd c1 (nI_ge hi2 (by decide))) (fun c1 => ?_)
    refine lv_aload_n hx hb dX0_nodeAt_17 rfl (lv_at hl 0 rfl) ?_
    refine gA_shownIn C P dX0_nodeAt_18 ?_
    refine lv_aload_n hx hb dX0_nodeAt_21 rfl (lv_at hl 0 rfl) ?_
    refine gA_left C P dX0_nodeAt_22 ?_
    refine lv_iload_n hx hb dX0_nodeAt_25 rfl (lv_at hl 2 rfl) ?_
    refine lA_left (v := (S 2 (ix x))) C P hx0 rfl dX0_nodeAt_26 ?_
    refine lA_shownIn (v := (S 6 (ix (S 2 (ix x))))) C P (rgL rg hx0) rfl dX0_nodeAt_27 ?_
    refine lv_istore (lv' := [(5, .int (S 6 (ix (S 2 (ix x))))), (0, .ref (a 0)), (1, .int q), (2, .int x), (3, .int r), (4, .int (nI i))]) hx hb dX0_nodeAt_28 hl (by decide) rfl (fun ls hl => ?_)
    refine lv_iload_n hx hb dX0_nodeAt_30 rfl (lv_at hl 4 rfl) ?_
    refine lv_iload hx hb dX0_nodeAt_31 (lv_at hl 0 rfl) ?_
    refine lv_icmp_ge (tgt := 46) hx hb dX0_nodeAt_33 (by decide) (fun c2 => ?_) (fun c2 => ?_)
    · refine lv_iload_n hx hb dX0_nodeAt_46 rfl (lv_at hl 4 rfl) ?_
      refine lv_iload hx hb dX0_nodeAt_47 (lv_at hl 0 rfl) ?_
      refine lv_icmp_ne (tgt := 62) hx hb dX0_nodeAt_49 (by decide) (fun c3 => ?_) (fun c3 => ?_)
      · refine lv_iload_n hx hb dX0_nodeAt_62 rfl (lv_at hl 4 rfl) ?_
        refine lv_iload hx hb dX0_nodeAt_63 (lv_at hl 0 rfl) ?_
        refine lv_isub hx hb dX0_nodeAt_65 ?_
        refine lv_aload_n hx hb dX0_nodeAt_66 rfl (lv_at hl 1 rfl) ?_
        refine lv_iload_n hx hb dX0_nodeAt_67 rfl (lv_at hl 3 rfl) ?_
        refine cA_i (rest := [.int (r - (S 6 (ix (S 2 (ix x)))))]) C P 1 (mA_shown (x := x) l D a b rg hx0) (lw_V q88 q90 qs2 q17 q91) rfl rfl (by decide +kernel) ⟨Nat.le_of_ble_eq_true rfl, Nat.le_of_ble_eq_true rfl⟩ rfl hl.1 rfl (Nat.le_of_ble_eq_true rfl) dX0_nodeAt_68 (fun H locs P => ?_)
        refine lv_if_eq (tgt := 78) hx hb dX0_nodeAt_71 (by decide) (fun c4 => ?_) (fun c4 => ?_)
        · refine lv_iconst (v := 0) hx hb dX0_nodeAt_78 (by decide) ?_
          refine lv_isub hx hb dX0_nodeAt_79 ?_
          refine lv_istore_n (lv' := [(3, .int ((r - (S 6 (ix (S 2 (ix x))))) - 0)), (5, .int (S 6 (ix (S 2 (ix x))))), (0, .ref (a 0)), (1, .int q), (2, .int x), (4, .int (nI i))]) hx hb dX0_nodeAt_80 rfl hl (by decide) rfl (fun ls hl => ?_)
          refine lv_aload_n hx hb dX0_nodeAt_81 rfl (lv_at hl 2 rfl) ?_
          refine gA_right C P dX0_nodeAt_82 ?_
          refine lv_iload_n hx hb dX0_nodeAt_85 rfl (lv_at hl 4 rfl) ?_
          refine lA_right (v := (S 3 (ix x))) C P hx0 rfl dX0_nodeAt_86 ?_
          refine lv_istore_n (lv' := [(2, .int (S 3 (ix x))), (3, .int ((r - (S 6 (ix (S 2 (ix x))))) - 0)), (5, .int (S 6 (ix (S 2 (ix x))))), (0, .ref (a 0)), (1, .int q), (4, .int (nI i))]) hx hb dX0_nodeAt_87 rfl hl (by decide) rfl (fun ls hl => ?_)
          refine lv_iinc (v := (nI (i + 1))) (lv' := [(4, .int (nI (i + 1))), (2, .int (S 3 (ix x))), (3, .int ((r - (S 6 (ix (S 2 (ix x))))) - 0)), (5, .int (S 6 (ix (S 2 (ix x))))), (0, .ref (a 0)), (1, .int q)]) hx hb dX0_nodeAt_88 hl (k := 5) rfl (nI_1 i) (by decide) rfl (fun ls hl => ?_)
          refine lv_goto (tgt := 10) hx hb dX0_nodeAt_91 (by decide) ?_
          exact ih (i + 1) (S 3 (ix x)) ((r - (S 6 (ix (S 2 (ix x))))) - 0) H locs ls (by omega) (rgR rg hx0) (by rw [← hT]; simp [naF, b01, c2, c3, c4]) P (lv_sub hl [4, 5, 1, 2, 0] rfl)
        · refine lv_iconst (v := 1) hx hb dX0_nodeAt_74 (by decide) ?_
          refine lv_goto (tgt := 79) hx hb dX0_nodeAt_75 (by decide) ?_
          refine lv_isub hx hb dX0_nodeAt_79 ?_
          refine lv_istore_n (lv' := [(3, .int ((r - (S 6 (ix (S 2 (ix x))))) - 1)), (5, .int (S 6 (ix (S 2 (ix x))))), (0, .ref (a 0)), (1, .int q), (2, .int x), (4, .int (nI i))]) hx hb dX0_nodeAt_80 rfl hl (by decide) rfl (fun ls hl => ?_)
          refine lv_aload_n hx hb dX0_nodeAt_81 rfl (lv_at hl 2 rfl) ?_
          refine gA_right C P dX0_nodeAt_82 ?_
          refine lv_iload_n hx hb dX0_nodeAt_85 rfl (lv_at hl 4 rfl) ?_
          refine lA_right (v := (S 3 (ix x))) C P hx0 rfl dX0_nodeAt_86 ?_
          refine lv_istore_n (lv' := [(2, .int (S 3 (ix x))), (3, .int ((r - (S 6 (ix (S 2 (ix x))))) - 1)), (5, .int (S 6 (ix (S 2 (ix x))))), (0, .ref (a 0)), (1, .int q), (4, .int (nI i))]) hx hb dX0_nodeAt_87 rfl hl (by decide) rfl (fun ls hl => ?_)
          refine lv_iinc (v := (nI (i + 1))) (lv' := [(4, .int (nI (i + 1))), (2, .int (S 3 (ix x))), (3, .int ((r - (S 6 (ix (S 2 (ix x))))) - 1)), (5, .int (S 6 (ix (S 2 (ix x))))), (0, .ref (a 0)), (1, .int q)]) hx hb dX0_nodeAt_88 hl (k := 5) rfl (nI_1 i) (by decide) rfl (fun ls hl => ?_)
          refine lv_goto (tgt := 10) hx hb dX0_nodeAt_91 (by decide) ?_
          exact ih (i + 1) (S 3 (ix x)) ((r - (S 6 (ix (S 2 (ix x))))) - 1) H locs ls (by omega) (rgR rg hx0) (by rw [← hT]; simp [naF, b01, c2, c3, c4]) P (lv_sub hl [4, 5, 1, 2, 0] rfl)
      · refine lv_aload_n hx hb dX0_nodeAt_52 rfl (lv_at hl 1 rfl) ?_
        refine lv_iload_n hx hb dX0_nodeAt_53 rfl (lv_at hl 3 rfl) ?_
        refine cA_i (rest := []) C P 1 (mA_shown (x := x) l D a b rg hx0) (lw_V q88 q90 qs2 q17 q91) rfl rfl (by decide +kernel) ⟨Nat.le_of_ble_eq_true rfl, Nat.le_of_ble_eq_true rfl⟩ rfl hl.1 rfl (Nat.le_of_ble_eq_true rfl) dX0_nodeAt_54 (fun H locs P => ?_)
        refine lv_if_eq (tgt := 62) hx hb dX0_nodeAt_57 (by decide) (fun c5 => ?_) (fun c5 => ?_)
        · refine lv_iload_n hx hb dX0_nodeAt_62 rfl (lv_at hl 4 rfl) ?_
          refine lv_iload hx hb dX0_nodeAt_63 (lv_at hl 0 rfl) ?_
          refine lv_isub hx hb dX0_nodeAt_65 ?_
          refine lv_aload_n hx hb dX0_nodeAt_66 rfl (lv_at hl 1 rfl) ?_
          refine lv_iload_n hx hb dX0_nodeAt_67 rfl (lv_at hl 3 rfl) ?_
          refine cA_i (rest := [.int (r - (S 6 (ix (S 2 (ix x)))))]) C P 1 (mA_shown (x := x) l D a b rg hx0) (lw_V q88 q90 qs2 q17 q91) rfl rfl (by decide +kernel) ⟨Nat.le_of_ble_eq_true rfl, Nat.le_of_ble_eq_true rfl⟩ rfl hl.1 rfl (Nat.le_of_ble_eq_true rfl) dX0_nodeAt_68 (fun H locs P => ?_)
          refine lv_if_eq (tgt := 78) hx hb dX0_nodeAt_71 (by decide) (fun c6 => ?_) (fun c6 => ?_)
          · refine lv_iconst (v := 0) hx hb dX0_nodeAt_78 (by decide) ?_
            refine lv_isub hx hb dX0_nodeAt_79 ?_
            refine lv_istore_n (lv' := [(3, .int ((r - (S 6 (ix (S 2 (ix x))))) - 0)), (5, .int (S 6 (ix (S 2 (ix x))))), (0, .ref (a 0)), (1, .int q), (2, .int x), (4, .int (nI i))]) hx hb dX0_nodeAt_80 rfl hl (by decide) rfl (fun ls hl => ?_)
            refine lv_aload_n hx hb dX0_nodeAt_81 rfl (lv_at hl 2 rfl) ?_
            refine gA_right C P dX0_nodeAt_82 ?_
            refine lv_iload_n hx hb dX0_nodeAt_85 rfl (lv_at hl 4 rfl) ?_
            refine lA_right (v := (S 3 (ix x))) C P hx0 rfl dX0_nodeAt_86 ?_
            refine lv_istore_n (lv' := [(2, .int (S 3 (ix x))), (3, .int ((r - (S 6 (ix (S 2 (ix x))))) - 0)), (5, .int (S 6 (ix (S 2 (ix x))))), (0, .ref (a 0)), (1, .int q), (4, .int (nI i))]) hx hb dX0_nodeAt_87 rfl hl (by decide) rfl (fun ls hl => ?_)
            refine lv_iinc (v := (nI (i + 1))) (lv' := [(4, .int (nI (i + 1))), (2, .int (S 3 (ix x))), (3, .int ((r - (S 6 (ix (S 2 (ix x))))) - 0)), (5, .int (S 6 (ix (S 2 (ix x))))), (0, .ref (a 0)), (1, .int q)]) hx hb dX0_nodeAt_88 hl (k := 5) rfl (nI_1 i) (by decide) rfl (fun ls hl => ?_)
            refine lv_goto (tgt := 10) hx hb dX0_nodeAt_91 (by decide) ?_
            exact ih (i + 1) (S 3 (ix x)) ((r - (S 6 (ix (S 2 (ix x))))) - 0) H locs ls (by omega) (rgR rg hx0) (by rw [← hT]; simp [naF, b01, c2, c3, c5, c6]) P (lv_sub hl [4, 5, 1, 2, 0] rfl)
          · exact absurd c5 c6
        · refine lv_iload_n hx hb dX0_nodeAt_60 rfl (lv_at hl 3 rfl) ?_
          exact rA_i C hr hlocks P (by rw [← hT]; simp [naF, c2, c3, c5]) dX0_nodeAt_61
    · refine lv_aload_n hx hb dX0_nodeAt_36 rfl (lv_at hl 1 rfl) ?_
      refine gA_left C P dX0_nodeAt_37 ?_
      refine lv_iload_n hx hb dX0_nodeAt_40 rfl (lv_at hl 3 rfl) ?_
      refine lA_left (v := (S 2 (ix x))) C P hx0 rfl dX0_nodeAt_41 ?_
      refine lv_istore_n (lv' := [(2, .int (S 2 (ix x))), (5, .int (S 6 (ix (S 2 (ix x))))), (0, .ref (a 0)), (1, .int q), (3, .int r), (4, .int (nI i))]) hx hb dX0_nodeAt_42 rfl hl (by decide) rfl (fun ls hl => ?_)
      refine lv_goto (tgt := 88) hx hb dX0_nodeAt_43 (by decide) ?_
      refine lv_iinc (v := (nI (i + 1))) (lv' := [(4, .int (nI (i + 1))), (2, .int (S 2 (ix x))), (5, .int (S 6 (ix (S 2 (ix x))))), (0, .ref (a 0)), (1, .int q), (3, .int r)]) hx hb dX0_nodeAt_88 hl (k := 5) rfl (nI_1 i) (by decide) rfl (fun ls hl => ?_)
      refine lv_goto (tgt := 10) hx hb dX0_nodeAt_91 (by decide) ?_
      exact ih (i + 1) (S 2 (ix x)) r H locs ls (by omega) (rgL rg hx0) (by rw [← hT]; simp [naF, b01, c2]) P (lv_sub hl [3, 4, 1, 5, 0] rfl)

set_option maxHeartbeats 4000000 in
set_option maxRecDepth 100000 in
theorem mA_nodeAt (l : Launch) (D : va_G) (a : Nat → Nat) (b : Nat → ClassId) {S : SS} {V : LL} {q : Int32} (rg : RG S) : MAi l D a b yX0_nodeAt cX0_nodeAt 6 .int { frames := 1, cells := 0, slots := 0, locals := 21 } [.int q] S V (nodeF S q, S, V) := by
  refine MAi.of (by decide) rfl (Nat.le_of_ble_eq_true rfl) ?_
  intro p e s m below meth c A ls C hr hlocks P hl
  have hx := C.1
  have hb := C.2.1
  have hl : lv_has ls 6 [(0, .ref (a 0)), (1, .int q)] := hl
  refine lv_aload_n hx hb dX0_nodeAt_0 rfl (lv_at hl 0 rfl) ?_
  refine gA_root (v := (S 0 1)) C P rfl dX0_nodeAt_1 ?_
  refine lv_istore_n (lv' := [(2, .int (S 0 1)), (0, .ref (a 0)), (1, .int q)]) hx hb dX0_nodeAt_4 rfl hl (by decide) rfl (fun ls hl => ?_)
  refine lv_iload_n hx hb dX0_nodeAt_5 rfl (lv_at hl 2 rfl) ?_
  refine lv_istore_n (lv' := [(3, .int q), (2, .int (S 0 1)), (0, .ref (a 0)), (1, .int q)]) hx hb dX0_nodeAt_6 rfl hl (by decide) rfl (fun ls hl => ?_)
  refine lv_iconst (v := (nI 0)) hx hb dX0_nodeAt_7 (by decide) ?_
  refine lv_istore (lv' := [(4, .int (nI 0)), (3, .int q), (2, .int (S 0 1)), (0, .ref (a 0)), (1, .int q)]) hx hb dX0_nodeAt_8 hl (by decide) rfl (fun ls hl => ?_)
  exact lpA_nodeAt C hr hlocks rg q _ 48 0 (S 0 1) q _ _ _ rfl (rgO rg) rfl P (lv_sub hl [3, 4, 2, 1, 0] rfl)

set_option maxHeartbeats 4000000 in
set_option maxRecDepth 100000 in
theorem lpA_placeOf {p : Program} {l : Launch} {e : Env} {s : State} {m : MethodId} {args : Array Value} {below : List Frame} {meth : Method} {c : Code} {D : va_G} {A : Nat → Prop} {a : Nat → Nat} {b : Nat → ClassId} {V : LL} (C : CX p s m c args cX0_placeOf 6 RX0 A D (tA b)) (hr : meth.sig.returnType = (some .int)) (hlocks : meth.locks = false) {S : SS} (rg : RG S) (x v : Int32) : ∀ (n i : Nat) (z bf : Int32) (H : Heap) (locs : List Loc) (ls : Array Slot), i + n = 48 → vp_in z 49 → poF n S z bf = v → PA D A a b S V s.heap H locs → lv_has ls 6 [(0, .ref (a 0)), (1, .int x), (2, .int bf), (3, .int z), (4, .int (nI i))] → W p l e ({ frames := 1, cells := 0, slots := 0, locals := 21 }) s m args below meth c H locs 0 0 (QAi D a b A (v, S, V) below args s) (F0 m 17 ls []) := by
  have hx := C.1
  have hb := C.2.1
  intro n
  induction n with
  | zero =>
    intro i z bf H locs ls hi hz hT P hl
    have hi : i = 48 := by omega
    subst hi
    refine lv_iload hx hb dX0_placeOf_17 (lv_at hl 4 rfl) ?_
    refine lv_bipush (v := (nI 48)) hx hb dX0_placeOf_19 (by decide) ?_
    refine lv_icmp_ge (tgt := 91) hx hb dX0_placeOf_21 (by decide) (fun c1 => ?_) (fun c1 => absurd (nI_le (Nat.le_refl 48) (by decide)) c1)
    refine lv_iload_n hx hb dX0_placeOf_91 rfl (lv_at hl 2 rfl) ?_
    exact rA_i C hr hlocks P (by rw [← hT]; rfl) dX0_placeOf_92
  | succ n ih =>
    intro i z bf H locs ls hi hz hT P hl
    have hi2 : i < 48 := by omega
    refine lv_iload hx hb dX0_placeOf_17 (lv_at hl 4 rfl) ?_
    refine lv_bipush (v := (nI 48)) hx hb dX0_placeOf_19 (by decide) ?_
    refine lv_icmp_ge (tgt := 91) hx hb dX0_placeOf_21 (by decide) (fun c1 => absurd c1 (nI_ge hi2 (by decide))) (fun c1 => ?_)
    refine lv_aload_n hx hb dX0_placeOf_24 rfl (lv_at hl 0 rfl) ?_
    refine gA_up C P dX0_placeOf_25 ?_
    refine lv_iload_n hx hb dX0_placeOf_28 rfl (lv_at hl 3 rfl) ?_
    refine lA_up (v := (S 4 (ix z))) C P hz rfl dX0_placeOf_29 ?_
    refine lv_if_eq (tgt := 91) hx hb dX0_placeOf_30 (by decide) (fun c2 => ?_) (fun c2 => ?_)
    · refine lv_iload_n hx hb dX0_placeOf_91 rfl (lv_at hl 2 rfl) ?_
      exact rA_i C hr hlocks P (by rw [← hT]; simp [poF, c2]) dX0_placeOf_92
    · refine lv_aload_n hx hb dX0_placeOf_33 rfl (lv_at hl 0 rfl) ?_
      refine gA_up C P dX0_placeOf_34 ?_
      refine lv_iload_n hx hb dX0_placeOf_37 rfl (lv_at hl 3 rfl) ?_
      refine lA_up (v := (S 4 (ix z))) C P hz rfl dX0_placeOf_38 ?_
      refine lv_istore (lv' := [(5, .int (S 4 (ix z))), (0, .ref (a 0)), (1, .int x), (2, .int bf), (3, .int z), (4, .int (nI i))]) hx hb dX0_placeOf_39 hl (by decide) rfl (fun ls hl => ?_)
      refine lv_aload_n hx hb dX0_placeOf_41 rfl (lv_at hl 1 rfl) ?_
      refine gA_right C P dX0_placeOf_42 ?_
      refine lv_iload hx hb dX0_placeOf_45 (lv_at hl 0 rfl) ?_
      refine lA_right (v := (S 3 (ix (S 4 (ix z))))) C P (rgU rg hz) rfl dX0_placeOf_47 ?_
      refine lv_iload_n hx hb dX0_placeOf_48 rfl (lv_at hl 4 rfl) ?_
      refine lv_icmp_ne (tgt := 82) hx hb dX0_placeOf_49 (by decide) (fun c3 => ?_) (fun c3 => ?_)
      · refine lv_iload hx hb dX0_placeOf_82 (lv_at hl 0 rfl) ?_
        refine lv_istore_n (lv' := [(3, .int (S 4 (ix z))), (5, .int (S 4 (ix z))), (0, .ref (a 0)), (1, .int x), (2, .int bf), (4, .int (nI i))]) hx hb dX0_placeOf_84 rfl hl (by decide) rfl (fun ls hl => ?_)
        refine lv_iinc (v := (nI (i + 1))) (lv' := [(4, .int (nI (i + 1))), (3, .int (S 4 (ix z))), (5, .int (S 4 (ix z))), (0, .ref (a 0)), (1, .int x), (2, .int bf)]) hx hb dX0_placeOf_85 hl (k := 5) rfl (nI_1 i) (by decide) rfl (fun ls hl => ?_)
        refine lv_goto (tgt := 17) hx hb dX0_placeOf_88 (by decide) ?_
        exact ih (i + 1) (S 4 (ix z)) bf H locs ls (by omega) (rgU rg hz) (by rw [← hT]; simp [poF, b01, c2, c3]) P (lv_sub hl [3, 4, 5, 1, 0] rfl)
      · refine lv_iload_n hx hb dX0_placeOf_52 rfl (lv_at hl 3 rfl) ?_
        refine lv_aload_n hx hb dX0_placeOf_53 rfl (lv_at hl 1 rfl) ?_
        refine gA_shownIn C P dX0_placeOf_54 ?_
        refine lv_aload_n hx hb dX0_placeOf_57 rfl (lv_at hl 1 rfl) ?_
        refine gA_left C P dX0_placeOf_58 ?_
        refine lv_iload hx hb dX0_placeOf_61 (lv_at hl 0 rfl) ?_
        refine lA_left (v := (S 2 (ix (S 4 (ix z))))) C P (rgU rg hz) rfl dX0_placeOf_63 ?_
        refine lA_shownIn (v := (S 6 (ix (S 2 (ix (S 4 (ix z))))))) C P (rgL rg (rgU rg hz)) rfl dX0_placeOf_64 ?_
        refine lv_iadd hx hb dX0_placeOf_65 ?_
        refine lv_aload_n hx hb dX0_placeOf_66 rfl (lv_at hl 1 rfl) ?_
        refine lv_iload hx hb dX0_placeOf_67 (lv_at hl 0 rfl) ?_
        refine cA_i (rest := [.int (bf + (S 6 (ix (S 2 (ix (S 4 (ix z)))))))]) C P 1 (mA_shown (x := (S 4 (ix z))) l D a b rg (rgU rg hz)) (lw_V q88 q90 qs2 q17 q91) rfl rfl (by decide +kernel) ⟨Nat.le_of_ble_eq_true rfl, Nat.le_of_ble_eq_true rfl⟩ rfl hl.1 rfl (Nat.le_of_ble_eq_true rfl) dX0_placeOf_69 (fun H locs P => ?_)
        refine lv_if_eq (tgt := 79) hx hb dX0_placeOf_72 (by decide) (fun c4 => ?_) (fun c4 => ?_)
        · refine lv_iconst (v := 0) hx hb dX0_placeOf_79 (by decide) ?_
          refine lv_iadd hx hb dX0_placeOf_80 ?_
          refine lv_istore_n (lv' := [(2, .int ((bf + (S 6 (ix (S 2 (ix (S 4 (ix z))))))) + 0)), (5, .int (S 4 (ix z))), (0, .ref (a 0)), (1, .int x), (3, .int z), (4, .int (nI i))]) hx hb dX0_placeOf_81 rfl hl (by decide) rfl (fun ls hl => ?_)
          refine lv_iload hx hb dX0_placeOf_82 (lv_at hl 1 rfl) ?_
          refine lv_istore_n (lv' := [(3, .int (S 4 (ix z))), (2, .int ((bf + (S 6 (ix (S 2 (ix (S 4 (ix z))))))) + 0)), (5, .int (S 4 (ix z))), (0, .ref (a 0)), (1, .int x), (4, .int (nI i))]) hx hb dX0_placeOf_84 rfl hl (by decide) rfl (fun ls hl => ?_)
          refine lv_iinc (v := (nI (i + 1))) (lv' := [(4, .int (nI (i + 1))), (3, .int (S 4 (ix z))), (2, .int ((bf + (S 6 (ix (S 2 (ix (S 4 (ix z))))))) + 0)), (5, .int (S 4 (ix z))), (0, .ref (a 0)), (1, .int x)]) hx hb dX0_placeOf_85 hl (k := 5) rfl (nI_1 i) (by decide) rfl (fun ls hl => ?_)
          refine lv_goto (tgt := 17) hx hb dX0_placeOf_88 (by decide) ?_
          exact ih (i + 1) (S 4 (ix z)) ((bf + (S 6 (ix (S 2 (ix (S 4 (ix z))))))) + 0) H locs ls (by omega) (rgU rg hz) (by rw [← hT]; simp [poF, b01, c2, c3, c4]) P (lv_sub hl [4, 5, 2, 1, 0] rfl)
        · refine lv_iconst (v := 1) hx hb dX0_placeOf_75 (by decide) ?_
          refine lv_goto (tgt := 80) hx hb dX0_placeOf_76 (by decide) ?_
          refine lv_iadd hx hb dX0_placeOf_80 ?_
          refine lv_istore_n (lv' := [(2, .int ((bf + (S 6 (ix (S 2 (ix (S 4 (ix z))))))) + 1)), (5, .int (S 4 (ix z))), (0, .ref (a 0)), (1, .int x), (3, .int z), (4, .int (nI i))]) hx hb dX0_placeOf_81 rfl hl (by decide) rfl (fun ls hl => ?_)
          refine lv_iload hx hb dX0_placeOf_82 (lv_at hl 1 rfl) ?_
          refine lv_istore_n (lv' := [(3, .int (S 4 (ix z))), (2, .int ((bf + (S 6 (ix (S 2 (ix (S 4 (ix z))))))) + 1)), (5, .int (S 4 (ix z))), (0, .ref (a 0)), (1, .int x), (4, .int (nI i))]) hx hb dX0_placeOf_84 rfl hl (by decide) rfl (fun ls hl => ?_)
          refine lv_iinc (v := (nI (i + 1))) (lv' := [(4, .int (nI (i + 1))), (3, .int (S 4 (ix z))), (2, .int ((bf + (S 6 (ix (S 2 (ix (S 4 (ix z))))))) + 1)), (5, .int (S 4 (ix z))), (0, .ref (a 0)), (1, .int x)]) hx hb dX0_placeOf_85 hl (k := 5) rfl (nI_1 i) (by decide) rfl (fun ls hl => ?_)
          refine lv_goto (tgt := 17) hx hb dX0_placeOf_88 (by decide) ?_
          exact ih (i + 1) (S 4 (ix z)) ((bf + (S 6 (ix (S 2 (ix (S 4 (ix z))))))) + 1) H locs ls (by omega) (rgU rg hz) (by rw [← hT]; simp [poF, b01, c2, c3, c4]) P (lv_sub hl [4, 5, 2, 1, 0] rfl)

set_option maxHeartbeats 4000000 in
set_option maxRecDepth 100000 in
theorem mA_placeOf (l : Launch) (D : va_G) (a : Nat → Nat) (b : Nat → ClassId) {S : SS} {V : LL} {x : Int32} (rg : RG S) (hx0 : vp_in x 49) : MAi l D a b yX0_placeOf cX0_placeOf 6 .int { frames := 1, cells := 0, slots := 0, locals := 21 } [.int x] S V (placeF S x, S, V) := by
  refine MAi.of (by decide) rfl (Nat.le_of_ble_eq_true rfl) ?_
  intro p e s m below meth c A ls C hr hlocks P hl
  have hx := C.1
  have hb := C.2.1
  have hl : lv_has ls 6 [(0, .ref (a 0)), (1, .int x)] := hl
  refine lv_aload_n hx hb dX0_placeOf_0 rfl (lv_at hl 0 rfl) ?_
  refine gA_shownIn C P dX0_placeOf_1 ?_
  refine lv_aload_n hx hb dX0_placeOf_4 rfl (lv_at hl 0 rfl) ?_
  refine gA_left C P dX0_placeOf_5 ?_
  refine lv_iload_n hx hb dX0_placeOf_8 rfl (lv_at hl 1 rfl) ?_
  refine lA_left (v := (S 2 (ix x))) C P hx0 rfl dX0_placeOf_9 ?_
  refine lA_shownIn (v := (S 6 (ix (S 2 (ix x))))) C P (rgL rg hx0) rfl dX0_placeOf_10 ?_
  refine lv_istore_n (lv' := [(2, .int (S 6 (ix (S 2 (ix x))))), (0, .ref (a 0)), (1, .int x)]) hx hb dX0_placeOf_11 rfl hl (by decide) rfl (fun ls hl => ?_)
  refine lv_iload_n hx hb dX0_placeOf_12 rfl (lv_at hl 2 rfl) ?_
  refine lv_istore_n (lv' := [(3, .int x), (2, .int (S 6 (ix (S 2 (ix x))))), (0, .ref (a 0)), (1, .int x)]) hx hb dX0_placeOf_13 rfl hl (by decide) rfl (fun ls hl => ?_)
  refine lv_iconst (v := (nI 0)) hx hb dX0_placeOf_14 (by decide) ?_
  refine lv_istore (lv' := [(4, .int (nI 0)), (3, .int x), (2, .int (S 6 (ix (S 2 (ix x))))), (0, .ref (a 0)), (1, .int x)]) hx hb dX0_placeOf_15 hl (by decide) rfl (fun ls hl => ?_)
  exact lpA_placeOf C hr hlocks rg x _ 48 0 x _ _ _ _ rfl hx0 rfl P (lv_sub hl [3, 4, 2, 1, 0] rfl)
end
section
/-! small rows on ints used by the walks -/
theorem nI_ix {x : Int32} (h : ¬ x < 0) : nI (ix x) = x := by
  obtain ⟨j, hj, rfl⟩ := nI_of h
  rw [ix, nI_clamp hj]
theorem ix_nI {j : Nat} (h : j < 2 ^ 31) : ix (nI j) = j := nI_clamp h
theorem ix_31 (x : Int32) : ix x < 2 ^ 31 := by
  by_cases h : x < 0
  · have : x.toInt < 0 := by simpa using Int32.lt_iff_toInt_lt.mp h
    have e : ix x = x.toInt.toNat := rfl
    omega
  · obtain ⟨j, hj, rfl⟩ := nI_of h
    rw [ix_nI hj]; exact hj
theorem vin_nn {x : Int32} {n : Nat} (h : vp_in x n) : ¬ x < 0 := fun q => h (Or.inl q)
theorem vin_mk {x : Int32} {n : Nat} (h : ¬ x < 0) (h2 : ix x < n) : vp_in x n := fun q => q.elim h (fun z => absurd h2 (Nat.not_lt.mpr z))
theorem vin_n {j n : Nat} (h : j < n) (hn : n < 2 ^ 31) : vp_in (nI j) n := vp_in_nI h hn
theorem vin_ne {x : Int32} {n m : Nat} (h : vp_in x n) (hm : n = m + 1) (hn : n < 2 ^ 31) {y : Int32} (hy : y = nI m) (h2 : ¬ x = y) : vp_in x m := by
  obtain ⟨j, hj, rfl⟩ := vp_in_of h hn
  refine vin_n ?_ (by omega)
  rcases Nat.lt_or_ge j m with q | q
  · exact q
  · exact absurd (by rw [hy, show j = m by omega]) h2
theorem vin_s {x : Int32} {n : Nat} (h : vp_in x n) (hn : n < 2 ^ 31 - 1) : vp_in (x + 1) (n + 1) := by
  obtain ⟨j, hj, rfl⟩ := vp_in_of h (by omega)
  rw [nI_1]
  exact vin_n (by omega) (by omega)
theorem lt32 {S : SS} (h : RG S) (h2 : ¬ S 0 10 = 32) : vp_in (S 0 10) 32 := vin_ne (rgN h) rfl (by decide) (by decide) h2
theorem lt33 {S : SS} (h : RG S) (h2 : ¬ S 0 10 = 32) : vp_in (S 0 10 + 1) 33 := vin_s (lt32 h h2) (by decide)
theorem lt49 {S : SS} (h : RG S) (h2 : ¬ S 0 0 = 48) : vp_in (S 0 0 + 1) 49 := vin_s (vin_ne (rgC h) rfl (by decide) (by decide) h2) (by decide)
theorem vin0 : vp_in 0 49 := vin_n (j := 0) (by decide) (by decide)
theorem ix_lt_of {x y : Int32} (hx : ¬ x < 0) (h : x < y) : ix x < ix y := by
  have h1 := Int32.lt_iff_toInt_lt.mp h
  have h2 : ¬ x.toInt < 0 := fun q => hx (Int32.lt_iff_toInt_lt.mpr q)
  have e : ix x = x.toInt.toNat := rfl
  have e' : ix y = y.toInt.toNat := rfl
  omega
theorem ix_le_of {x y : Int32} (h : ¬ y < x) : ix x ≤ ix y := by
  have h1 : ¬ y.toInt < x.toInt := fun q => h (Int32.lt_iff_toInt_lt.mpr q)
  have e : ix x = x.toInt.toNat := rfl
  have e' : ix y = y.toInt.toNat := rfl
  omega
theorem bd_rng {S : SS} {k : Int32} (h2 : bdI S k = 0) : ¬ k < 0 ∧ k < S 0 10 := by
  unfold bdI at h2
  split at h2
  · exact absurd h2 (by decide)
  · split at h2
    · exact ⟨by assumption, by assumption⟩
    · exact absurd h2 (by decide)
theorem bd_in {S : SS} {k : Int32} (h : RG S) (h2 : bdI S k = 0) : vp_in k 32 := by
  obtain ⟨h3, h4⟩ := bd_rng h2
  refine vin_mk h3 ?_
  have := ix_lt_of h3 h4
  have := ix_lt (rgN h)
  omega
theorem ic_rng {M : SS} {k : Int32} (h2 : ¬ icI M k = 0) : ¬ k < 0 ∧ ¬ M 0 6 ≤ k := by
  unfold icI at h2
  split at h2
  · exact absurd rfl h2
  · split at h2
    · exact absurd rfl h2
    · exact ⟨by assumption, by assumption⟩
theorem ic_in {M : SS} {k : Int32} (h : RZ M) (h2 : ¬ icI M k = 0) : vp_in k 32 := by
  obtain ⟨h3, h4⟩ := ic_rng h2
  refine vin_mk h3 ?_
  have h5 : k < M 0 6 := by simpa using h4
  have := ix_lt_of h3 h5
  have := ix_lt (rzN h)
  omega
theorem nI_m1 (d : Nat) : nI d + (-1) = nI d - 1 := (Int32.sub_eq_add_neg _ _).symm
theorem vin_ofle {x y : Int32} {n : Nat} (hx : ¬ x < 0) (h : vp_in y n) (h2 : x ≤ y) : vp_in x n := by
  refine vin_mk hx ?_
  have h1 := Int32.le_iff_toInt_le.mp h2
  have := ix_lt h
  have e : ix x = x.toInt.toNat := rfl
  have e' : ix y = y.toInt.toNat := rfl
  omega
theorem caL_in {d : Nat} : ∀ {M : SS} {q bf : Int32} {i : Nat}, RZ M → i + d ≤ 32 → (caL d M q i bf = -4 ∨ vp_in (caL d M q i bf) 32) := by
  induction d with
  | zero => intro M q bf i h hi; exact Or.inl rfl
  | succ d ih =>
    intro M q bf i h hi
    unfold caL
    split
    · exact ih h (by omega)
    · split
      · exact Or.inr (rzL h (vin_n (by omega) (by decide)))
      · exact ih h (by omega)
theorem ca_in {M : SS} {q : Int32} (h : RZ M) (h0 : 0 ≤ caF M q) : vp_in (caF M q) 32 := by
  have h1 := caL_in (d := ix (M 0 1)) (q := q) (bf := 0) (i := 0) h (by have := ix_lt (rzI h); omega)
  rcases h1 with e | e
  · rw [caF, e] at h0
    exact absurd h0 (by decide)
  · exact e
end
section
set_option maxHeartbeats 4000000 in
set_option maxRecDepth 100000 in
theorem lpA_coverBy {p : Program} {l : Launch} {e : Env} {s : State} {m : MethodId} {args : Array Value} {below : List Frame} {meth : Method} {c : Code} {D : va_G} {A : Nat → Prop} {a : Nat → Nat} {b : Nat → ClassId} {V : LL} (C : CX p s m c args cX0_coverBy 5 RX0 A D (tA b)) (hr : meth.sig.returnType = none) (hlocks : meth.locks = false) (w : Int64) (mo : Int32) (N : Nat) (hN48 : N < 49) (T : SS) : ∀ (d x : Nat) (S : SS) (H : Heap) (locs : List Loc) (ls : Array Slot), x + d = N + 1 → 1 ≤ x → S 0 0 = nI N → RG S → cbL d S x w mo = T → PA D A a b S V s.heap H locs → lv_has ls 5 [(0, .ref (a 0)), (1, .long w), (3, .int mo), (4, .int (nI x))] → W p l e ({ frames := 3, cells := 0, slots := 0, locals := 66 }) s m args below meth c H locs 0 0 (QAv D a b A (T, V) below args s) (F0 m 3 ls []) := by
  have hx := C.1
  have hb := C.2.1
  intro d
  induction d with
  | zero =>
    intro x S H locs ls hd h1 hN rg hT P hl
    refine lv_iload hx hb dX0_coverBy_3 (lv_at hl 3 rfl) ?_
    refine lv_aload_n hx hb dX0_coverBy_5 rfl (lv_at hl 0 rfl) ?_
    refine gA_count (v := (S 0 0)) C P rfl dX0_coverBy_6 ?_
    refine lv_icmp_gt (tgt := 53) hx hb dX0_coverBy_9 (by decide) (fun c1 => ?_) (fun c1 => absurd (by rw [hN]; exact nI_lt (by omega) (by omega)) c1)
    exact rA_v C hr hlocks P (by rw [← hT]; rfl) dX0_coverBy_53
  | succ d ih =>
    intro x S H locs ls hd h1 hN rg hT P hl
    refine lv_iload hx hb dX0_coverBy_3 (lv_at hl 3 rfl) ?_
    refine lv_aload_n hx hb dX0_coverBy_5 rfl (lv_at hl 0 rfl) ?_
    refine gA_count (v := (S 0 0)) C P rfl dX0_coverBy_6 ?_
    refine lv_icmp_gt (tgt := 53) hx hb dX0_coverBy_9 (by decide) (fun c1 => absurd c1 (by rw [hN]; exact nI_nlt (by omega) (by omega))) (fun c1 => ?_)
    refine lv_lload_n hx hb dX0_coverBy_12 rfl (lv_at hl 1 rfl) ?_
    refine lv_iload hx hb dX0_coverBy_13 (lv_at hl 3 rfl) ?_
    refine lv_iconst (v := 1) hx hb dX0_coverBy_15 (by decide) ?_
    refine lv_isub hx hb dX0_coverBy_16 ?_
    refine lv_lushr hx hb dX0_coverBy_17 rfl ?_
    refine lv_lconst (v := 1) hx hb dX0_coverBy_18 (by decide) ?_
    refine lv_land hx hb dX0_coverBy_19 ?_
    refine lv_lconst (v := 1) hx hb dX0_coverBy_20 (by decide) ?_
    refine W.lcmp hx hb dX0_coverBy_21 ?_
    refine lv_if_ne (tgt := 47) hx hb dX0_coverBy_22 (by decide) (fun c2 => ?_) (fun c2 => ?_)
    · refine lv_iinc (v := (nI (x + 1))) (lv' := [(4, .int (nI (x + 1))), (0, .ref (a 0)), (1, .long w), (3, .int mo)]) hx hb dX0_coverBy_47 hl (k := 3) rfl (nI_1 x) (by decide) rfl (fun ls hl => ?_)
      refine lv_goto (tgt := 3) hx hb dX0_coverBy_50 (by decide) ?_
      exact ih (x + 1) S H locs ls (by omega) (by omega) hN rg (by rw [← hT, cbL, if_neg c2]) P (lv_sub hl [1, 2, 3, 0] rfl)
    · refine lv_aload_n hx hb dX0_coverBy_25 rfl (lv_at hl 0 rfl) ?_
      refine gA_covered C P dX0_coverBy_26 ?_
      refine lv_iload hx hb dX0_coverBy_29 (lv_at hl 3 rfl) ?_
      refine lv_aload_n hx hb dX0_coverBy_31 rfl (lv_at hl 0 rfl) ?_
      refine gA_covered C P dX0_coverBy_32 ?_
      refine lv_iload hx hb dX0_coverBy_35 (lv_at hl 3 rfl) ?_
      refine lA_covered (v := (S 9 (ix (nI x)))) C P (vin_n (by omega) (by decide)) rfl dX0_coverBy_37 ?_
      refine lv_iload_n hx hb dX0_coverBy_38 rfl (lv_at hl 2 rfl) ?_
      refine lv_iadd hx hb dX0_coverBy_39 ?_
      refine sA_covered C P (vin_n (by omega) (by decide)) dX0_coverBy_40 (fun H locs P => ?_)
      have rg3 : RG (up2 S 9 (ix (nI x)) ((S 9 (ix (nI x))) + mo)) := RG_9 rg
      refine lv_aload_n hx hb dX0_coverBy_41 rfl (lv_at hl 0 rfl) ?_
      refine lv_iload hx hb dX0_coverBy_42 (lv_at hl 3 rfl) ?_
      refine cA_v (rest := []) C P 1 (mA_pullUp (x := (nI x)) l D a b rg3 (vin_n (by omega) (by decide))) (lw_V q97 q99 qs4 q17 q100) rfl rfl (by decide +kernel) ⟨Nat.le_of_ble_eq_true rfl, Nat.le_of_ble_eq_true rfl⟩ rfl hl.1 rfl (Nat.le_of_ble_eq_true rfl) dX0_coverBy_44 (fun H locs P => ?_)
      have rg4 : RG (puS 48 (up2 S 9 (ix (nI x)) ((S 9 (ix (nI x))) + mo)) (nI x)) := RG_pu rg3
      refine lv_iinc (v := (nI (x + 1))) (lv' := [(4, .int (nI (x + 1))), (0, .ref (a 0)), (1, .long w), (3, .int mo)]) hx hb dX0_coverBy_47 hl (k := 3) rfl (nI_1 x) (by decide) rfl (fun ls hl => ?_)
      refine lv_goto (tgt := 3) hx hb dX0_coverBy_50 (by decide) ?_
      exact ih (x + 1) (puS 48 (up2 S 9 (ix (nI x)) ((S 9 (ix (nI x))) + mo)) (nI x)) H locs ls (by omega) (by omega) (by rw [puS_k (by decide)]; exact hN) rg4 (by rw [← hT, cbL, if_pos c2]) P (lv_sub hl [1, 2, 3, 0] rfl)

set_option maxHeartbeats 4000000 in
set_option maxRecDepth 100000 in
theorem mA_coverBy (l : Launch) (D : va_G) (a : Nat → Nat) (b : Nat → ClassId) {S : SS} {V : LL} {w : Int64} {mo : Int32} (rg : RG S) : MAv l D a b yX0_coverBy cX0_coverBy 5 { frames := 3, cells := 0, slots := 0, locals := 66 } [.long w, .int mo] S V (cbS S w mo, V) := by
  refine MAv.of (by decide) rfl (Nat.le_of_ble_eq_true rfl) ?_
  intro p e s m below meth c A ls C hr hlocks P hl
  have hx := C.1
  have hb := C.2.1
  have hl : lv_has ls 5 [(0, .ref (a 0)), (1, .long w), (3, .int mo)] := hl
  refine lv_iconst (v := (nI 1)) hx hb dX0_coverBy_0 (by decide) ?_
  refine lv_istore (lv' := [(4, .int (nI 1)), (0, .ref (a 0)), (1, .long w), (3, .int mo)]) hx hb dX0_coverBy_1 hl (by decide) rfl (fun ls hl => ?_)
  exact lpA_coverBy C hr hlocks w mo (ix (S 0 0)) (ix_lt (rgC rg)) _ (ix (S 0 0)) 1 S _ _ _ (by omega) (Nat.le_refl 1) (nI_ix (vin_nn (rgC rg))).symm rg rfl P (lv_sub hl [1, 2, 3, 0] rfl)

set_option maxHeartbeats 4000000 in
set_option maxRecDepth 100000 in
theorem mA_bad (l : Launch) (D : va_G) (a : Nat → Nat) (b : Nat → ClassId) {S : SS} {V : LL} {k : Int32} : MAi l D a b yX0_bad cX0_bad 2 .boolean { frames := 0, cells := 0, slots := 0, locals := 0 } [.int k] S V (bdI S k, S, V) := by
  refine MAi.of (by decide) rfl (Nat.le_of_ble_eq_true rfl) ?_
  intro p e s m below meth c A ls C hr hlocks P hl
  have hx := C.1
  have hb := C.2.1
  have hl : lv_has ls 2 [(0, .ref (a 0)), (1, .int k)] := hl
  refine lv_iload_n hx hb dX0_bad_0 rfl (lv_at hl 1 rfl) ?_
  refine lv_if_lt (tgt := 12) hx hb dX0_bad_1 (by decide) (fun c1 => ?_) (fun c1 => ?_)
  · refine lv_iconst (v := 1) hx hb dX0_bad_12 (by decide) ?_
    refine lv_goto (tgt := 17) hx hb dX0_bad_13 (by decide) ?_
    exact rA_z C hr hlocks P (by decide) (by simp [bdI, c1]) dX0_bad_17
  · refine lv_iload_n hx hb dX0_bad_4 rfl (lv_at hl 1 rfl) ?_
    refine lv_aload_n hx hb dX0_bad_5 rfl (lv_at hl 0 rfl) ?_
    refine gA_changes (v := (S 0 10)) C P rfl dX0_bad_6 ?_
    refine lv_icmp_lt (tgt := 16) hx hb dX0_bad_9 (by decide) (fun c2 => ?_) (fun c2 => ?_)
    · refine lv_iconst (v := 0) hx hb dX0_bad_16 (by decide) ?_
      exact rA_z C hr hlocks P (by decide) (by simp [bdI, c1, c2]) dX0_bad_17
    · refine lv_iconst (v := 1) hx hb dX0_bad_12 (by decide) ?_
      refine lv_goto (tgt := 17) hx hb dX0_bad_13 (by decide) ?_
      exact rA_z C hr hlocks P (by decide) (by simp [bdI, c1, c2]) dX0_bad_17

set_option maxHeartbeats 4000000 in
set_option maxRecDepth 100000 in
theorem mA_toggle (l : Launch) (D : va_G) (a : Nat → Nat) (b : Nat → ClassId) {S : SS} {V : LL} {k : Int32} (rg : RG S) (hk : vp_in k 32) : MAv l D a b yX0_toggle cX0_toggle 2 { frames := 4, cells := 0, slots := 0, locals := 90 } [.int k] S V (tgS S V k, V) := by
  refine MAv.of (by decide) rfl (Nat.le_of_ble_eq_true rfl) ?_
  intro p e s m below meth c A ls C hr hlocks P hl
  have hx := C.1
  have hb := C.2.1
  have hl : lv_has ls 2 [(0, .ref (a 0)), (1, .int k)] := hl
  refine lv_aload_n hx hb dX0_toggle_0 rfl (lv_at hl 0 rfl) ?_
  refine gA_on C P dX0_toggle_1 ?_
  refine lv_iload_n hx hb dX0_toggle_4 rfl (lv_at hl 1 rfl) ?_
  refine lv_aload_n hx hb dX0_toggle_5 rfl (lv_at hl 0 rfl) ?_
  refine gA_on C P dX0_toggle_6 ?_
  refine lv_iload_n hx hb dX0_toggle_9 rfl (lv_at hl 1 rfl) ?_
  refine lA_on (v := (S 11 (ix k))) C P hk rfl dX0_toggle_10 ?_
  refine lv_if_ne (tgt := 18) hx hb dX0_toggle_11 (by decide) (fun c1 => ?_) (fun c1 => ?_)
  · refine lv_iconst (v := 0) hx hb dX0_toggle_18 (by decide) ?_
    refine sA_on C P hk (by decide) dX0_toggle_19 (fun H locs P => ?_)
    have rg2 : RG (up2 S 11 (ix k) 0) := RG_11 rg
    refine lv_aload_n hx hb dX0_toggle_20 rfl (lv_at hl 0 rfl) ?_
    refine gA_typed C P dX0_toggle_21 ?_
    refine lv_iload_n hx hb dX0_toggle_24 rfl (lv_at hl 1 rfl) ?_
    refine lA_typed (v := (S 12 (ix k))) C P hk rfl dX0_toggle_25 ?_
    refine lv_if_eq (tgt := 42) hx hb dX0_toggle_26 (by decide) (fun c3 => ?_) (fun c3 => ?_)
    · refine lv_aload_n hx hb dX0_toggle_42 rfl (lv_at hl 0 rfl) ?_
      refine lv_aload_n hx hb dX0_toggle_43 rfl (lv_at hl 0 rfl) ?_
      refine gA_cover C P dX0_toggle_44 ?_
      refine lv_iload_n hx hb dX0_toggle_47 rfl (lv_at hl 1 rfl) ?_
      refine lA_cover (v := (V (ix k))) C P hk rfl dX0_toggle_48 ?_
      refine lv_aload_n hx hb dX0_toggle_49 rfl (lv_at hl 0 rfl) ?_
      refine gA_on C P dX0_toggle_50 ?_
      refine lv_iload_n hx hb dX0_toggle_53 rfl (lv_at hl 1 rfl) ?_
      refine lA_on (v := ((up2 S 11 (ix k) 0) 11 (ix k))) C P hk rfl dX0_toggle_54 ?_
      refine lv_if_eq (tgt := 62) hx hb dX0_toggle_55 (by decide) (fun c4 => ?_) (fun c4 => ?_)
      · refine lv_iconst (v := (-1)) hx hb dX0_toggle_62 (by decide) ?_
        refine cA_v (rest := []) C P 2 (mA_coverBy l D a b rg2) (lw_V q117 q119 qs8 q17 q120) rfl rfl (by decide +kernel) ⟨Nat.le_of_ble_eq_true rfl, Nat.le_of_ble_eq_true rfl⟩ rfl hl.1 rfl (Nat.le_of_ble_eq_true rfl) dX0_toggle_63 (fun H locs P => ?_)
        have rg5 : RG (cbS (up2 S 11 (ix k) 0) (V (ix k)) (-1)) := RG_cb rg2
        exact rA_v C hr hlocks P (by simp [tgS, tgA, c1, c3, c4]) dX0_toggle_66
      · refine lv_iconst (v := 1) hx hb dX0_toggle_58 (by decide) ?_
        refine lv_goto (tgt := 63) hx hb dX0_toggle_59 (by decide) ?_
        refine cA_v (rest := []) C P 2 (mA_coverBy l D a b rg2) (lw_V q117 q119 qs8 q17 q120) rfl rfl (by decide +kernel) ⟨Nat.le_of_ble_eq_true rfl, Nat.le_of_ble_eq_true rfl⟩ rfl hl.1 rfl (Nat.le_of_ble_eq_true rfl) dX0_toggle_63 (fun H locs P => ?_)
        have rg6 : RG (cbS (up2 S 11 (ix k) 0) (V (ix k)) 1) := RG_cb rg2
        exact rA_v C hr hlocks P (by simp [tgS, tgA, c1, c3, c4]) dX0_toggle_66
    · refine lv_aload_n hx hb dX0_toggle_29 rfl (lv_at hl 0 rfl) ?_
      refine lv_aload_n hx hb dX0_toggle_30 rfl (lv_at hl 0 rfl) ?_
      refine gA_typed C P dX0_toggle_31 ?_
      refine lv_iload_n hx hb dX0_toggle_34 rfl (lv_at hl 1 rfl) ?_
      refine lA_typed (v := (S 12 (ix k))) C P hk rfl dX0_toggle_35 ?_
      refine cA_v (rest := []) C P 1 (mA_pullUp (x := (S 12 (ix k))) l D a b rg2 (rgY rg2 hk)) (lw_V q97 q99 qs4 q17 q100) rfl rfl (by decide +kernel) ⟨Nat.le_of_ble_eq_true rfl, Nat.le_of_ble_eq_true rfl⟩ rfl hl.1 rfl (Nat.le_of_ble_eq_true rfl) dX0_toggle_36 (fun H locs P => ?_)
      have rg7 : RG (puS 48 (up2 S 11 (ix k) 0) (S 12 (ix k))) := RG_pu rg2
      refine lv_goto (tgt := 66) hx hb dX0_toggle_39 (by decide) ?_
      exact rA_v C hr hlocks P (by simp [tgS, tgA, c1, c3]) dX0_toggle_66
  · refine lv_iconst (v := 1) hx hb dX0_toggle_14 (by decide) ?_
    refine lv_goto (tgt := 19) hx hb dX0_toggle_15 (by decide) ?_
    refine sA_on C P hk (by decide) dX0_toggle_19 (fun H locs P => ?_)
    have rg8 : RG (up2 S 11 (ix k) 1) := RG_11 rg
    refine lv_aload_n hx hb dX0_toggle_20 rfl (lv_at hl 0 rfl) ?_
    refine gA_typed C P dX0_toggle_21 ?_
    refine lv_iload_n hx hb dX0_toggle_24 rfl (lv_at hl 1 rfl) ?_
    refine lA_typed (v := (S 12 (ix k))) C P hk rfl dX0_toggle_25 ?_
    refine lv_if_eq (tgt := 42) hx hb dX0_toggle_26 (by decide) (fun c9 => ?_) (fun c9 => ?_)
    · refine lv_aload_n hx hb dX0_toggle_42 rfl (lv_at hl 0 rfl) ?_
      refine lv_aload_n hx hb dX0_toggle_43 rfl (lv_at hl 0 rfl) ?_
      refine gA_cover C P dX0_toggle_44 ?_
      refine lv_iload_n hx hb dX0_toggle_47 rfl (lv_at hl 1 rfl) ?_
      refine lA_cover (v := (V (ix k))) C P hk rfl dX0_toggle_48 ?_
      refine lv_aload_n hx hb dX0_toggle_49 rfl (lv_at hl 0 rfl) ?_
      refine gA_on C P dX0_toggle_50 ?_
      refine lv_iload_n hx hb dX0_toggle_53 rfl (lv_at hl 1 rfl) ?_
      refine lA_on (v := ((up2 S 11 (ix k) 1) 11 (ix k))) C P hk rfl dX0_toggle_54 ?_
      refine lv_if_eq (tgt := 62) hx hb dX0_toggle_55 (by decide) (fun c10 => ?_) (fun c10 => ?_)
      · refine lv_iconst (v := (-1)) hx hb dX0_toggle_62 (by decide) ?_
        refine cA_v (rest := []) C P 2 (mA_coverBy l D a b rg8) (lw_V q117 q119 qs8 q17 q120) rfl rfl (by decide +kernel) ⟨Nat.le_of_ble_eq_true rfl, Nat.le_of_ble_eq_true rfl⟩ rfl hl.1 rfl (Nat.le_of_ble_eq_true rfl) dX0_toggle_63 (fun H locs P => ?_)
        have rg11 : RG (cbS (up2 S 11 (ix k) 1) (V (ix k)) (-1)) := RG_cb rg8
        exact rA_v C hr hlocks P (by simp [tgS, tgA, c1, c9, c10]) dX0_toggle_66
      · refine lv_iconst (v := 1) hx hb dX0_toggle_58 (by decide) ?_
        refine lv_goto (tgt := 63) hx hb dX0_toggle_59 (by decide) ?_
        refine cA_v (rest := []) C P 2 (mA_coverBy l D a b rg8) (lw_V q117 q119 qs8 q17 q120) rfl rfl (by decide +kernel) ⟨Nat.le_of_ble_eq_true rfl, Nat.le_of_ble_eq_true rfl⟩ rfl hl.1 rfl (Nat.le_of_ble_eq_true rfl) dX0_toggle_63 (fun H locs P => ?_)
        have rg12 : RG (cbS (up2 S 11 (ix k) 1) (V (ix k)) 1) := RG_cb rg8
        exact rA_v C hr hlocks P (by simp [tgS, tgA, c1, c9, c10]) dX0_toggle_66
    · refine lv_aload_n hx hb dX0_toggle_29 rfl (lv_at hl 0 rfl) ?_
      refine lv_aload_n hx hb dX0_toggle_30 rfl (lv_at hl 0 rfl) ?_
      refine gA_typed C P dX0_toggle_31 ?_
      refine lv_iload_n hx hb dX0_toggle_34 rfl (lv_at hl 1 rfl) ?_
      refine lA_typed (v := (S 12 (ix k))) C P hk rfl dX0_toggle_35 ?_
      refine cA_v (rest := []) C P 1 (mA_pullUp (x := (S 12 (ix k))) l D a b rg8 (rgY rg8 hk)) (lw_V q97 q99 qs4 q17 q100) rfl rfl (by decide +kernel) ⟨Nat.le_of_ble_eq_true rfl, Nat.le_of_ble_eq_true rfl⟩ rfl hl.1 rfl (Nat.le_of_ble_eq_true rfl) dX0_toggle_36 (fun H locs P => ?_)
      have rg13 : RG (puS 48 (up2 S 11 (ix k) 1) (S 12 (ix k))) := RG_pu rg8
      refine lv_goto (tgt := 66) hx hb dX0_toggle_39 (by decide) ?_
      exact rA_v C hr hlocks P (by simp [tgS, tgA, c1, c9]) dX0_toggle_66

set_option maxHeartbeats 4000000 in
set_option maxRecDepth 100000 in
theorem mA_put (l : Launch) (D : va_G) (a : Nat → Nat) (b : Nat → ClassId) {S : SS} {V : LL} {k z : Int32} (rg : RG S) : MAi l D a b yX0_put cX0_put 4 .int { frames := 5, cells := 0, slots := 0, locals := 111 } [.int k, .int z] S V (ptO S V k z) := by
  refine MAi.of (by decide) rfl (Nat.le_of_ble_eq_true rfl) ?_
  intro p e s m below meth c A ls C hr hlocks P hl
  have hx := C.1
  have hb := C.2.1
  have hl : lv_has ls 4 [(0, .ref (a 0)), (1, .int k), (2, .int z)] := hl
  refine lv_aload_n hx hb dX0_put_0 rfl (lv_at hl 0 rfl) ?_
  refine lv_iload_n hx hb dX0_put_1 rfl (lv_at hl 1 rfl) ?_
  refine cA_i (rest := []) C P 1 (mA_bad l D a b) (lw_V q125 q127 qs9 q17 q128) rfl rfl (by decide +kernel) ⟨Nat.le_of_ble_eq_true rfl, Nat.le_of_ble_eq_true rfl⟩ rfl hl.1 rfl (Nat.le_of_ble_eq_true rfl) dX0_put_2 (fun H locs P => ?_)
  refine lv_if_eq (tgt := 10) hx hb dX0_put_5 (by decide) (fun c1 => ?_) (fun c1 => ?_)
  · refine lv_aload_n hx hb dX0_put_10 rfl (lv_at hl 0 rfl) ?_
    refine gA_on C P dX0_put_11 ?_
    refine lv_iload_n hx hb dX0_put_14 rfl (lv_at hl 1 rfl) ?_
    refine lA_on (v := (S 11 (ix k))) C P (bd_in rg c1) rfl dX0_put_15 ?_
    refine lv_if_eq (tgt := 23) hx hb dX0_put_16 (by decide) (fun c2 => ?_) (fun c2 => ?_)
    · refine lv_iconst (v := 0) hx hb dX0_put_23 (by decide) ?_
      refine lv_istore_n (lv' := [(3, .int 0), (0, .ref (a 0)), (1, .int k), (2, .int z)]) hx hb dX0_put_24 rfl hl (by decide) rfl (fun ls hl => ?_)
      refine lv_aload_n hx hb dX0_put_25 rfl (lv_at hl 1 rfl) ?_
      refine gA_on C P dX0_put_26 ?_
      refine lv_iload_n hx hb dX0_put_29 rfl (lv_at hl 2 rfl) ?_
      refine lA_on (v := (S 11 (ix k))) C P (bd_in rg c1) rfl dX0_put_30 ?_
      refine lv_iload_n hx hb dX0_put_31 rfl (lv_at hl 3 rfl) ?_
      refine lv_if_eq (tgt := 39) hx hb dX0_put_32 (by decide) (fun c3 => ?_) (fun c3 => ?_)
      · refine lv_iconst (v := 0) hx hb dX0_put_39 (by decide) ?_
        refine lv_icmp_eq (tgt := 48) hx hb dX0_put_40 (by decide) (fun c4 => ?_) (fun c4 => ?_)
        · refine lv_iload_n hx hb dX0_put_48 rfl (lv_at hl 0 rfl) ?_
          exact rA_i C hr hlocks P (by simp [ptO, b01, c1, c2, c3, c4]) dX0_put_49
        · exact absurd c2 c4
      · refine lv_iconst (v := 1) hx hb dX0_put_35 (by decide) ?_
        refine lv_goto (tgt := 40) hx hb dX0_put_36 (by decide) ?_
        refine lv_icmp_eq (tgt := 48) hx hb dX0_put_40 (by decide) (fun c5 => ?_) (fun c5 => ?_)
        · exact absurd (c2.symm.trans c5) (by decide)
        · refine lv_aload_n hx hb dX0_put_43 rfl (lv_at hl 1 rfl) ?_
          refine lv_iload_n hx hb dX0_put_44 rfl (lv_at hl 2 rfl) ?_
          refine cA_v (rest := []) C P 1 (mA_toggle (k := k) l D a b rg (bd_in rg c1)) (lw_V q129 q131 qs10 q17 q132) rfl rfl (by decide +kernel) ⟨Nat.le_of_ble_eq_true rfl, Nat.le_of_ble_eq_true rfl⟩ rfl hl.1 rfl (Nat.le_of_ble_eq_true rfl) dX0_put_45 (fun H locs P => ?_)
          have rg6 : RG (tgS S V k) := RG_tg rg
          refine lv_iload_n hx hb dX0_put_48 rfl (lv_at hl 0 rfl) ?_
          exact rA_i C hr hlocks P (by simp [ptO, b01, c1, c2, c3, c5]) dX0_put_49
    · refine lv_iconst (v := 1) hx hb dX0_put_19 (by decide) ?_
      refine lv_goto (tgt := 24) hx hb dX0_put_20 (by decide) ?_
      refine lv_istore_n (lv' := [(3, .int 1), (0, .ref (a 0)), (1, .int k), (2, .int z)]) hx hb dX0_put_24 rfl hl (by decide) rfl (fun ls hl => ?_)
      refine lv_aload_n hx hb dX0_put_25 rfl (lv_at hl 1 rfl) ?_
      refine gA_on C P dX0_put_26 ?_
      refine lv_iload_n hx hb dX0_put_29 rfl (lv_at hl 2 rfl) ?_
      refine lA_on (v := (S 11 (ix k))) C P (bd_in rg c1) rfl dX0_put_30 ?_
      refine lv_iload_n hx hb dX0_put_31 rfl (lv_at hl 3 rfl) ?_
      refine lv_if_eq (tgt := 39) hx hb dX0_put_32 (by decide) (fun c7 => ?_) (fun c7 => ?_)
      · refine lv_iconst (v := 0) hx hb dX0_put_39 (by decide) ?_
        refine lv_icmp_eq (tgt := 48) hx hb dX0_put_40 (by decide) (fun c8 => ?_) (fun c8 => ?_)
        · exact absurd c8 c2
        · refine lv_aload_n hx hb dX0_put_43 rfl (lv_at hl 1 rfl) ?_
          refine lv_iload_n hx hb dX0_put_44 rfl (lv_at hl 2 rfl) ?_
          refine cA_v (rest := []) C P 1 (mA_toggle (k := k) l D a b rg (bd_in rg c1)) (lw_V q129 q131 qs10 q17 q132) rfl rfl (by decide +kernel) ⟨Nat.le_of_ble_eq_true rfl, Nat.le_of_ble_eq_true rfl⟩ rfl hl.1 rfl (Nat.le_of_ble_eq_true rfl) dX0_put_45 (fun H locs P => ?_)
          have rg9 : RG (tgS S V k) := RG_tg rg
          refine lv_iload_n hx hb dX0_put_48 rfl (lv_at hl 0 rfl) ?_
          exact rA_i C hr hlocks P (by simp [ptO, b01, c1, c2, c7, c8]) dX0_put_49
      · refine lv_iconst (v := 1) hx hb dX0_put_35 (by decide) ?_
        refine lv_goto (tgt := 40) hx hb dX0_put_36 (by decide) ?_
        refine lv_icmp_eq (tgt := 48) hx hb dX0_put_40 (by decide) (fun c10 => ?_) (fun c10 => ?_)
        · refine lv_iload_n hx hb dX0_put_48 rfl (lv_at hl 0 rfl) ?_
          exact rA_i C hr hlocks P (by simp [ptO, b01, c1, c2, c7, c10]) dX0_put_49
        · refine lv_aload_n hx hb dX0_put_43 rfl (lv_at hl 1 rfl) ?_
          refine lv_iload_n hx hb dX0_put_44 rfl (lv_at hl 2 rfl) ?_
          refine cA_v (rest := []) C P 1 (mA_toggle (k := k) l D a b rg (bd_in rg c1)) (lw_V q129 q131 qs10 q17 q132) rfl rfl (by decide +kernel) ⟨Nat.le_of_ble_eq_true rfl, Nat.le_of_ble_eq_true rfl⟩ rfl hl.1 rfl (Nat.le_of_ble_eq_true rfl) dX0_put_45 (fun H locs P => ?_)
          have rg11 : RG (tgS S V k) := RG_tg rg
          refine lv_iload_n hx hb dX0_put_48 rfl (lv_at hl 0 rfl) ?_
          exact rA_i C hr hlocks P (by simp [ptO, b01, c1, c2, c7, c10]) dX0_put_49
  · refine lv_iconst (v := (-1)) hx hb dX0_put_8 (by decide) ?_
    exact rA_i C hr hlocks P (by simp [ptO, b01, c1]) dX0_put_9

set_option maxHeartbeats 4000000 in
set_option maxRecDepth 100000 in
theorem lpA_undo {p : Program} {l : Launch} {e : Env} {s : State} {m : MethodId} {args : Array Value} {below : List Frame} {meth : Method} {c : Code} {D : va_G} {A : Nat → Prop} {a : Nat → Nat} {b : Nat → ClassId} {V : LL} (C : CX p s m c args cX0_undo 2 RX0 A D (tA b)) (hr : meth.sig.returnType = (some .int)) (hlocks : meth.locks = false) {S : SS} (rg : RG S) (o : Int32 × SS × LL) : ∀ (d : Nat) (v : Int32) (H : Heap) (locs : List Loc) (ls : Array Slot), v = nI d - 1 → d ≤ 32 → unO S V d = o → PA D A a b S V s.heap H locs → lv_has ls 2 [(0, .ref (a 0)), (1, .int v)] → W p l e ({ frames := 5, cells := 0, slots := 0, locals := 111 }) s m args below meth c H locs 0 0 (QAi D a b A o below args s) (F0 m 7 ls []) := by
  have hx := C.1
  have hb := C.2.1
  intro d
  induction d with
  | zero =>
    intro v H locs ls hv hd hT P hl
    subst hv
    refine lv_iload_n hx hb dX0_undo_7 rfl (lv_at hl 1 rfl) ?_
    refine lv_if_lt (tgt := 33) hx hb dX0_undo_8 (by decide) (fun c1 => ?_) (fun c1 => absurd (by decide) c1)
    refine lv_bipush (v := (-4)) hx hb dX0_undo_33 (by decide) ?_
    exact rA_i C hr hlocks P (by rw [← hT]; rfl) dX0_undo_35
  | succ d ih =>
    intro v H locs ls hv hd hT P hl
    rw [nI_pred] at hv
    subst hv
    refine lv_iload_n hx hb dX0_undo_7 rfl (lv_at hl 1 rfl) ?_
    refine lv_if_lt (tgt := 33) hx hb dX0_undo_8 (by decide) (fun c1 => absurd c1 (nI_pos (by omega))) (fun c1 => ?_)
    refine lv_aload_n hx hb dX0_undo_11 rfl (lv_at hl 0 rfl) ?_
    refine gA_on C P dX0_undo_12 ?_
    refine lv_iload_n hx hb dX0_undo_15 rfl (lv_at hl 1 rfl) ?_
    refine lA_on (v := (S 11 (ix (nI d)))) C P (vin_n (by omega) (by decide)) rfl dX0_undo_16 ?_
    refine lv_if_eq (tgt := 27) hx hb dX0_undo_17 (by decide) (fun c2 => ?_) (fun c2 => ?_)
    · refine lv_iinc (v := ((nI d) + (-1))) (lv' := [(1, .int ((nI d) + (-1))), (0, .ref (a 0))]) hx hb dX0_undo_27 hl (k := 1) rfl rfl (by decide) rfl (fun ls hl => ?_)
      refine lv_goto (tgt := 7) hx hb dX0_undo_30 (by decide) ?_
      exact ih _ H locs ls (nI_m1 d) (by omega) (by rw [← hT, unO, if_pos c2]) P (lv_sub hl [1, 0] rfl)
    · refine lv_aload_n hx hb dX0_undo_20 rfl (lv_at hl 0 rfl) ?_
      refine lv_iload_n hx hb dX0_undo_21 rfl (lv_at hl 1 rfl) ?_
      refine cA_v (rest := []) C P 1 (mA_toggle (k := (nI d)) l D a b rg (vin_n (by omega) (by decide))) (lw_V q129 q131 qs10 q17 q132) rfl rfl (by decide +kernel) ⟨Nat.le_of_ble_eq_true rfl, Nat.le_of_ble_eq_true rfl⟩ rfl hl.1 rfl (Nat.le_of_ble_eq_true rfl) dX0_undo_22 (fun H locs P => ?_)
      have rg3 : RG (tgS S V (nI d)) := RG_tg rg
      refine lv_iload_n hx hb dX0_undo_25 rfl (lv_at hl 1 rfl) ?_
      exact rA_i C hr hlocks P (by rw [← hT, unO, if_neg c2]) dX0_undo_26

set_option maxHeartbeats 4000000 in
set_option maxRecDepth 100000 in
theorem mA_undo (l : Launch) (D : va_G) (a : Nat → Nat) (b : Nat → ClassId) {S : SS} {V : LL} (rg : RG S) : MAi l D a b yX0_undo cX0_undo 2 .int { frames := 5, cells := 0, slots := 0, locals := 111 } [] S V (unO S V (ix (S 0 10))) := by
  refine MAi.of (by decide) rfl (Nat.le_of_ble_eq_true rfl) ?_
  intro p e s m below meth c A ls C hr hlocks P hl
  have hx := C.1
  have hb := C.2.1
  have hl : lv_has ls 2 [(0, .ref (a 0))] := hl
  refine lv_aload_n hx hb dX0_undo_0 rfl (lv_at hl 0 rfl) ?_
  refine gA_changes (v := (S 0 10)) C P rfl dX0_undo_1 ?_
  refine lv_iconst (v := 1) hx hb dX0_undo_4 (by decide) ?_
  refine lv_isub hx hb dX0_undo_5 ?_
  refine lv_istore_n (lv' := [(1, .int ((S 0 10) - 1)), (0, .ref (a 0))]) hx hb dX0_undo_6 rfl hl (by decide) rfl (fun ls hl => ?_)
  exact lpA_undo C hr hlocks rg _ (ix (S 0 10)) _ _ _ _ (by rw [nI_ix (vin_nn (rgN rg))]) (Nat.le_of_lt_succ (ix_lt (rgN rg))) rfl P (lv_sub hl [1, 0] rfl)

set_option maxHeartbeats 4000000 in
set_option maxRecDepth 100000 in
theorem lpA_redo {p : Program} {l : Launch} {e : Env} {s : State} {m : MethodId} {args : Array Value} {below : List Frame} {meth : Method} {c : Code} {D : va_G} {A : Nat → Prop} {a : Nat → Nat} {b : Nat → ClassId} {V : LL} (C : CX p s m c args cX0_redo 2 RX0 A D (tA b)) (hr : meth.sig.returnType = (some .int)) (hlocks : meth.locks = false) {S : SS} (rg : RG S) (o : Int32 × SS × LL) (N : Nat) (hN : S 0 10 = nI N) (hN32 : N ≤ 32) : ∀ (d k : Nat) (H : Heap) (locs : List Loc) (ls : Array Slot), k + d = N → rdO S V d k = o → PA D A a b S V s.heap H locs → lv_has ls 2 [(0, .ref (a 0)), (1, .int (nI k))] → W p l e ({ frames := 5, cells := 0, slots := 0, locals := 111 }) s m args below meth c H locs 0 0 (QAi D a b A o below args s) (F0 m 2 ls []) := by
  have hx := C.1
  have hb := C.2.1
  intro d
  induction d with
  | zero =>
    intro k H locs ls hk hT P hl
    refine lv_iload_n hx hb dX0_redo_2 rfl (lv_at hl 1 rfl) ?_
    refine lv_aload_n hx hb dX0_redo_3 rfl (lv_at hl 0 rfl) ?_
    refine gA_changes (v := (S 0 10)) C P rfl dX0_redo_4 ?_
    refine lv_icmp_ge (tgt := 32) hx hb dX0_redo_7 (by decide) (fun c1 => ?_) (fun c1 => absurd (by rw [hN]; exact nI_le (by omega) (by omega)) c1)
    refine lv_bipush (v := (-4)) hx hb dX0_redo_32 (by decide) ?_
    exact rA_i C hr hlocks P (by rw [← hT]; rfl) dX0_redo_34
  | succ d ih =>
    intro k H locs ls hk hT P hl
    refine lv_iload_n hx hb dX0_redo_2 rfl (lv_at hl 1 rfl) ?_
    refine lv_aload_n hx hb dX0_redo_3 rfl (lv_at hl 0 rfl) ?_
    refine gA_changes (v := (S 0 10)) C P rfl dX0_redo_4 ?_
    refine lv_icmp_ge (tgt := 32) hx hb dX0_redo_7 (by decide) (fun c1 => absurd c1 (by rw [hN]; exact nI_ge (by omega) (by omega))) (fun c1 => ?_)
    refine lv_aload_n hx hb dX0_redo_10 rfl (lv_at hl 0 rfl) ?_
    refine gA_on C P dX0_redo_11 ?_
    refine lv_iload_n hx hb dX0_redo_14 rfl (lv_at hl 1 rfl) ?_
    refine lA_on (v := (S 11 (ix (nI k)))) C P (vin_n (by omega) (by decide)) rfl dX0_redo_15 ?_
    refine lv_if_ne (tgt := 26) hx hb dX0_redo_16 (by decide) (fun c2 => ?_) (fun c2 => ?_)
    · refine lv_iinc (v := (nI (k + 1))) (lv' := [(1, .int (nI (k + 1))), (0, .ref (a 0))]) hx hb dX0_redo_26 hl (k := 1) rfl (nI_1 k) (by decide) rfl (fun ls hl => ?_)
      refine lv_goto (tgt := 2) hx hb dX0_redo_29 (by decide) ?_
      exact ih (k + 1) H locs ls (by omega) (by rw [← hT, rdO, if_neg c2]) P (lv_sub hl [1, 0] rfl)
    · refine lv_aload_n hx hb dX0_redo_19 rfl (lv_at hl 0 rfl) ?_
      refine lv_iload_n hx hb dX0_redo_20 rfl (lv_at hl 1 rfl) ?_
      refine cA_v (rest := []) C P 1 (mA_toggle (k := (nI k)) l D a b rg (vin_n (by omega) (by decide))) (lw_V q129 q131 qs10 q17 q132) rfl rfl (by decide +kernel) ⟨Nat.le_of_ble_eq_true rfl, Nat.le_of_ble_eq_true rfl⟩ rfl hl.1 rfl (Nat.le_of_ble_eq_true rfl) dX0_redo_21 (fun H locs P => ?_)
      have rg3 : RG (tgS S V (nI k)) := RG_tg rg
      refine lv_iload_n hx hb dX0_redo_24 rfl (lv_at hl 1 rfl) ?_
      exact rA_i C hr hlocks P (by rw [← hT, rdO, if_pos c2]) dX0_redo_25

set_option maxHeartbeats 4000000 in
set_option maxRecDepth 100000 in
theorem mA_redo (l : Launch) (D : va_G) (a : Nat → Nat) (b : Nat → ClassId) {S : SS} {V : LL} (rg : RG S) : MAi l D a b yX0_redo cX0_redo 2 .int { frames := 5, cells := 0, slots := 0, locals := 111 } [] S V (rdO S V (ix (S 0 10)) 0) := by
  refine MAi.of (by decide) rfl (Nat.le_of_ble_eq_true rfl) ?_
  intro p e s m below meth c A ls C hr hlocks P hl
  have hx := C.1
  have hb := C.2.1
  have hl : lv_has ls 2 [(0, .ref (a 0))] := hl
  refine lv_iconst (v := (nI 0)) hx hb dX0_redo_0 (by decide) ?_
  refine lv_istore_n (lv' := [(1, .int (nI 0)), (0, .ref (a 0))]) hx hb dX0_redo_1 rfl hl (by decide) rfl (fun ls hl => ?_)
  exact lpA_redo C hr hlocks rg _ (ix (S 0 10)) (nI_ix (vin_nn (rgN rg))).symm (Nat.le_of_lt_succ (ix_lt (rgN rg))) (ix (S 0 10)) 0 _ _ _ (by omega) rfl P (lv_sub hl [1, 0] rfl)

set_option maxHeartbeats 4000000 in
set_option maxRecDepth 100000 in
theorem lpA_flip {p : Program} {l : Launch} {e : Env} {s : State} {m : MethodId} {args : Array Value} {below : List Frame} {meth : Method} {c : Code} {D : va_G} {A : Nat → Prop} {a : Nat → Nat} {b : Nat → ClassId} {V : LL} (C : CX p s m c args cX0_flip 5 RX0 A D (tA b)) (hr : meth.sig.returnType = (some .int)) (hlocks : meth.locks = false) (i j : Int32) (o : Int32 × SS × LL) (J : Nat) (hj : j = nI J) (hJ : J < 32) : ∀ (d k : Nat) (S : SS) (n v : Int32) (H : Heap) (locs : List Loc) (ls : Array Slot), v = nI k → k + d = J + 1 → RG S → flL d S V k n = o → PA D A a b S V s.heap H locs → lv_has ls 5 [(0, .ref (a 0)), (1, .int i), (2, .int j), (3, .int n), (4, .int v)] → W p l e ({ frames := 5, cells := 0, slots := 0, locals := 111 }) s m args below meth c H locs 0 0 (QAi D a b A o below args s) (F0 m 24 ls []) := by
  have hx := C.1
  have hb := C.2.1
  intro d
  induction d with
  | zero =>
    intro k S n v H locs ls hv hk rg hT P hl
    subst hv
    refine lv_iload hx hb dX0_flip_24 (lv_at hl 4 rfl) ?_
    refine lv_iload_n hx hb dX0_flip_26 rfl (lv_at hl 2 rfl) ?_
    refine lv_icmp_gt (tgt := 55) hx hb dX0_flip_27 (by decide) (fun c1 => ?_) (fun c1 => absurd (by rw [hj]; exact nI_lt (by omega) (by omega)) c1)
    refine lv_iload_n hx hb dX0_flip_55 rfl (lv_at hl 3 rfl) ?_
    exact rA_i C hr hlocks P (by rw [← hT]; rfl) dX0_flip_56
  | succ d ih =>
    intro k S n v H locs ls hv hk rg hT P hl
    subst hv
    refine lv_iload hx hb dX0_flip_24 (lv_at hl 4 rfl) ?_
    refine lv_iload_n hx hb dX0_flip_26 rfl (lv_at hl 2 rfl) ?_
    refine lv_icmp_gt (tgt := 55) hx hb dX0_flip_27 (by decide) (fun c1 => absurd c1 (by rw [hj]; exact nI_nlt (by omega) (by omega))) (fun c1 => ?_)
    refine lv_aload_n hx hb dX0_flip_30 rfl (lv_at hl 0 rfl) ?_
    refine lv_iload hx hb dX0_flip_31 (lv_at hl 4 rfl) ?_
    refine cA_v (rest := []) C P 1 (mA_toggle (k := (nI k)) l D a b rg (vin_n (by omega) (by decide))) (lw_V q129 q131 qs10 q17 q132) rfl rfl (by decide +kernel) ⟨Nat.le_of_ble_eq_true rfl, Nat.le_of_ble_eq_true rfl⟩ rfl hl.1 rfl (Nat.le_of_ble_eq_true rfl) dX0_flip_33 (fun H locs P => ?_)
    have rg2 : RG (tgS S V (nI k)) := RG_tg rg
    refine lv_aload_n hx hb dX0_flip_36 rfl (lv_at hl 0 rfl) ?_
    refine gA_on C P dX0_flip_37 ?_
    refine lv_iload hx hb dX0_flip_40 (lv_at hl 4 rfl) ?_
    refine lA_on (v := ((tgS S V (nI k)) 11 (ix (nI k)))) C P (vin_n (by omega) (by decide)) rfl dX0_flip_42 ?_
    refine lv_if_eq (tgt := 49) hx hb dX0_flip_43 (by decide) (fun c3 => ?_) (fun c3 => ?_)
    · refine lv_iinc (v := (nI (k + 1))) (lv' := [(4, .int (nI (k + 1))), (0, .ref (a 0)), (1, .int i), (2, .int j), (3, .int n)]) hx hb dX0_flip_49 hl (k := 4) rfl (nI_1 k) (by decide) rfl (fun ls hl => ?_)
      refine lv_goto (tgt := 24) hx hb dX0_flip_52 (by decide) ?_
      exact ih (k + 1) (tgS S V (nI k)) n _ H locs ls rfl (by omega) rg2 (by rw [← hT, flL, if_pos c3]) P (lv_sub hl [1, 2, 3, 4, 0] rfl)
    · refine lv_iinc (v := (n + 1)) (lv' := [(3, .int (n + 1)), (0, .ref (a 0)), (1, .int i), (2, .int j), (4, .int (nI k))]) hx hb dX0_flip_46 hl (k := 3) rfl rfl (by decide) rfl (fun ls hl => ?_)
      refine lv_iinc (v := (nI (k + 1))) (lv' := [(4, .int (nI (k + 1))), (3, .int (n + 1)), (0, .ref (a 0)), (1, .int i), (2, .int j)]) hx hb dX0_flip_49 hl (k := 4) rfl (nI_1 k) (by decide) rfl (fun ls hl => ?_)
      refine lv_goto (tgt := 24) hx hb dX0_flip_52 (by decide) ?_
      exact ih (k + 1) (tgS S V (nI k)) (n + 1) _ H locs ls rfl (by omega) rg2 (by rw [← hT, flL, if_neg c3]) P (lv_sub hl [2, 3, 4, 1, 0] rfl)

set_option maxHeartbeats 4000000 in
set_option maxRecDepth 100000 in
theorem mA_flip (l : Launch) (D : va_G) (a : Nat → Nat) (b : Nat → ClassId) {S : SS} {V : LL} {i j : Int32} (rg : RG S) : MAi l D a b yX0_flip cX0_flip 5 .int { frames := 5, cells := 0, slots := 0, locals := 111 } [.int i, .int j] S V (flO S V i j) := by
  refine MAi.of (by decide) rfl (Nat.le_of_ble_eq_true rfl) ?_
  intro p e s m below meth c A ls C hr hlocks P hl
  have hx := C.1
  have hb := C.2.1
  have hl : lv_has ls 5 [(0, .ref (a 0)), (1, .int i), (2, .int j)] := hl
  refine lv_iload_n hx hb dX0_flip_0 rfl (lv_at hl 1 rfl) ?_
  refine lv_if_lt (tgt := 17) hx hb dX0_flip_1 (by decide) (fun c1 => ?_) (fun c1 => ?_)
  · refine lv_iconst (v := (-1)) hx hb dX0_flip_17 (by decide) ?_
    exact rA_i C hr hlocks P (by simp [flO, c1]) dX0_flip_18
  · refine lv_iload_n hx hb dX0_flip_4 rfl (lv_at hl 2 rfl) ?_
    refine lv_iload_n hx hb dX0_flip_5 rfl (lv_at hl 1 rfl) ?_
    refine lv_icmp_lt (tgt := 17) hx hb dX0_flip_6 (by decide) (fun c2 => ?_) (fun c2 => ?_)
    · refine lv_iconst (v := (-1)) hx hb dX0_flip_17 (by decide) ?_
      exact rA_i C hr hlocks P (by simp [flO, c1, c2]) dX0_flip_18
    · refine lv_aload_n hx hb dX0_flip_9 rfl (lv_at hl 0 rfl) ?_
      refine lv_iload_n hx hb dX0_flip_10 rfl (lv_at hl 2 rfl) ?_
      refine cA_i (rest := []) C P 1 (mA_bad l D a b) (lw_V q125 q127 qs9 q17 q128) rfl rfl (by decide +kernel) ⟨Nat.le_of_ble_eq_true rfl, Nat.le_of_ble_eq_true rfl⟩ rfl hl.1 rfl (Nat.le_of_ble_eq_true rfl) dX0_flip_11 (fun H locs P => ?_)
      refine lv_if_eq (tgt := 19) hx hb dX0_flip_14 (by decide) (fun c3 => ?_) (fun c3 => ?_)
      · refine lv_iconst (v := 0) hx hb dX0_flip_19 (by decide) ?_
        refine lv_istore_n (lv' := [(3, .int 0), (0, .ref (a 0)), (1, .int i), (2, .int j)]) hx hb dX0_flip_20 rfl hl (by decide) rfl (fun ls hl => ?_)
        refine lv_iload_n hx hb dX0_flip_21 rfl (lv_at hl 2 rfl) ?_
        refine lv_istore (lv' := [(4, .int i), (3, .int 0), (0, .ref (a 0)), (1, .int i), (2, .int j)]) hx hb dX0_flip_22 hl (by decide) rfl (fun ls hl => ?_)
        exact lpA_flip C hr hlocks i j _ (ix j) (nI_ix (vin_nn (bd_in rg c3))).symm (ix_lt (bd_in rg c3)) (ix j + 1 - ix i) (ix i) S _ _ _ _ _ (nI_ix c1).symm (by have := ix_le_of c2; omega) rg (by rw [flO, if_neg c1, if_neg c2, if_pos c3]) P (lv_sub hl [2, 3, 4, 1, 0] rfl)
      · refine lv_iconst (v := (-1)) hx hb dX0_flip_17 (by decide) ?_
        exact rA_i C hr hlocks P (by simp [flO, c1, c2, c3]) dX0_flip_18

set_option maxHeartbeats 4000000 in
set_option maxRecDepth 100000 in
theorem mA_changes (l : Launch) (D : va_G) (a : Nat → Nat) (b : Nat → ClassId) {S : SS} {V : LL}  : MAi l D a b yX0_changes cX0_changes 1 .int { frames := 0, cells := 0, slots := 0, locals := 0 } [] S V (S 0 10, S, V) := by
  refine MAi.of (by decide) rfl (Nat.le_of_ble_eq_true rfl) ?_
  intro p e s m below meth c A ls C hr hlocks P hl
  have hx := C.1
  have hb := C.2.1
  have hl : lv_has ls 1 [(0, .ref (a 0))] := hl
  refine lv_aload_n hx hb dX0_changes_0 rfl (lv_at hl 0 rfl) ?_
  refine gA_changes (v := (S 0 10)) C P rfl dX0_changes_1 ?_
  exact rA_i C hr hlocks P (rfl) dX0_changes_4

set_option maxHeartbeats 4000000 in
set_option maxRecDepth 100000 in
theorem mA_isOn (l : Launch) (D : va_G) (a : Nat → Nat) (b : Nat → ClassId) {S : SS} {V : LL} {k : Int32} (rg : RG S) : MAi l D a b yX0_isOn cX0_isOn 2 .boolean { frames := 1, cells := 0, slots := 0, locals := 21 } [.int k] S V (ioF S k, S, V) := by
  refine MAi.of (by decide) rfl (Nat.le_of_ble_eq_true rfl) ?_
  intro p e s m below meth c A ls C hr hlocks P hl
  have hx := C.1
  have hb := C.2.1
  have hl : lv_has ls 2 [(0, .ref (a 0)), (1, .int k)] := hl
  refine lv_aload_n hx hb dX0_isOn_0 rfl (lv_at hl 0 rfl) ?_
  refine lv_iload_n hx hb dX0_isOn_1 rfl (lv_at hl 1 rfl) ?_
  refine cA_i (rest := []) C P 1 (mA_bad l D a b) (lw_V q125 q127 qs9 q17 q128) rfl rfl (by decide +kernel) ⟨Nat.le_of_ble_eq_true rfl, Nat.le_of_ble_eq_true rfl⟩ rfl hl.1 rfl (Nat.le_of_ble_eq_true rfl) dX0_isOn_2 (fun H locs P => ?_)
  refine lv_if_ne (tgt := 21) hx hb dX0_isOn_5 (by decide) (fun c1 => ?_) (fun c1 => ?_)
  · refine lv_iconst (v := 0) hx hb dX0_isOn_21 (by decide) ?_
    exact rA_z C hr hlocks P (by decide) (by simp [ioF, c1]) dX0_isOn_22
  · refine lv_aload_n hx hb dX0_isOn_8 rfl (lv_at hl 0 rfl) ?_
    refine gA_on C P dX0_isOn_9 ?_
    refine lv_iload_n hx hb dX0_isOn_12 rfl (lv_at hl 1 rfl) ?_
    refine lA_on (v := (S 11 (ix k))) C P (bd_in rg c1) rfl dX0_isOn_13 ?_
    refine lv_if_eq (tgt := 21) hx hb dX0_isOn_14 (by decide) (fun c2 => ?_) (fun c2 => ?_)
    · refine lv_iconst (v := 0) hx hb dX0_isOn_21 (by decide) ?_
      exact rA_z C hr hlocks P (by decide) (by simp [ioF, c1, c2]) dX0_isOn_22
    · refine lv_iconst (v := 1) hx hb dX0_isOn_17 (by decide) ?_
      refine lv_goto (tgt := 22) hx hb dX0_isOn_18 (by decide) ?_
      exact rA_z C hr hlocks P (by decide) (by simp [ioF, c1, c2]) dX0_isOn_22

set_option maxHeartbeats 4000000 in
set_option maxRecDepth 100000 in
theorem mA_length (l : Launch) (D : va_G) (a : Nat → Nat) (b : Nat → ClassId) {S : SS} {V : LL} (rg : RG S) : MAi l D a b yX0_length cX0_length 1 .int { frames := 1, cells := 0, slots := 0, locals := 20 } [] S V (tlF S, S, V) := by
  refine MAi.of (by decide) rfl (Nat.le_of_ble_eq_true rfl) ?_
  intro p e s m below meth c A ls C hr hlocks P hl
  have hx := C.1
  have hb := C.2.1
  have hl : lv_has ls 1 [(0, .ref (a 0))] := hl
  refine lv_aload_n hx hb dX0_length_0 rfl (lv_at hl 0 rfl) ?_
  refine cA_i (rest := []) C P 0 (mA_textLength l D a b rg) (lw_V q80 q82 qs0 q17 q83) rfl rfl (by decide +kernel) ⟨Nat.le_of_ble_eq_true rfl, Nat.le_of_ble_eq_true rfl⟩ rfl hl.1 rfl (Nat.le_of_ble_eq_true rfl) dX0_length_1 (fun H locs P => ?_)
  exact rA_i C hr hlocks P (rfl) dX0_length_4

set_option maxHeartbeats 4000000 in
set_option maxRecDepth 100000 in
theorem mA_letter (l : Launch) (D : va_G) (a : Nat → Nat) (b : Nat → ClassId) {S : SS} {V : LL} {k : Int32} (rg : RG S) : MAi l D a b yX0_letter cX0_letter 3 .int { frames := 2, cells := 0, slots := 0, locals := 46 } [.int k] S V (ltF S k, S, V) := by
  refine MAi.of (by decide) rfl (Nat.le_of_ble_eq_true rfl) ?_
  intro p e s m below meth c A ls C hr hlocks P hl
  have hx := C.1
  have hb := C.2.1
  have hl : lv_has ls 3 [(0, .ref (a 0)), (1, .int k)] := hl
  refine lv_iload_n hx hb dX0_letter_0 rfl (lv_at hl 1 rfl) ?_
  refine lv_if_lt (tgt := 12) hx hb dX0_letter_1 (by decide) (fun c1 => ?_) (fun c1 => ?_)
  · refine lv_bipush (v := (-4)) hx hb dX0_letter_12 (by decide) ?_
    exact rA_i C hr hlocks P (by simp [ltF, c1]) dX0_letter_14
  · refine lv_iload_n hx hb dX0_letter_4 rfl (lv_at hl 1 rfl) ?_
    refine lv_aload_n hx hb dX0_letter_5 rfl (lv_at hl 0 rfl) ?_
    refine cA_i (rest := [.int k]) C P 0 (mA_textLength l D a b rg) (lw_V q80 q82 qs0 q17 q83) rfl rfl (by decide +kernel) ⟨Nat.le_of_ble_eq_true rfl, Nat.le_of_ble_eq_true rfl⟩ rfl hl.1 rfl (Nat.le_of_ble_eq_true rfl) dX0_letter_6 (fun H locs P => ?_)
    refine lv_icmp_lt (tgt := 15) hx hb dX0_letter_9 (by decide) (fun c2 => ?_) (fun c2 => ?_)
    · refine lv_aload_n hx hb dX0_letter_15 rfl (lv_at hl 0 rfl) ?_
      refine lv_iload_n hx hb dX0_letter_16 rfl (lv_at hl 1 rfl) ?_
      refine cA_i (rest := []) C P 1 (mA_nodeAt l D a b rg) (lw_V q84 q86 qs1 q17 q87) rfl rfl (by decide +kernel) ⟨Nat.le_of_ble_eq_true rfl, Nat.le_of_ble_eq_true rfl⟩ rfl hl.1 rfl (Nat.le_of_ble_eq_true rfl) dX0_letter_17 (fun H locs P => ?_)
      refine lv_istore_n (lv' := [(2, .int (nodeF S k)), (0, .ref (a 0)), (1, .int k)]) hx hb dX0_letter_20 rfl hl (by decide) rfl (fun ls hl => ?_)
      refine lv_aload_n hx hb dX0_letter_21 rfl (lv_at hl 1 rfl) ?_
      refine gA_letter C P dX0_letter_22 ?_
      refine lv_iload_n hx hb dX0_letter_25 rfl (lv_at hl 0 rfl) ?_
      refine lA_letter (v := (S 7 (ix (nodeF S k)))) C P (vin_node rg) rfl dX0_letter_26 ?_
      exact rA_i C hr hlocks P (by simp [ltF, c1, c2]) dX0_letter_27
    · refine lv_bipush (v := (-4)) hx hb dX0_letter_12 (by decide) ?_
      exact rA_i C hr hlocks P (by simp [ltF, c1, c2]) dX0_letter_14

set_option maxHeartbeats 4000000 in
set_option maxRecDepth 100000 in
theorem mA_origin (l : Launch) (D : va_G) (a : Nat → Nat) (b : Nat → ClassId) {S : SS} {V : LL} {k : Int32} (rg : RG S) : MAi l D a b yX0_origin cX0_origin 3 .int { frames := 2, cells := 0, slots := 0, locals := 46 } [.int k] S V (ogF S k, S, V) := by
  refine MAi.of (by decide) rfl (Nat.le_of_ble_eq_true rfl) ?_
  intro p e s m below meth c A ls C hr hlocks P hl
  have hx := C.1
  have hb := C.2.1
  have hl : lv_has ls 3 [(0, .ref (a 0)), (1, .int k)] := hl
  refine lv_iload_n hx hb dX0_origin_0 rfl (lv_at hl 1 rfl) ?_
  refine lv_if_lt (tgt := 12) hx hb dX0_origin_1 (by decide) (fun c1 => ?_) (fun c1 => ?_)
  · refine lv_bipush (v := (-4)) hx hb dX0_origin_12 (by decide) ?_
    exact rA_i C hr hlocks P (by simp [ogF, c1]) dX0_origin_14
  · refine lv_iload_n hx hb dX0_origin_4 rfl (lv_at hl 1 rfl) ?_
    refine lv_aload_n hx hb dX0_origin_5 rfl (lv_at hl 0 rfl) ?_
    refine cA_i (rest := [.int k]) C P 0 (mA_textLength l D a b rg) (lw_V q80 q82 qs0 q17 q83) rfl rfl (by decide +kernel) ⟨Nat.le_of_ble_eq_true rfl, Nat.le_of_ble_eq_true rfl⟩ rfl hl.1 rfl (Nat.le_of_ble_eq_true rfl) dX0_origin_6 (fun H locs P => ?_)
    refine lv_icmp_lt (tgt := 15) hx hb dX0_origin_9 (by decide) (fun c2 => ?_) (fun c2 => ?_)
    · refine lv_aload_n hx hb dX0_origin_15 rfl (lv_at hl 0 rfl) ?_
      refine lv_iload_n hx hb dX0_origin_16 rfl (lv_at hl 1 rfl) ?_
      refine cA_i (rest := []) C P 1 (mA_nodeAt l D a b rg) (lw_V q84 q86 qs1 q17 q87) rfl rfl (by decide +kernel) ⟨Nat.le_of_ble_eq_true rfl, Nat.le_of_ble_eq_true rfl⟩ rfl hl.1 rfl (Nat.le_of_ble_eq_true rfl) dX0_origin_17 (fun H locs P => ?_)
      refine lv_istore_n (lv' := [(2, .int (nodeF S k)), (0, .ref (a 0)), (1, .int k)]) hx hb dX0_origin_20 rfl hl (by decide) rfl (fun ls hl => ?_)
      refine lv_aload_n hx hb dX0_origin_21 rfl (lv_at hl 1 rfl) ?_
      refine gA_typist C P dX0_origin_22 ?_
      refine lv_iload_n hx hb dX0_origin_25 rfl (lv_at hl 0 rfl) ?_
      refine lA_typist (v := (S 8 (ix (nodeF S k)))) C P (vin_node rg) rfl dX0_origin_26 ?_
      exact rA_i C hr hlocks P (by simp [ogF, c1, c2]) dX0_origin_27
    · refine lv_bipush (v := (-4)) hx hb dX0_origin_12 (by decide) ?_
      exact rA_i C hr hlocks P (by simp [ogF, c1, c2]) dX0_origin_14

set_option maxHeartbeats 4000000 in
set_option maxRecDepth 100000 in
theorem mA_where (l : Launch) (D : va_G) (a : Nat → Nat) (b : Nat → ClassId) {S : SS} {V : LL} {k : Int32} (rg : RG S) : MAi l D a b yX0_where cX0_where 3 .int { frames := 2, cells := 0, slots := 0, locals := 46 } [.int k] S V (whF S k, S, V) := by
  refine MAi.of (by decide) rfl (Nat.le_of_ble_eq_true rfl) ?_
  intro p e s m below meth c A ls C hr hlocks P hl
  have hx := C.1
  have hb := C.2.1
  have hl : lv_has ls 3 [(0, .ref (a 0)), (1, .int k)] := hl
  refine lv_aload_n hx hb dX0_where_0 rfl (lv_at hl 0 rfl) ?_
  refine lv_iload_n hx hb dX0_where_1 rfl (lv_at hl 1 rfl) ?_
  refine cA_i (rest := []) C P 1 (mA_bad l D a b) (lw_V q125 q127 qs9 q17 q128) rfl rfl (by decide +kernel) ⟨Nat.le_of_ble_eq_true rfl, Nat.le_of_ble_eq_true rfl⟩ rfl hl.1 rfl (Nat.le_of_ble_eq_true rfl) dX0_where_2 (fun H locs P => ?_)
  refine lv_if_ne (tgt := 17) hx hb dX0_where_5 (by decide) (fun c1 => ?_) (fun c1 => ?_)
  · refine lv_bipush (v := (-4)) hx hb dX0_where_17 (by decide) ?_
    exact rA_i C hr hlocks P (by simp [whF, c1]) dX0_where_19
  · refine lv_aload_n hx hb dX0_where_8 rfl (lv_at hl 0 rfl) ?_
    refine gA_typed C P dX0_where_9 ?_
    refine lv_iload_n hx hb dX0_where_12 rfl (lv_at hl 1 rfl) ?_
    refine lA_typed (v := (S 12 (ix k))) C P (bd_in rg c1) rfl dX0_where_13 ?_
    refine lv_if_ne (tgt := 20) hx hb dX0_where_14 (by decide) (fun c2 => ?_) (fun c2 => ?_)
    · refine lv_aload_n hx hb dX0_where_20 rfl (lv_at hl 0 rfl) ?_
      refine lv_aload_n hx hb dX0_where_21 rfl (lv_at hl 0 rfl) ?_
      refine gA_typed C P dX0_where_22 ?_
      refine lv_iload_n hx hb dX0_where_25 rfl (lv_at hl 1 rfl) ?_
      refine lA_typed (v := (S 12 (ix k))) C P (bd_in rg c1) rfl dX0_where_26 ?_
      refine cA_i (rest := []) C P 1 (mA_shown (x := (S 12 (ix k))) l D a b rg (rgY rg (bd_in rg c1))) (lw_V q88 q90 qs2 q17 q91) rfl rfl (by decide +kernel) ⟨Nat.le_of_ble_eq_true rfl, Nat.le_of_ble_eq_true rfl⟩ rfl hl.1 rfl (Nat.le_of_ble_eq_true rfl) dX0_where_27 (fun H locs P => ?_)
      refine lv_istore_n (lv' := [(2, .int (shI S (S 12 (ix k)))), (0, .ref (a 0)), (1, .int k)]) hx hb dX0_where_30 rfl hl (by decide) rfl (fun ls hl => ?_)
      refine lv_iload_n hx hb dX0_where_31 rfl (lv_at hl 0 rfl) ?_
      refine lv_if_eq (tgt := 48) hx hb dX0_where_32 (by decide) (fun c3 => ?_) (fun c3 => ?_)
      · refine lv_bipush (v := (-4)) hx hb dX0_where_48 (by decide) ?_
        exact rA_i C hr hlocks P (by simp [whF, c1, c2, c3]) dX0_where_50
      · refine lv_aload_n hx hb dX0_where_35 rfl (lv_at hl 1 rfl) ?_
        refine lv_aload_n hx hb dX0_where_36 rfl (lv_at hl 1 rfl) ?_
        refine gA_typed C P dX0_where_37 ?_
        refine lv_iload_n hx hb dX0_where_40 rfl (lv_at hl 2 rfl) ?_
        refine lA_typed (v := (S 12 (ix k))) C P (bd_in rg c1) rfl dX0_where_41 ?_
        refine cA_i (rest := []) C P 1 (mA_placeOf (x := (S 12 (ix k))) l D a b rg (rgY rg (bd_in rg c1))) (lw_V q169 q171 qs11 q17 q172) rfl rfl (by decide +kernel) ⟨Nat.le_of_ble_eq_true rfl, Nat.le_of_ble_eq_true rfl⟩ rfl hl.1 rfl (Nat.le_of_ble_eq_true rfl) dX0_where_42 (fun H locs P => ?_)
        refine lv_goto (tgt := 50) hx hb dX0_where_45 (by decide) ?_
        exact rA_i C hr hlocks P (by simp [whF, c1, c2, c3]) dX0_where_50
    · refine lv_bipush (v := (-4)) hx hb dX0_where_17 (by decide) ?_
      exact rA_i C hr hlocks P (by simp [whF, c1, c2]) dX0_where_19

set_option maxHeartbeats 4000000 in
set_option maxRecDepth 100000 in
theorem mA_coveredBy (l : Launch) (D : va_G) (a : Nat → Nat) (b : Nat → ClassId) {S : SS} {V : LL} {k : Int32} (rg : RG S) : MAi l D a b yX0_coveredBy cX0_coveredBy 2 .int { frames := 1, cells := 0, slots := 0, locals := 21 } [.int k] S V (cyF S k, S, V) := by
  refine MAi.of (by decide) rfl (Nat.le_of_ble_eq_true rfl) ?_
  intro p e s m below meth c A ls C hr hlocks P hl
  have hx := C.1
  have hb := C.2.1
  have hl : lv_has ls 2 [(0, .ref (a 0)), (1, .int k)] := hl
  refine lv_aload_n hx hb dX0_coveredBy_0 rfl (lv_at hl 0 rfl) ?_
  refine lv_iload_n hx hb dX0_coveredBy_1 rfl (lv_at hl 1 rfl) ?_
  refine cA_i (rest := []) C P 1 (mA_bad l D a b) (lw_V q125 q127 qs9 q17 q128) rfl rfl (by decide +kernel) ⟨Nat.le_of_ble_eq_true rfl, Nat.le_of_ble_eq_true rfl⟩ rfl hl.1 rfl (Nat.le_of_ble_eq_true rfl) dX0_coveredBy_2 (fun H locs P => ?_)
  refine lv_if_eq (tgt := 10) hx hb dX0_coveredBy_5 (by decide) (fun c1 => ?_) (fun c1 => ?_)
  · refine lv_aload_n hx hb dX0_coveredBy_10 rfl (lv_at hl 0 rfl) ?_
    refine gA_typed C P dX0_coveredBy_11 ?_
    refine lv_iload_n hx hb dX0_coveredBy_14 rfl (lv_at hl 1 rfl) ?_
    refine lA_typed (v := (S 12 (ix k))) C P (bd_in rg c1) rfl dX0_coveredBy_15 ?_
    refine lv_if_ne (tgt := 24) hx hb dX0_coveredBy_16 (by decide) (fun c2 => ?_) (fun c2 => ?_)
    · refine lv_aload_n hx hb dX0_coveredBy_24 rfl (lv_at hl 0 rfl) ?_
      refine gA_covered C P dX0_coveredBy_25 ?_
      refine lv_aload_n hx hb dX0_coveredBy_28 rfl (lv_at hl 0 rfl) ?_
      refine gA_typed C P dX0_coveredBy_29 ?_
      refine lv_iload_n hx hb dX0_coveredBy_32 rfl (lv_at hl 1 rfl) ?_
      refine lA_typed (v := (S 12 (ix k))) C P (bd_in rg c1) rfl dX0_coveredBy_33 ?_
      refine lA_covered (v := (S 9 (ix (S 12 (ix k))))) C P (rgY rg (bd_in rg c1)) rfl dX0_coveredBy_34 ?_
      exact rA_i C hr hlocks P (by simp [cyF, c1, c2]) dX0_coveredBy_35
    · refine lv_bipush (v := (-4)) hx hb dX0_coveredBy_19 (by decide) ?_
      refine lv_goto (tgt := 35) hx hb dX0_coveredBy_21 (by decide) ?_
      exact rA_i C hr hlocks P (by simp [cyF, c1, c2]) dX0_coveredBy_35
  · refine lv_iconst (v := (-1)) hx hb dX0_coveredBy_8 (by decide) ?_
    exact rA_i C hr hlocks P (by simp [cyF, c1]) dX0_coveredBy_9

set_option maxHeartbeats 4000000 in
set_option maxRecDepth 100000 in
theorem lpA_covers {p : Program} {l : Launch} {e : Env} {s : State} {m : MethodId} {args : Array Value} {below : List Frame} {meth : Method} {c : Code} {D : va_G} {A : Nat → Prop} {a : Nat → Nat} {b : Nat → ClassId} {V : LL} (C : CX p s m c args cX0_covers 4 RX0 A D (tA b)) (hr : meth.sig.returnType = (some .int)) (hlocks : meth.locks = false) {S : SS} (k : Int32) (hk : vp_in k 32) (r : Int32) : ∀ (d x : Nat) (n : Int32) (H : Heap) (locs : List Loc) (ls : Array Slot), x + d = 48 → cvL d (V (ix k)) x n = r → PA D A a b S V s.heap H locs → lv_has ls 4 [(0, .ref (a 0)), (1, .int k), (2, .int n), (3, .int (nI x))] → W p l e ({ frames := 1, cells := 0, slots := 0, locals := 21 }) s m args below meth c H locs 0 0 (QAi D a b A (r, S, V) below args s) (F0 m 14 ls []) := by
  have hx := C.1
  have hb := C.2.1
  intro d
  induction d with
  | zero =>
    intro x n H locs ls hd hT P hl
    have hd : x = 48 := by omega
    subst hd
    refine lv_iload_n hx hb dX0_covers_14 rfl (lv_at hl 3 rfl) ?_
    refine lv_bipush (v := (nI 48)) hx hb dX0_covers_15 (by decide) ?_
    refine lv_icmp_ge (tgt := 44) hx hb dX0_covers_17 (by decide) (fun c1 => ?_) (fun c1 => absurd (nI_le (Nat.le_refl 48) (by decide)) c1)
    refine lv_iload_n hx hb dX0_covers_44 rfl (lv_at hl 2 rfl) ?_
    exact rA_i C hr hlocks P (by rw [← hT]; rfl) dX0_covers_45
  | succ d ih =>
    intro x n H locs ls hd hT P hl
    refine lv_iload_n hx hb dX0_covers_14 rfl (lv_at hl 3 rfl) ?_
    refine lv_bipush (v := (nI 48)) hx hb dX0_covers_15 (by decide) ?_
    refine lv_icmp_ge (tgt := 44) hx hb dX0_covers_17 (by decide) (fun c1 => absurd c1 (nI_ge (a := x) (b := 48) (by omega) (by decide))) (fun c1 => ?_)
    refine lv_aload_n hx hb dX0_covers_20 rfl (lv_at hl 0 rfl) ?_
    refine gA_cover C P dX0_covers_21 ?_
    refine lv_iload_n hx hb dX0_covers_24 rfl (lv_at hl 1 rfl) ?_
    refine lA_cover (v := (V (ix k))) C P hk rfl dX0_covers_25 ?_
    refine lv_iload_n hx hb dX0_covers_26 rfl (lv_at hl 3 rfl) ?_
    refine lv_lushr hx hb dX0_covers_27 rfl ?_
    refine lv_lconst (v := 1) hx hb dX0_covers_28 (by decide) ?_
    refine lv_land hx hb dX0_covers_29 ?_
    refine lv_lconst (v := 1) hx hb dX0_covers_30 (by decide) ?_
    refine W.lcmp hx hb dX0_covers_31 ?_
    refine lv_if_ne (tgt := 38) hx hb dX0_covers_32 (by decide) (fun c2 => ?_) (fun c2 => ?_)
    · refine lv_iinc (v := (nI (x + 1))) (lv' := [(3, .int (nI (x + 1))), (0, .ref (a 0)), (1, .int k), (2, .int n)]) hx hb dX0_covers_38 hl (k := 3) rfl (nI_1 x) (by decide) rfl (fun ls hl => ?_)
      refine lv_goto (tgt := 14) hx hb dX0_covers_41 (by decide) ?_
      exact ih (x + 1) n H locs ls (by omega) (by rw [← hT, cvL, if_neg c2]) P (lv_sub hl [1, 2, 3, 0] rfl)
    · refine lv_iinc (v := (n + 1)) (lv' := [(2, .int (n + 1)), (0, .ref (a 0)), (1, .int k), (3, .int (nI x))]) hx hb dX0_covers_35 hl (k := 2) rfl rfl (by decide) rfl (fun ls hl => ?_)
      refine lv_iinc (v := (nI (x + 1))) (lv' := [(3, .int (nI (x + 1))), (2, .int (n + 1)), (0, .ref (a 0)), (1, .int k)]) hx hb dX0_covers_38 hl (k := 3) rfl (nI_1 x) (by decide) rfl (fun ls hl => ?_)
      refine lv_goto (tgt := 14) hx hb dX0_covers_41 (by decide) ?_
      exact ih (x + 1) (n + 1) H locs ls (by omega) (by rw [← hT, cvL, if_pos c2]) P (lv_sub hl [2, 3, 1, 0] rfl)

set_option maxHeartbeats 4000000 in
set_option maxRecDepth 100000 in
theorem mA_covers (l : Launch) (D : va_G) (a : Nat → Nat) (b : Nat → ClassId) {S : SS} {V : LL} {k : Int32} (rg : RG S) : MAi l D a b yX0_covers cX0_covers 4 .int { frames := 1, cells := 0, slots := 0, locals := 21 } [.int k] S V (cvF S V k, S, V) := by
  refine MAi.of (by decide) rfl (Nat.le_of_ble_eq_true rfl) ?_
  intro p e s m below meth c A ls C hr hlocks P hl
  have hx := C.1
  have hb := C.2.1
  have hl : lv_has ls 4 [(0, .ref (a 0)), (1, .int k)] := hl
  refine lv_aload_n hx hb dX0_covers_0 rfl (lv_at hl 0 rfl) ?_
  refine lv_iload_n hx hb dX0_covers_1 rfl (lv_at hl 1 rfl) ?_
  refine cA_i (rest := []) C P 1 (mA_bad l D a b) (lw_V q125 q127 qs9 q17 q128) rfl rfl (by decide +kernel) ⟨Nat.le_of_ble_eq_true rfl, Nat.le_of_ble_eq_true rfl⟩ rfl hl.1 rfl (Nat.le_of_ble_eq_true rfl) dX0_covers_2 (fun H locs P => ?_)
  refine lv_if_eq (tgt := 10) hx hb dX0_covers_5 (by decide) (fun c1 => ?_) (fun c1 => ?_)
  · refine lv_iconst (v := 0) hx hb dX0_covers_10 (by decide) ?_
    refine lv_istore_n (lv' := [(2, .int 0), (0, .ref (a 0)), (1, .int k)]) hx hb dX0_covers_11 rfl hl (by decide) rfl (fun ls hl => ?_)
    refine lv_iconst (v := (nI 0)) hx hb dX0_covers_12 (by decide) ?_
    refine lv_istore_n (lv' := [(3, .int (nI 0)), (2, .int 0), (0, .ref (a 0)), (1, .int k)]) hx hb dX0_covers_13 rfl hl (by decide) rfl (fun ls hl => ?_)
    exact lpA_covers C hr hlocks k (bd_in rg c1) _ 48 0 0 _ _ _ rfl (by rw [cvF, if_pos c1]) P (lv_sub hl [2, 3, 1, 0] rfl)
  · refine lv_iconst (v := (-1)) hx hb dX0_covers_8 (by decide) ?_
    exact rA_i C hr hlocks P (by simp [cvF, c1]) dX0_covers_9

set_option maxHeartbeats 4000000 in
set_option maxRecDepth 100000 in
theorem lpA_effect {p : Program} {l : Launch} {e : Env} {s : State} {m : MethodId} {args : Array Value} {below : List Frame} {meth : Method} {c : Code} {D : va_G} {A : Nat → Prop} {a : Nat → Nat} {b : Nat → ClassId} {V : LL} (C : CX p s m c args cX0_effect 6 RX0 A D (tA b)) (hr : meth.sig.returnType = (some .int)) (hlocks : meth.locks = false) {S : SS} (rg : RG S) (k le : Int32) (hk : vp_in k 32) (N : Nat) (hN : S 0 0 = nI N) (hN48 : N < 49) (r : Int32) : ∀ (d x : Nat) (n : Int32) (H : Heap) (locs : List Loc) (ls : Array Slot), x + d = N + 1 → 1 ≤ x → efL d S (V (ix k)) le x n = r → PA D A a b S V s.heap H locs → lv_has ls 6 [(0, .ref (a 0)), (1, .int k), (2, .int n), (3, .int le), (4, .int (nI x))] → W p l e ({ frames := 1, cells := 0, slots := 0, locals := 21 }) s m args below meth c H locs 0 0 (QAi D a b A ((if S 11 (ix k) = 0 then -r else r), S, V) below args s) (F0 m 75 ls []) := by
  have hx := C.1
  have hb := C.2.1
  intro d
  induction d with
  | zero =>
    intro x n H locs ls hd h1 hT P hl
    have hT : n = r := hT
    refine lv_iload hx hb dX0_effect_75 (lv_at hl 4 rfl) ?_
    refine lv_aload_n hx hb dX0_effect_77 rfl (lv_at hl 0 rfl) ?_
    refine gA_count (v := (S 0 0)) C P rfl dX0_effect_78 ?_
    refine lv_icmp_gt (tgt := 149) hx hb dX0_effect_81 (by decide) (fun c1 => ?_) (fun c1 => absurd (by rw [hN]; exact nI_lt (by omega) (by omega)) c1)
    refine lv_aload_n hx hb dX0_effect_149 rfl (lv_at hl 0 rfl) ?_
    refine gA_on C P dX0_effect_150 ?_
    refine lv_iload_n hx hb dX0_effect_153 rfl (lv_at hl 1 rfl) ?_
    refine lA_on (v := (S 11 (ix k))) C P hk rfl dX0_effect_154 ?_
    refine lv_if_eq (tgt := 162) hx hb dX0_effect_155 (by decide) (fun c2 => ?_) (fun c2 => ?_)
    · refine lv_iload_n hx hb dX0_effect_162 rfl (lv_at hl 2 rfl) ?_
      refine lv_ineg hx hb dX0_effect_163 ?_
      exact rA_i C hr hlocks P (by rw [hT, if_pos c2]) dX0_effect_164
    · refine lv_iload_n hx hb dX0_effect_158 rfl (lv_at hl 2 rfl) ?_
      refine lv_goto (tgt := 164) hx hb dX0_effect_159 (by decide) ?_
      exact rA_i C hr hlocks P (by rw [hT, if_neg c2]) dX0_effect_164
  | succ d ih =>
    intro x n H locs ls hd h1 hT P hl
    refine lv_iload hx hb dX0_effect_75 (lv_at hl 4 rfl) ?_
    refine lv_aload_n hx hb dX0_effect_77 rfl (lv_at hl 0 rfl) ?_
    refine gA_count (v := (S 0 0)) C P rfl dX0_effect_78 ?_
    refine lv_icmp_gt (tgt := 149) hx hb dX0_effect_81 (by decide) (fun c1 => absurd c1 (by rw [hN]; exact nI_nlt (by omega) (by omega))) (fun c1 => ?_)
    refine lv_aload_n hx hb dX0_effect_84 rfl (lv_at hl 0 rfl) ?_
    refine gA_cover C P dX0_effect_85 ?_
    refine lv_iload_n hx hb dX0_effect_88 rfl (lv_at hl 1 rfl) ?_
    refine lA_cover (v := (V (ix k))) C P hk rfl dX0_effect_89 ?_
    refine lv_iload hx hb dX0_effect_90 (lv_at hl 4 rfl) ?_
    refine lv_iconst (v := 1) hx hb dX0_effect_92 (by decide) ?_
    refine lv_isub hx hb dX0_effect_93 ?_
    refine lv_lushr hx hb dX0_effect_94 rfl ?_
    refine lv_lconst (v := 1) hx hb dX0_effect_95 (by decide) ?_
    refine lv_land hx hb dX0_effect_96 ?_
    refine lv_lconst (v := 1) hx hb dX0_effect_97 (by decide) ?_
    refine W.lcmp hx hb dX0_effect_98 ?_
    refine lv_if_ne (tgt := 106) hx hb dX0_effect_99 (by decide) (fun c2 => ?_) (fun c2 => ?_)
    · refine lv_iconst (v := 0) hx hb dX0_effect_106 (by decide) ?_
      refine lv_istore (lv' := [(5, .int 0), (0, .ref (a 0)), (1, .int k), (2, .int n), (3, .int le), (4, .int (nI x))]) hx hb dX0_effect_107 hl (by decide) rfl (fun ls hl => ?_)
      refine lv_iload hx hb dX0_effect_109 (lv_at hl 0 rfl) ?_
      refine lv_if_eq (tgt := 143) hx hb dX0_effect_111 (by decide) (fun c3 => ?_) (fun c3 => ?_)
      · refine lv_iinc (v := (nI (x + 1))) (lv' := [(4, .int (nI (x + 1))), (5, .int 0), (0, .ref (a 0)), (1, .int k), (2, .int n), (3, .int le)]) hx hb dX0_effect_143 hl (k := 5) rfl (nI_1 x) (by decide) rfl (fun ls hl => ?_)
        refine lv_goto (tgt := 75) hx hb dX0_effect_146 (by decide) ?_
        exact ih (x + 1) n H locs ls (by omega) (by omega) (by rw [← hT, efL]; simp [bitL, c2, c3]) P (lv_sub hl [2, 3, 4, 5, 0] rfl)
      · exact absurd (by decide) c3
    · refine lv_iconst (v := 1) hx hb dX0_effect_102 (by decide) ?_
      refine lv_goto (tgt := 107) hx hb dX0_effect_103 (by decide) ?_
      refine lv_istore (lv' := [(5, .int 1), (0, .ref (a 0)), (1, .int k), (2, .int n), (3, .int le), (4, .int (nI x))]) hx hb dX0_effect_107 hl (by decide) rfl (fun ls hl => ?_)
      refine lv_iload hx hb dX0_effect_109 (lv_at hl 0 rfl) ?_
      refine lv_if_eq (tgt := 143) hx hb dX0_effect_111 (by decide) (fun c4 => ?_) (fun c4 => ?_)
      · exact absurd c4 (by decide)
      · refine lv_aload_n hx hb dX0_effect_114 rfl (lv_at hl 1 rfl) ?_
        refine gA_on C P dX0_effect_115 ?_
        refine lv_aload_n hx hb dX0_effect_118 rfl (lv_at hl 1 rfl) ?_
        refine gA_typist C P dX0_effect_119 ?_
        refine lv_iload hx hb dX0_effect_122 (lv_at hl 5 rfl) ?_
        refine lA_typist (v := (S 8 (ix (nI x)))) C P (vin_n (by omega) (by decide)) rfl dX0_effect_124 ?_
        refine lA_on (v := (S 11 (ix (S 8 (ix (nI x)))))) C P (rgT rg (vin_n (by omega) (by decide))) rfl dX0_effect_125 ?_
        refine lv_if_eq (tgt := 143) hx hb dX0_effect_126 (by decide) (fun c5 => ?_) (fun c5 => ?_)
        · refine lv_iinc (v := (nI (x + 1))) (lv' := [(4, .int (nI (x + 1))), (5, .int 1), (0, .ref (a 0)), (1, .int k), (2, .int n), (3, .int le)]) hx hb dX0_effect_143 hl (k := 5) rfl (nI_1 x) (by decide) rfl (fun ls hl => ?_)
          refine lv_goto (tgt := 75) hx hb dX0_effect_146 (by decide) ?_
          exact ih (x + 1) n H locs ls (by omega) (by omega) (by rw [← hT, efL]; simp [bitL, c2, c4, c5]) P (lv_sub hl [2, 3, 4, 5, 0] rfl)
        · refine lv_aload_n hx hb dX0_effect_129 rfl (lv_at hl 1 rfl) ?_
          refine gA_covered C P dX0_effect_130 ?_
          refine lv_iload hx hb dX0_effect_133 (lv_at hl 5 rfl) ?_
          refine lA_covered (v := (S 9 (ix (nI x)))) C P (vin_n (by omega) (by decide)) rfl dX0_effect_135 ?_
          refine lv_iload_n hx hb dX0_effect_136 rfl (lv_at hl 4 rfl) ?_
          refine lv_icmp_ne (tgt := 143) hx hb dX0_effect_137 (by decide) (fun c6 => ?_) (fun c6 => ?_)
          · refine lv_iinc (v := (nI (x + 1))) (lv' := [(4, .int (nI (x + 1))), (5, .int 1), (0, .ref (a 0)), (1, .int k), (2, .int n), (3, .int le)]) hx hb dX0_effect_143 hl (k := 5) rfl (nI_1 x) (by decide) rfl (fun ls hl => ?_)
            refine lv_goto (tgt := 75) hx hb dX0_effect_146 (by decide) ?_
            exact ih (x + 1) n H locs ls (by omega) (by omega) (by rw [← hT, efL]; simp [bitL, c2, c4, c5, c6]) P (lv_sub hl [2, 3, 4, 5, 0] rfl)
          · refine lv_iinc (v := (n + 1)) (lv' := [(2, .int (n + 1)), (5, .int 1), (0, .ref (a 0)), (1, .int k), (3, .int le), (4, .int (nI x))]) hx hb dX0_effect_140 hl (k := 3) rfl rfl (by decide) rfl (fun ls hl => ?_)
            refine lv_iinc (v := (nI (x + 1))) (lv' := [(4, .int (nI (x + 1))), (2, .int (n + 1)), (5, .int 1), (0, .ref (a 0)), (1, .int k), (3, .int le)]) hx hb dX0_effect_143 hl (k := 5) rfl (nI_1 x) (by decide) rfl (fun ls hl => ?_)
            refine lv_goto (tgt := 75) hx hb dX0_effect_146 (by decide) ?_
            exact ih (x + 1) (n + 1) H locs ls (by omega) (by omega) (by rw [← hT, efL]; simp [bitL, c2, c4, c5, c6]) P (lv_sub hl [3, 4, 1, 5, 0] rfl)

set_option maxHeartbeats 4000000 in
set_option maxRecDepth 100000 in
theorem mA_effect (l : Launch) (D : va_G) (a : Nat → Nat) (b : Nat → ClassId) {S : SS} {V : LL} {k : Int32} (rg : RG S) : MAi l D a b yX0_effect cX0_effect 6 .int { frames := 1, cells := 0, slots := 0, locals := 21 } [.int k] S V (efF S V k, S, V) := by
  refine MAi.of (by decide) rfl (Nat.le_of_ble_eq_true rfl) ?_
  intro p e s m below meth c A ls C hr hlocks P hl
  have hx := C.1
  have hb := C.2.1
  have hl : lv_has ls 6 [(0, .ref (a 0)), (1, .int k)] := hl
  refine lv_aload_n hx hb dX0_effect_0 rfl (lv_at hl 0 rfl) ?_
  refine lv_iload_n hx hb dX0_effect_1 rfl (lv_at hl 1 rfl) ?_
  refine cA_i (rest := []) C P 1 (mA_bad l D a b) (lw_V q125 q127 qs9 q17 q128) rfl rfl (by decide +kernel) ⟨Nat.le_of_ble_eq_true rfl, Nat.le_of_ble_eq_true rfl⟩ rfl hl.1 rfl (Nat.le_of_ble_eq_true rfl) dX0_effect_2 (fun H locs P => ?_)
  refine lv_if_eq (tgt := 10) hx hb dX0_effect_5 (by decide) (fun c1 => ?_) (fun c1 => ?_)
  · refine lv_aload_n hx hb dX0_effect_10 rfl (lv_at hl 0 rfl) ?_
    refine gA_typed C P dX0_effect_11 ?_
    refine lv_iload_n hx hb dX0_effect_14 rfl (lv_at hl 1 rfl) ?_
    refine lA_typed (v := (S 12 (ix k))) C P (bd_in rg c1) rfl dX0_effect_15 ?_
    refine lv_if_eq (tgt := 55) hx hb dX0_effect_16 (by decide) (fun c2 => ?_) (fun c2 => ?_)
    · refine lv_iconst (v := 0) hx hb dX0_effect_55 (by decide) ?_
      refine lv_istore_n (lv' := [(2, .int 0), (0, .ref (a 0)), (1, .int k)]) hx hb dX0_effect_56 rfl hl (by decide) rfl (fun ls hl => ?_)
      refine lv_aload_n hx hb dX0_effect_57 rfl (lv_at hl 1 rfl) ?_
      refine gA_on C P dX0_effect_58 ?_
      refine lv_iload_n hx hb dX0_effect_61 rfl (lv_at hl 2 rfl) ?_
      refine lA_on (v := (S 11 (ix k))) C P (bd_in rg c1) rfl dX0_effect_62 ?_
      refine lv_if_eq (tgt := 70) hx hb dX0_effect_63 (by decide) (fun c3 => ?_) (fun c3 => ?_)
      · refine lv_iconst (v := 0) hx hb dX0_effect_70 (by decide) ?_
        refine lv_istore_n (lv' := [(3, .int 0), (2, .int 0), (0, .ref (a 0)), (1, .int k)]) hx hb dX0_effect_71 rfl hl (by decide) rfl (fun ls hl => ?_)
        refine lv_iconst (v := (nI 1)) hx hb dX0_effect_72 (by decide) ?_
        refine lv_istore (lv' := [(4, .int (nI 1)), (3, .int 0), (2, .int 0), (0, .ref (a 0)), (1, .int k)]) hx hb dX0_effect_73 hl (by decide) rfl (fun ls hl => ?_)
        have hE : ((if S 11 (ix k) = 0 then -(efL (ix (S 0 0)) S (V (ix k)) 0 1 0) else efL (ix (S 0 0)) S (V (ix k)) 0 1 0), S, V) = (efF S V k, S, V) := by simp [efF, b01, c1, c2, c3]
        rw [← hE]
        exact lpA_effect C hr hlocks rg k 0 (bd_in rg c1) (ix (S 0 0)) (nI_ix (vin_nn (rgC rg))).symm (ix_lt (rgC rg)) _ (ix (S 0 0)) 1 0 _ _ _ (by omega) (Nat.le_refl 1) rfl P (lv_sub hl [3, 4, 2, 1, 0] rfl)
      · refine lv_iconst (v := 1) hx hb dX0_effect_66 (by decide) ?_
        refine lv_goto (tgt := 71) hx hb dX0_effect_67 (by decide) ?_
        refine lv_istore_n (lv' := [(3, .int 1), (2, .int 0), (0, .ref (a 0)), (1, .int k)]) hx hb dX0_effect_71 rfl hl (by decide) rfl (fun ls hl => ?_)
        refine lv_iconst (v := (nI 1)) hx hb dX0_effect_72 (by decide) ?_
        refine lv_istore (lv' := [(4, .int (nI 1)), (3, .int 1), (2, .int 0), (0, .ref (a 0)), (1, .int k)]) hx hb dX0_effect_73 hl (by decide) rfl (fun ls hl => ?_)
        have hE : ((if S 11 (ix k) = 0 then -(efL (ix (S 0 0)) S (V (ix k)) 1 1 0) else efL (ix (S 0 0)) S (V (ix k)) 1 1 0), S, V) = (efF S V k, S, V) := by simp [efF, b01, c1, c2, c3]
        rw [← hE]
        exact lpA_effect C hr hlocks rg k 1 (bd_in rg c1) (ix (S 0 0)) (nI_ix (vin_nn (rgC rg))).symm (ix_lt (rgC rg)) _ (ix (S 0 0)) 1 0 _ _ _ (by omega) (Nat.le_refl 1) rfl P (lv_sub hl [3, 4, 2, 1, 0] rfl)
    · refine lv_aload_n hx hb dX0_effect_19 rfl (lv_at hl 0 rfl) ?_
      refine gA_covered C P dX0_effect_20 ?_
      refine lv_aload_n hx hb dX0_effect_23 rfl (lv_at hl 0 rfl) ?_
      refine gA_typed C P dX0_effect_24 ?_
      refine lv_iload_n hx hb dX0_effect_27 rfl (lv_at hl 1 rfl) ?_
      refine lA_typed (v := (S 12 (ix k))) C P (bd_in rg c1) rfl dX0_effect_28 ?_
      refine lA_covered (v := (S 9 (ix (S 12 (ix k))))) C P (rgY rg (bd_in rg c1)) rfl dX0_effect_29 ?_
      refine lv_if_ne (tgt := 37) hx hb dX0_effect_30 (by decide) (fun c4 => ?_) (fun c4 => ?_)
      · refine lv_iconst (v := 0) hx hb dX0_effect_37 (by decide) ?_
        refine lv_istore_n (lv' := [(2, .int 0), (0, .ref (a 0)), (1, .int k)]) hx hb dX0_effect_38 rfl hl (by decide) rfl (fun ls hl => ?_)
        refine lv_aload_n hx hb dX0_effect_39 rfl (lv_at hl 1 rfl) ?_
        refine gA_on C P dX0_effect_40 ?_
        refine lv_iload_n hx hb dX0_effect_43 rfl (lv_at hl 2 rfl) ?_
        refine lA_on (v := (S 11 (ix k))) C P (bd_in rg c1) rfl dX0_effect_44 ?_
        refine lv_if_eq (tgt := 53) hx hb dX0_effect_45 (by decide) (fun c5 => ?_) (fun c5 => ?_)
        · refine lv_iload_n hx hb dX0_effect_53 rfl (lv_at hl 0 rfl) ?_
          exact rA_i C hr hlocks P (by simp [efF, c1, c2, c4, c5]) dX0_effect_54
        · refine lv_iload_n hx hb dX0_effect_48 rfl (lv_at hl 0 rfl) ?_
          refine lv_ineg hx hb dX0_effect_49 ?_
          refine lv_goto (tgt := 54) hx hb dX0_effect_50 (by decide) ?_
          exact rA_i C hr hlocks P (by simp [efF, c1, c2, c4, c5]) dX0_effect_54
      · refine lv_iconst (v := 1) hx hb dX0_effect_33 (by decide) ?_
        refine lv_goto (tgt := 38) hx hb dX0_effect_34 (by decide) ?_
        refine lv_istore_n (lv' := [(2, .int 1), (0, .ref (a 0)), (1, .int k)]) hx hb dX0_effect_38 rfl hl (by decide) rfl (fun ls hl => ?_)
        refine lv_aload_n hx hb dX0_effect_39 rfl (lv_at hl 1 rfl) ?_
        refine gA_on C P dX0_effect_40 ?_
        refine lv_iload_n hx hb dX0_effect_43 rfl (lv_at hl 2 rfl) ?_
        refine lA_on (v := (S 11 (ix k))) C P (bd_in rg c1) rfl dX0_effect_44 ?_
        refine lv_if_eq (tgt := 53) hx hb dX0_effect_45 (by decide) (fun c6 => ?_) (fun c6 => ?_)
        · refine lv_iload_n hx hb dX0_effect_53 rfl (lv_at hl 0 rfl) ?_
          exact rA_i C hr hlocks P (by simp [efF, c1, c2, c4, c6]) dX0_effect_54
        · refine lv_iload_n hx hb dX0_effect_48 rfl (lv_at hl 0 rfl) ?_
          refine lv_ineg hx hb dX0_effect_49 ?_
          refine lv_goto (tgt := 54) hx hb dX0_effect_50 (by decide) ?_
          exact rA_i C hr hlocks P (by simp [efF, c1, c2, c4, c6]) dX0_effect_54
  · refine lv_iconst (v := 0) hx hb dX0_effect_8 (by decide) ?_
    exact rA_i C hr hlocks P (by simp [efF, c1]) dX0_effect_9

set_option maxHeartbeats 4000000 in
set_option maxRecDepth 100000 in
theorem lpA_digest {p : Program} {l : Launch} {e : Env} {s : State} {m : MethodId} {args : Array Value} {below : List Frame} {meth : Method} {c : Code} {D : va_G} {A : Nat → Prop} {a : Nat → Nat} {b : Nat → ClassId} {V : LL} (C : CX p s m c args cX0_digest 5 RX0 A D (tA b)) (hr : meth.sig.returnType = (some .int)) (hlocks : meth.locks = false) {S : SS} (rg : RG S) (t : Int32) (N : Nat) (hN : t = nI N) (hN31 : N < 2 ^ 31) (r : Int32) : ∀ (d k : Nat) (n : Int32) (H : Heap) (locs : List Loc) (ls : Array Slot), k + d = N → dgL d S k n = r → PA D A a b S V s.heap H locs → lv_has ls 5 [(0, .ref (a 0)), (1, .int n), (2, .int t), (3, .int (nI k))] → W p l e ({ frames := 2, cells := 0, slots := 0, locals := 46 }) s m args below meth c H locs 0 0 (QAi D a b A (r, S, V) below args s) (F0 m 9 ls []) := by
  have hx := C.1
  have hb := C.2.1
  intro d
  induction d with
  | zero =>
    intro k n H locs ls hd hT P hl
    refine lv_iload_n hx hb dX0_digest_9 rfl (lv_at hl 3 rfl) ?_
    refine lv_iload_n hx hb dX0_digest_10 rfl (lv_at hl 2 rfl) ?_
    refine lv_icmp_ge (tgt := 43) hx hb dX0_digest_11 (by decide) (fun c1 => ?_) (fun c1 => absurd (by rw [hN]; exact nI_le (by omega) (by omega)) c1)
    refine lv_iload_n hx hb dX0_digest_43 rfl (lv_at hl 1 rfl) ?_
    exact rA_i C hr hlocks P (by rw [← hT]; rfl) dX0_digest_44
  | succ d ih =>
    intro k n H locs ls hd hT P hl
    refine lv_iload_n hx hb dX0_digest_9 rfl (lv_at hl 3 rfl) ?_
    refine lv_iload_n hx hb dX0_digest_10 rfl (lv_at hl 2 rfl) ?_
    refine lv_icmp_ge (tgt := 43) hx hb dX0_digest_11 (by decide) (fun c1 => absurd c1 (by rw [hN]; exact nI_ge (by omega) (by omega))) (fun c1 => ?_)
    refine lv_aload_n hx hb dX0_digest_14 rfl (lv_at hl 0 rfl) ?_
    refine lv_iload_n hx hb dX0_digest_15 rfl (lv_at hl 3 rfl) ?_
    refine cA_i (rest := []) C P 1 (mA_nodeAt l D a b rg) (lw_V q84 q86 qs1 q17 q87) rfl rfl (by decide +kernel) ⟨Nat.le_of_ble_eq_true rfl, Nat.le_of_ble_eq_true rfl⟩ rfl hl.1 rfl (Nat.le_of_ble_eq_true rfl) dX0_digest_16 (fun H locs P => ?_)
    refine lv_istore (lv' := [(4, .int (nodeF S (nI k))), (0, .ref (a 0)), (1, .int n), (2, .int t), (3, .int (nI k))]) hx hb dX0_digest_19 hl (by decide) rfl (fun ls hl => ?_)
    refine lv_iload_n hx hb dX0_digest_21 rfl (lv_at hl 2 rfl) ?_
    refine lv_iload_n hx hb dX0_digest_22 rfl (lv_at hl 4 rfl) ?_
    refine lv_iconst (v := 1) hx hb dX0_digest_23 (by decide) ?_
    refine lv_iadd hx hb dX0_digest_24 ?_
    refine lv_aload_n hx hb dX0_digest_25 rfl (lv_at hl 1 rfl) ?_
    refine gA_letter C P dX0_digest_26 ?_
    refine lv_iload hx hb dX0_digest_29 (lv_at hl 0 rfl) ?_
    refine lA_letter (v := (S 7 (ix (nodeF S (nI k))))) C P (vin_node rg) rfl dX0_digest_31 ?_
    refine lv_iconst (v := 1) hx hb dX0_digest_32 (by decide) ?_
    refine lv_iadd hx hb dX0_digest_33 ?_
    refine lv_imul hx hb dX0_digest_34 ?_
    refine lv_iadd hx hb dX0_digest_35 ?_
    refine lv_istore_n (lv' := [(1, .int (n + (((nI k) + 1) * ((S 7 (ix (nodeF S (nI k)))) + 1)))), (4, .int (nodeF S (nI k))), (0, .ref (a 0)), (2, .int t), (3, .int (nI k))]) hx hb dX0_digest_36 rfl hl (by decide) rfl (fun ls hl => ?_)
    refine lv_iinc (v := (nI (k + 1))) (lv' := [(3, .int (nI (k + 1))), (1, .int (n + (((nI k) + 1) * ((S 7 (ix (nodeF S (nI k)))) + 1)))), (4, .int (nodeF S (nI k))), (0, .ref (a 0)), (2, .int t)]) hx hb dX0_digest_37 hl (k := 4) rfl (nI_1 k) (by decide) rfl (fun ls hl => ?_)
    refine lv_goto (tgt := 9) hx hb dX0_digest_40 (by decide) ?_
    exact ih (k + 1) (n + (((nI k) + 1) * ((S 7 (ix (nodeF S (nI k)))) + 1))) H locs ls (by omega) (by rw [← hT, dgL]) P (lv_sub hl [3, 1, 4, 0] rfl)

set_option maxHeartbeats 4000000 in
set_option maxRecDepth 100000 in
theorem mA_digest (l : Launch) (D : va_G) (a : Nat → Nat) (b : Nat → ClassId) {S : SS} {V : LL} (rg : RG S) (ht : ¬ tlF S < 0) : MAi l D a b yX0_digest cX0_digest 5 .int { frames := 2, cells := 0, slots := 0, locals := 46 } [] S V (dgF S, S, V) := by
  refine MAi.of (by decide) rfl (Nat.le_of_ble_eq_true rfl) ?_
  intro p e s m below meth c A ls C hr hlocks P hl
  have hx := C.1
  have hb := C.2.1
  have hl : lv_has ls 5 [(0, .ref (a 0))] := hl
  refine lv_iconst (v := 0) hx hb dX0_digest_0 (by decide) ?_
  refine lv_istore_n (lv' := [(1, .int 0), (0, .ref (a 0))]) hx hb dX0_digest_1 rfl hl (by decide) rfl (fun ls hl => ?_)
  refine lv_aload_n hx hb dX0_digest_2 rfl (lv_at hl 1 rfl) ?_
  refine cA_i (rest := []) C P 0 (mA_textLength l D a b rg) (lw_V q80 q82 qs0 q17 q83) rfl rfl (by decide +kernel) ⟨Nat.le_of_ble_eq_true rfl, Nat.le_of_ble_eq_true rfl⟩ rfl hl.1 rfl (Nat.le_of_ble_eq_true rfl) dX0_digest_3 (fun H locs P => ?_)
  refine lv_istore_n (lv' := [(2, .int (tlF S)), (1, .int 0), (0, .ref (a 0))]) hx hb dX0_digest_6 rfl hl (by decide) rfl (fun ls hl => ?_)
  refine lv_iconst (v := (nI 0)) hx hb dX0_digest_7 (by decide) ?_
  refine lv_istore_n (lv' := [(3, .int (nI 0)), (2, .int (tlF S)), (1, .int 0), (0, .ref (a 0))]) hx hb dX0_digest_8 rfl hl (by decide) rfl (fun ls hl => ?_)
  exact lpA_digest C hr hlocks rg (tlF S) (ix (tlF S)) (nI_ix ht).symm (ix_31 _) _ (ix (tlF S)) 0 0 _ _ _ (by omega) rfl P (lv_sub hl [3, 2, 1, 0] rfl)
end
section
set_option maxHeartbeats 4000000 in
set_option maxRecDepth 100000 in
theorem mA_type (l : Launch) (D : va_G) (a : Nat → Nat) (b : Nat → ClassId) {S : SS} {V : LL} {q ch : Int32} (rg : RG S) : MAi l D a b yX0_type cX0_type 4 .int { frames := 4, cells := 0, slots := 0, locals := 90 } [.int q, .int ch] S V (tyO S V q ch) := by
  refine MAi.of (by decide) rfl (Nat.le_of_ble_eq_true rfl) ?_
  intro p e s m below meth c A ls C hr hlocks P hl
  have hx := C.1
  have hb := C.2.1
  have hl : lv_has ls 4 [(0, .ref (a 0)), (1, .int q), (2, .int ch)] := hl
  refine lv_iload_n hx hb dX0_type_0 rfl (lv_at hl 2 rfl) ?_
  refine lv_if_lt (tgt := 22) hx hb dX0_type_1 (by decide) (fun c1 => ?_) (fun c1 => ?_)
  · refine lv_iconst (v := (-1)) hx hb dX0_type_22 (by decide) ?_
    exact rA_i C hr hlocks P (by simp [tyO, c1]) dX0_type_23
  · refine lv_iload_n hx hb dX0_type_4 rfl (lv_at hl 2 rfl) ?_
    refine lv_bipush (v := 25) hx hb dX0_type_5 (by decide) ?_
    refine lv_icmp_gt (tgt := 22) hx hb dX0_type_7 (by decide) (fun c2 => ?_) (fun c2 => ?_)
    · refine lv_iconst (v := (-1)) hx hb dX0_type_22 (by decide) ?_
      exact rA_i C hr hlocks P (by simp [tyO, c1, c2]) dX0_type_23
    · refine lv_iload_n hx hb dX0_type_10 rfl (lv_at hl 1 rfl) ?_
      refine lv_if_lt (tgt := 22) hx hb dX0_type_11 (by decide) (fun c3 => ?_) (fun c3 => ?_)
      · refine lv_iconst (v := (-1)) hx hb dX0_type_22 (by decide) ?_
        exact rA_i C hr hlocks P (by simp [tyO, c1, c2, c3]) dX0_type_23
      · refine lv_iload_n hx hb dX0_type_14 rfl (lv_at hl 1 rfl) ?_
        refine lv_aload_n hx hb dX0_type_15 rfl (lv_at hl 0 rfl) ?_
        refine cA_i (rest := [.int q]) C P 0 (mA_textLength l D a b rg) (lw_V q80 q82 qs0 q17 q83) rfl rfl (by decide +kernel) ⟨Nat.le_of_ble_eq_true rfl, Nat.le_of_ble_eq_true rfl⟩ rfl hl.1 rfl (Nat.le_of_ble_eq_true rfl) dX0_type_16 (fun H locs P => ?_)
        refine lv_icmp_le (tgt := 24) hx hb dX0_type_19 (by decide) (fun c4 => ?_) (fun c4 => ?_)
        · refine lv_aload_n hx hb dX0_type_24 rfl (lv_at hl 0 rfl) ?_
          refine gA_changes (v := (S 0 10)) C P rfl dX0_type_25 ?_
          refine lv_bipush (v := 32) hx hb dX0_type_28 (by decide) ?_
          refine lv_icmp_eq (tgt := 42) hx hb dX0_type_30 (by decide) (fun c5 => ?_) (fun c5 => ?_)
          · refine lv_bipush (v := (-2)) hx hb dX0_type_42 (by decide) ?_
            exact rA_i C hr hlocks P (by simp [tyO, c1, c2, c3, c4, c5]) dX0_type_44
          · refine lv_aload_n hx hb dX0_type_33 rfl (lv_at hl 0 rfl) ?_
            refine gA_count (v := (S 0 0)) C P rfl dX0_type_34 ?_
            refine lv_bipush (v := 48) hx hb dX0_type_37 (by decide) ?_
            refine lv_icmp_ne (tgt := 45) hx hb dX0_type_39 (by decide) (fun c6 => ?_) (fun c6 => ?_)
            · refine lv_iload_n hx hb dX0_type_45 rfl (lv_at hl 1 rfl) ?_
              refine lv_if_ne (tgt := 53) hx hb dX0_type_46 (by decide) (fun c7 => ?_) (fun c7 => ?_)
              · refine lv_aload_n hx hb dX0_type_53 rfl (lv_at hl 0 rfl) ?_
                refine lv_iload_n hx hb dX0_type_54 rfl (lv_at hl 1 rfl) ?_
                refine lv_iconst (v := 1) hx hb dX0_type_55 (by decide) ?_
                refine lv_isub hx hb dX0_type_56 ?_
                refine cA_i (rest := []) C P 1 (mA_nodeAt l D a b rg) (lw_V q84 q86 qs1 q17 q87) rfl rfl (by decide +kernel) ⟨Nat.le_of_ble_eq_true rfl, Nat.le_of_ble_eq_true rfl⟩ rfl hl.1 rfl (Nat.le_of_ble_eq_true rfl) dX0_type_57 (fun H locs P => ?_)
                refine lv_istore_n (lv' := [(3, .int (nodeF S (q - 1))), (0, .ref (a 0)), (1, .int q), (2, .int ch)]) hx hb dX0_type_60 rfl hl (by decide) rfl (fun ls hl => ?_)
                refine lv_aload_n hx hb dX0_type_61 rfl (lv_at hl 1 rfl) ?_
                refine lv_dup hx hb dX0_type_62 rfl ?_
                refine gA_count (v := (S 0 0)) C P rfl dX0_type_63 ?_
                refine lv_iconst (v := 1) hx hb dX0_type_66 (by decide) ?_
                refine lv_iadd hx hb dX0_type_67 ?_
                refine pA_count C P dX0_type_68 (fun H locs P => ?_)
                have rg8 : RG (up2 S 0 0 ((S 0 0) + 1)) := RG_count rg (lt49 rg c6)
                refine lv_aload_n hx hb dX0_type_71 rfl (lv_at hl 1 rfl) ?_
                refine gA_letter C P dX0_type_72 ?_
                refine lv_aload_n hx hb dX0_type_75 rfl (lv_at hl 1 rfl) ?_
                refine gA_count (v := ((S 0 0) + 1)) C P rfl dX0_type_76 ?_
                refine lv_iload_n hx hb dX0_type_79 rfl (lv_at hl 3 rfl) ?_
                refine sA_letter C P (lt49 rg c6) dX0_type_80 (fun H locs P => ?_)
                have rg9 : RG (up2 (up2 S 0 0 ((S 0 0) + 1)) 7 (ix ((S 0 0) + 1)) ch) := RG_7 rg8
                refine lv_aload_n hx hb dX0_type_81 rfl (lv_at hl 1 rfl) ?_
                refine gA_typist C P dX0_type_82 ?_
                refine lv_aload_n hx hb dX0_type_85 rfl (lv_at hl 1 rfl) ?_
                refine gA_count (v := ((S 0 0) + 1)) C P rfl dX0_type_86 ?_
                refine lv_aload_n hx hb dX0_type_89 rfl (lv_at hl 1 rfl) ?_
                refine gA_changes (v := (S 0 10)) C P rfl dX0_type_90 ?_
                refine sA_typist C P (lt49 rg c6) dX0_type_93 (fun H locs P => ?_)
                have rg10 : RG (up2 (up2 (up2 S 0 0 ((S 0 0) + 1)) 7 (ix ((S 0 0) + 1)) ch) 8 (ix ((S 0 0) + 1)) (S 0 10)) := RG_8 rg9 (lt32 rg c5)
                refine lv_aload_n hx hb dX0_type_94 rfl (lv_at hl 1 rfl) ?_
                refine lv_aload_n hx hb dX0_type_95 rfl (lv_at hl 1 rfl) ?_
                refine gA_seed (v := (S 0 14)) C P rfl dX0_type_96 ?_
                refine lv_ldc hx hb C.2.2.1 (C.2.2.2.1 _ q92) dX0_type_99 ?_
                refine lv_imul hx hb dX0_type_101 ?_
                refine lv_sipush (v := 12345) hx hb dX0_type_102 (by decide) ?_
                refine lv_iadd hx hb dX0_type_105 ?_
                refine pA_seed C P dX0_type_106 (fun H locs P => ?_)
                have rg11 : RG (up2 (up2 (up2 (up2 S 0 0 ((S 0 0) + 1)) 7 (ix ((S 0 0) + 1)) ch) 8 (ix ((S 0 0) + 1)) (S 0 10)) 0 14 (((S 0 14) * 1103515245) + 12345)) := RG_seed rg10
                refine lv_aload_n hx hb dX0_type_109 rfl (lv_at hl 1 rfl) ?_
                refine gA_rank C P dX0_type_110 ?_
                refine lv_aload_n hx hb dX0_type_113 rfl (lv_at hl 1 rfl) ?_
                refine gA_count (v := ((S 0 0) + 1)) C P rfl dX0_type_114 ?_
                refine lv_aload_n hx hb dX0_type_117 rfl (lv_at hl 1 rfl) ?_
                refine gA_seed (v := (((S 0 14) * 1103515245) + 12345)) C P rfl dX0_type_118 ?_
                refine lv_bipush (v := 8) hx hb dX0_type_121 (by decide) ?_
                refine lv_iushr hx hb dX0_type_123 rfl ?_
                refine sA_rank C P (lt49 rg c6) dX0_type_124 (fun H locs P => ?_)
                have rg12 : RG (up2 (up2 (up2 (up2 (up2 S 0 0 ((S 0 0) + 1)) 7 (ix ((S 0 0) + 1)) ch) 8 (ix ((S 0 0) + 1)) (S 0 10)) 0 14 (((S 0 14) * 1103515245) + 12345)) 5 (ix ((S 0 0) + 1)) ((Int32.toUInt32 (((S 0 14) * 1103515245) + 12345) >>> (Int32.toUInt32 8 &&& Int32.toUInt32 31)).toInt32)) := RG_5 rg11
                refine lv_aload_n hx hb dX0_type_125 rfl (lv_at hl 1 rfl) ?_
                refine gA_on C P dX0_type_126 ?_
                refine lv_aload_n hx hb dX0_type_129 rfl (lv_at hl 1 rfl) ?_
                refine gA_changes (v := (S 0 10)) C P rfl dX0_type_130 ?_
                refine lv_iconst (v := 1) hx hb dX0_type_133 (by decide) ?_
                refine sA_on C P (lt32 rg c5) (by decide) dX0_type_134 (fun H locs P => ?_)
                have rg13 : RG (up2 (up2 (up2 (up2 (up2 (up2 S 0 0 ((S 0 0) + 1)) 7 (ix ((S 0 0) + 1)) ch) 8 (ix ((S 0 0) + 1)) (S 0 10)) 0 14 (((S 0 14) * 1103515245) + 12345)) 5 (ix ((S 0 0) + 1)) ((Int32.toUInt32 (((S 0 14) * 1103515245) + 12345) >>> (Int32.toUInt32 8 &&& Int32.toUInt32 31)).toInt32)) 11 (ix (S 0 10)) 1) := RG_11 rg12
                refine lv_aload_n hx hb dX0_type_135 rfl (lv_at hl 1 rfl) ?_
                refine gA_typed C P dX0_type_136 ?_
                refine lv_aload_n hx hb dX0_type_139 rfl (lv_at hl 1 rfl) ?_
                refine gA_changes (v := (S 0 10)) C P rfl dX0_type_140 ?_
                refine lv_aload_n hx hb dX0_type_143 rfl (lv_at hl 1 rfl) ?_
                refine gA_count (v := ((S 0 0) + 1)) C P rfl dX0_type_144 ?_
                refine sA_typed C P (lt32 rg c5) dX0_type_147 (fun H locs P => ?_)
                have rg14 : RG (up2 (up2 (up2 (up2 (up2 (up2 (up2 S 0 0 ((S 0 0) + 1)) 7 (ix ((S 0 0) + 1)) ch) 8 (ix ((S 0 0) + 1)) (S 0 10)) 0 14 (((S 0 14) * 1103515245) + 12345)) 5 (ix ((S 0 0) + 1)) ((Int32.toUInt32 (((S 0 14) * 1103515245) + 12345) >>> (Int32.toUInt32 8 &&& Int32.toUInt32 31)).toInt32)) 11 (ix (S 0 10)) 1) 12 (ix (S 0 10)) ((S 0 0) + 1)) := RG_12 rg13 (lt49 rg c6)
                refine lv_aload_n hx hb dX0_type_148 rfl (lv_at hl 1 rfl) ?_
                refine gA_cover C P dX0_type_149 ?_
                refine lv_aload_n hx hb dX0_type_152 rfl (lv_at hl 1 rfl) ?_
                refine gA_changes (v := (S 0 10)) C P rfl dX0_type_153 ?_
                refine lv_lconst (v := 0) hx hb dX0_type_156 (by decide) ?_
                refine sA_cover C P (lt32 rg c5) dX0_type_157 (fun H locs P => ?_)
                refine lv_aload_n hx hb dX0_type_158 rfl (lv_at hl 1 rfl) ?_
                refine lv_dup hx hb dX0_type_159 rfl ?_
                refine gA_changes (v := (S 0 10)) C P rfl dX0_type_160 ?_
                refine lv_iconst (v := 1) hx hb dX0_type_163 (by decide) ?_
                refine lv_iadd hx hb dX0_type_164 ?_
                refine pA_changes C P dX0_type_165 (fun H locs P => ?_)
                have rg15 : RG (up2 (up2 (up2 (up2 (up2 (up2 (up2 (up2 S 0 0 ((S 0 0) + 1)) 7 (ix ((S 0 0) + 1)) ch) 8 (ix ((S 0 0) + 1)) (S 0 10)) 0 14 (((S 0 14) * 1103515245) + 12345)) 5 (ix ((S 0 0) + 1)) ((Int32.toUInt32 (((S 0 14) * 1103515245) + 12345) >>> (Int32.toUInt32 8 &&& Int32.toUInt32 31)).toInt32)) 11 (ix (S 0 10)) 1) 12 (ix (S 0 10)) ((S 0 0) + 1)) 0 10 ((S 0 10) + 1)) := RG_changes rg14 (lt33 rg c5)
                refine lv_aload_n hx hb dX0_type_168 rfl (lv_at hl 1 rfl) ?_
                refine lv_aload_n hx hb dX0_type_169 rfl (lv_at hl 1 rfl) ?_
                refine gA_count (v := ((S 0 0) + 1)) C P rfl dX0_type_170 ?_
                refine lv_iload_n hx hb dX0_type_173 rfl (lv_at hl 0 rfl) ?_
                refine cA_v (rest := []) C P 2 (mA_hang (made := ((S 0 0) + 1)) (x := (nodeF S (q - 1))) l D a b rg15 (lt49 rg c6) (vin_node rg)) (lw_V q93 q95 qs3 q17 q96) rfl rfl (by decide +kernel) ⟨Nat.le_of_ble_eq_true rfl, Nat.le_of_ble_eq_true rfl⟩ rfl hl.1 rfl (Nat.le_of_ble_eq_true rfl) dX0_type_174 (fun H locs P => ?_)
                refine lv_aload_n hx hb dX0_type_177 rfl (lv_at hl 1 rfl) ?_
                refine gA_changes (v := ((hgS (up2 (up2 (up2 (up2 (up2 (up2 (up2 (up2 S 0 0 ((S 0 0) + 1)) 7 (ix ((S 0 0) + 1)) ch) 8 (ix ((S 0 0) + 1)) (S 0 10)) 0 14 (((S 0 14) * 1103515245) + 12345)) 5 (ix ((S 0 0) + 1)) ((Int32.toUInt32 (((S 0 14) * 1103515245) + 12345) >>> (Int32.toUInt32 8 &&& Int32.toUInt32 31)).toInt32)) 11 (ix (S 0 10)) 1) 12 (ix (S 0 10)) ((S 0 0) + 1)) 0 10 ((S 0 10) + 1)) ((S 0 0) + 1) (nodeF S (q - 1))) 0 10)) C P rfl dX0_type_178 ?_
                refine lv_iconst (v := 1) hx hb dX0_type_181 (by decide) ?_
                refine lv_isub hx hb dX0_type_182 ?_
                exact rA_i C hr hlocks P (by rw [tyO, if_neg c1, if_neg c2, if_neg c3, if_pos c4, if_neg c5, if_neg c6, tyT, tyB, if_neg c7]; rfl) dX0_type_183
              · refine lv_iconst (v := 0) hx hb dX0_type_49 (by decide) ?_
                refine lv_goto (tgt := 60) hx hb dX0_type_50 (by decide) ?_
                refine lv_istore_n (lv' := [(3, .int 0), (0, .ref (a 0)), (1, .int q), (2, .int ch)]) hx hb dX0_type_60 rfl hl (by decide) rfl (fun ls hl => ?_)
                refine lv_aload_n hx hb dX0_type_61 rfl (lv_at hl 1 rfl) ?_
                refine lv_dup hx hb dX0_type_62 rfl ?_
                refine gA_count (v := (S 0 0)) C P rfl dX0_type_63 ?_
                refine lv_iconst (v := 1) hx hb dX0_type_66 (by decide) ?_
                refine lv_iadd hx hb dX0_type_67 ?_
                refine pA_count C P dX0_type_68 (fun H locs P => ?_)
                have rg16 : RG (up2 S 0 0 ((S 0 0) + 1)) := RG_count rg (lt49 rg c6)
                refine lv_aload_n hx hb dX0_type_71 rfl (lv_at hl 1 rfl) ?_
                refine gA_letter C P dX0_type_72 ?_
                refine lv_aload_n hx hb dX0_type_75 rfl (lv_at hl 1 rfl) ?_
                refine gA_count (v := ((S 0 0) + 1)) C P rfl dX0_type_76 ?_
                refine lv_iload_n hx hb dX0_type_79 rfl (lv_at hl 3 rfl) ?_
                refine sA_letter C P (lt49 rg c6) dX0_type_80 (fun H locs P => ?_)
                have rg17 : RG (up2 (up2 S 0 0 ((S 0 0) + 1)) 7 (ix ((S 0 0) + 1)) ch) := RG_7 rg16
                refine lv_aload_n hx hb dX0_type_81 rfl (lv_at hl 1 rfl) ?_
                refine gA_typist C P dX0_type_82 ?_
                refine lv_aload_n hx hb dX0_type_85 rfl (lv_at hl 1 rfl) ?_
                refine gA_count (v := ((S 0 0) + 1)) C P rfl dX0_type_86 ?_
                refine lv_aload_n hx hb dX0_type_89 rfl (lv_at hl 1 rfl) ?_
                refine gA_changes (v := (S 0 10)) C P rfl dX0_type_90 ?_
                refine sA_typist C P (lt49 rg c6) dX0_type_93 (fun H locs P => ?_)
                have rg18 : RG (up2 (up2 (up2 S 0 0 ((S 0 0) + 1)) 7 (ix ((S 0 0) + 1)) ch) 8 (ix ((S 0 0) + 1)) (S 0 10)) := RG_8 rg17 (lt32 rg c5)
                refine lv_aload_n hx hb dX0_type_94 rfl (lv_at hl 1 rfl) ?_
                refine lv_aload_n hx hb dX0_type_95 rfl (lv_at hl 1 rfl) ?_
                refine gA_seed (v := (S 0 14)) C P rfl dX0_type_96 ?_
                refine lv_ldc hx hb C.2.2.1 (C.2.2.2.1 _ q92) dX0_type_99 ?_
                refine lv_imul hx hb dX0_type_101 ?_
                refine lv_sipush (v := 12345) hx hb dX0_type_102 (by decide) ?_
                refine lv_iadd hx hb dX0_type_105 ?_
                refine pA_seed C P dX0_type_106 (fun H locs P => ?_)
                have rg19 : RG (up2 (up2 (up2 (up2 S 0 0 ((S 0 0) + 1)) 7 (ix ((S 0 0) + 1)) ch) 8 (ix ((S 0 0) + 1)) (S 0 10)) 0 14 (((S 0 14) * 1103515245) + 12345)) := RG_seed rg18
                refine lv_aload_n hx hb dX0_type_109 rfl (lv_at hl 1 rfl) ?_
                refine gA_rank C P dX0_type_110 ?_
                refine lv_aload_n hx hb dX0_type_113 rfl (lv_at hl 1 rfl) ?_
                refine gA_count (v := ((S 0 0) + 1)) C P rfl dX0_type_114 ?_
                refine lv_aload_n hx hb dX0_type_117 rfl (lv_at hl 1 rfl) ?_
                refine gA_seed (v := (((S 0 14) * 1103515245) + 12345)) C P rfl dX0_type_118 ?_
                refine lv_bipush (v := 8) hx hb dX0_type_121 (by decide) ?_
                refine lv_iushr hx hb dX0_type_123 rfl ?_
                refine sA_rank C P (lt49 rg c6) dX0_type_124 (fun H locs P => ?_)
                have rg20 : RG (up2 (up2 (up2 (up2 (up2 S 0 0 ((S 0 0) + 1)) 7 (ix ((S 0 0) + 1)) ch) 8 (ix ((S 0 0) + 1)) (S 0 10)) 0 14 (((S 0 14) * 1103515245) + 12345)) 5 (ix ((S 0 0) + 1)) ((Int32.toUInt32 (((S 0 14) * 1103515245) + 12345) >>> (Int32.toUInt32 8 &&& Int32.toUInt32 31)).toInt32)) := RG_5 rg19
                refine lv_aload_n hx hb dX0_type_125 rfl (lv_at hl 1 rfl) ?_
                refine gA_on C P dX0_type_126 ?_
                refine lv_aload_n hx hb dX0_type_129 rfl (lv_at hl 1 rfl) ?_
                refine gA_changes (v := (S 0 10)) C P rfl dX0_type_130 ?_
                refine lv_iconst (v := 1) hx hb dX0_type_133 (by decide) ?_
                refine sA_on C P (lt32 rg c5) (by decide) dX0_type_134 (fun H locs P => ?_)
                have rg21 : RG (up2 (up2 (up2 (up2 (up2 (up2 S 0 0 ((S 0 0) + 1)) 7 (ix ((S 0 0) + 1)) ch) 8 (ix ((S 0 0) + 1)) (S 0 10)) 0 14 (((S 0 14) * 1103515245) + 12345)) 5 (ix ((S 0 0) + 1)) ((Int32.toUInt32 (((S 0 14) * 1103515245) + 12345) >>> (Int32.toUInt32 8 &&& Int32.toUInt32 31)).toInt32)) 11 (ix (S 0 10)) 1) := RG_11 rg20
                refine lv_aload_n hx hb dX0_type_135 rfl (lv_at hl 1 rfl) ?_
                refine gA_typed C P dX0_type_136 ?_
                refine lv_aload_n hx hb dX0_type_139 rfl (lv_at hl 1 rfl) ?_
                refine gA_changes (v := (S 0 10)) C P rfl dX0_type_140 ?_
                refine lv_aload_n hx hb dX0_type_143 rfl (lv_at hl 1 rfl) ?_
                refine gA_count (v := ((S 0 0) + 1)) C P rfl dX0_type_144 ?_
                refine sA_typed C P (lt32 rg c5) dX0_type_147 (fun H locs P => ?_)
                have rg22 : RG (up2 (up2 (up2 (up2 (up2 (up2 (up2 S 0 0 ((S 0 0) + 1)) 7 (ix ((S 0 0) + 1)) ch) 8 (ix ((S 0 0) + 1)) (S 0 10)) 0 14 (((S 0 14) * 1103515245) + 12345)) 5 (ix ((S 0 0) + 1)) ((Int32.toUInt32 (((S 0 14) * 1103515245) + 12345) >>> (Int32.toUInt32 8 &&& Int32.toUInt32 31)).toInt32)) 11 (ix (S 0 10)) 1) 12 (ix (S 0 10)) ((S 0 0) + 1)) := RG_12 rg21 (lt49 rg c6)
                refine lv_aload_n hx hb dX0_type_148 rfl (lv_at hl 1 rfl) ?_
                refine gA_cover C P dX0_type_149 ?_
                refine lv_aload_n hx hb dX0_type_152 rfl (lv_at hl 1 rfl) ?_
                refine gA_changes (v := (S 0 10)) C P rfl dX0_type_153 ?_
                refine lv_lconst (v := 0) hx hb dX0_type_156 (by decide) ?_
                refine sA_cover C P (lt32 rg c5) dX0_type_157 (fun H locs P => ?_)
                refine lv_aload_n hx hb dX0_type_158 rfl (lv_at hl 1 rfl) ?_
                refine lv_dup hx hb dX0_type_159 rfl ?_
                refine gA_changes (v := (S 0 10)) C P rfl dX0_type_160 ?_
                refine lv_iconst (v := 1) hx hb dX0_type_163 (by decide) ?_
                refine lv_iadd hx hb dX0_type_164 ?_
                refine pA_changes C P dX0_type_165 (fun H locs P => ?_)
                have rg23 : RG (up2 (up2 (up2 (up2 (up2 (up2 (up2 (up2 S 0 0 ((S 0 0) + 1)) 7 (ix ((S 0 0) + 1)) ch) 8 (ix ((S 0 0) + 1)) (S 0 10)) 0 14 (((S 0 14) * 1103515245) + 12345)) 5 (ix ((S 0 0) + 1)) ((Int32.toUInt32 (((S 0 14) * 1103515245) + 12345) >>> (Int32.toUInt32 8 &&& Int32.toUInt32 31)).toInt32)) 11 (ix (S 0 10)) 1) 12 (ix (S 0 10)) ((S 0 0) + 1)) 0 10 ((S 0 10) + 1)) := RG_changes rg22 (lt33 rg c5)
                refine lv_aload_n hx hb dX0_type_168 rfl (lv_at hl 1 rfl) ?_
                refine lv_aload_n hx hb dX0_type_169 rfl (lv_at hl 1 rfl) ?_
                refine gA_count (v := ((S 0 0) + 1)) C P rfl dX0_type_170 ?_
                refine lv_iload_n hx hb dX0_type_173 rfl (lv_at hl 0 rfl) ?_
                refine cA_v (rest := []) C P 2 (mA_hang (made := ((S 0 0) + 1)) (x := 0) l D a b rg23 (lt49 rg c6) vin0) (lw_V q93 q95 qs3 q17 q96) rfl rfl (by decide +kernel) ⟨Nat.le_of_ble_eq_true rfl, Nat.le_of_ble_eq_true rfl⟩ rfl hl.1 rfl (Nat.le_of_ble_eq_true rfl) dX0_type_174 (fun H locs P => ?_)
                refine lv_aload_n hx hb dX0_type_177 rfl (lv_at hl 1 rfl) ?_
                refine gA_changes (v := ((hgS (up2 (up2 (up2 (up2 (up2 (up2 (up2 (up2 S 0 0 ((S 0 0) + 1)) 7 (ix ((S 0 0) + 1)) ch) 8 (ix ((S 0 0) + 1)) (S 0 10)) 0 14 (((S 0 14) * 1103515245) + 12345)) 5 (ix ((S 0 0) + 1)) ((Int32.toUInt32 (((S 0 14) * 1103515245) + 12345) >>> (Int32.toUInt32 8 &&& Int32.toUInt32 31)).toInt32)) 11 (ix (S 0 10)) 1) 12 (ix (S 0 10)) ((S 0 0) + 1)) 0 10 ((S 0 10) + 1)) ((S 0 0) + 1) 0) 0 10)) C P rfl dX0_type_178 ?_
                refine lv_iconst (v := 1) hx hb dX0_type_181 (by decide) ?_
                refine lv_isub hx hb dX0_type_182 ?_
                exact rA_i C hr hlocks P (by rw [tyO, if_neg c1, if_neg c2, if_neg c3, if_pos c4, if_neg c5, if_neg c6, tyT, tyB, if_pos c7]; rfl) dX0_type_183
            · refine lv_bipush (v := (-2)) hx hb dX0_type_42 (by decide) ?_
              exact rA_i C hr hlocks P (by simp [tyO, c1, c2, c3, c4, c5, c6]) dX0_type_44
        · refine lv_iconst (v := (-1)) hx hb dX0_type_22 (by decide) ?_
          exact rA_i C hr hlocks P (by simp [tyO, c1, c2, c3, c4]) dX0_type_23

set_option maxHeartbeats 4000000 in
set_option maxRecDepth 100000 in
theorem tlA_erase {p : Program} {l : Launch} {e : Env} {s : State} {m : MethodId} {args : Array Value} {below : List Frame} {meth : Method} {c : Code} {D : va_G} {A : Nat → Prop} {a : Nat → Nat} {b : Nat → ClassId} {V : LL} (C : CX p s m c args cX0_erase 7 RX0 A D (tA b)) (hr : meth.sig.returnType = (some .int)) (hlocks : meth.locks = false) {S : SS} (rg : RG S) (hc : ¬ S 0 10 = 32) (i j : Int32) (w : Int64) : ∀ (H : Heap) (locs : List Loc) (ls : Array Slot), PA D A a b S V s.heap H locs → lv_has ls 7 [(0, .ref (a 0)), (1, .int i), (2, .int j), (3, .long w)] → W p l e ({ frames := 4, cells := 0, slots := 0, locals := 90 }) s m args below meth c H locs 0 0 (QAi D a b A (cbS (erS S) w 1 0 10 - 1, cbS (erS S) w 1, vp_updL V (ix (S 0 10)) w) below args s) (F0 m 65 ls []) := by
  have hx := C.1
  have hb := C.2.1
  intro H locs ls P hl
  refine lv_aload_n hx hb dX0_erase_65 rfl (lv_at hl 0 rfl) ?_
  refine gA_on C P dX0_erase_66 ?_
  refine lv_aload_n hx hb dX0_erase_69 rfl (lv_at hl 0 rfl) ?_
  refine gA_changes (v := (S 0 10)) C P rfl dX0_erase_70 ?_
  refine lv_iconst (v := 1) hx hb dX0_erase_73 (by decide) ?_
  refine sA_on C P (lt32 rg hc) (by decide) dX0_erase_74 (fun H locs P => ?_)
  have rg1 : RG (up2 S 11 (ix (S 0 10)) 1) := RG_11 rg
  refine lv_aload_n hx hb dX0_erase_75 rfl (lv_at hl 0 rfl) ?_
  refine gA_typed C P dX0_erase_76 ?_
  refine lv_aload_n hx hb dX0_erase_79 rfl (lv_at hl 0 rfl) ?_
  refine gA_changes (v := (S 0 10)) C P rfl dX0_erase_80 ?_
  refine lv_iconst (v := 0) hx hb dX0_erase_83 (by decide) ?_
  refine sA_typed C P (lt32 rg hc) dX0_erase_84 (fun H locs P => ?_)
  have rg2 : RG (up2 (up2 S 11 (ix (S 0 10)) 1) 12 (ix (S 0 10)) 0) := RG_12 rg1 vin0
  refine lv_aload_n hx hb dX0_erase_85 rfl (lv_at hl 0 rfl) ?_
  refine gA_cover C P dX0_erase_86 ?_
  refine lv_aload_n hx hb dX0_erase_89 rfl (lv_at hl 0 rfl) ?_
  refine gA_changes (v := (S 0 10)) C P rfl dX0_erase_90 ?_
  refine lv_lload_n hx hb dX0_erase_93 rfl (lv_at hl 3 rfl) ?_
  refine sA_cover C P (lt32 rg hc) dX0_erase_94 (fun H locs P => ?_)
  refine lv_aload_n hx hb dX0_erase_95 rfl (lv_at hl 0 rfl) ?_
  refine lv_dup hx hb dX0_erase_96 rfl ?_
  refine gA_changes (v := (S 0 10)) C P rfl dX0_erase_97 ?_
  refine lv_iconst (v := 1) hx hb dX0_erase_100 (by decide) ?_
  refine lv_iadd hx hb dX0_erase_101 ?_
  refine pA_changes C P dX0_erase_102 (fun H locs P => ?_)
  have rg3 : RG (up2 (up2 (up2 S 11 (ix (S 0 10)) 1) 12 (ix (S 0 10)) 0) 0 10 ((S 0 10) + 1)) := RG_changes rg2 (lt33 rg hc)
  refine lv_aload_n hx hb dX0_erase_105 rfl (lv_at hl 0 rfl) ?_
  refine lv_lload_n hx hb dX0_erase_106 rfl (lv_at hl 3 rfl) ?_
  refine lv_iconst (v := 1) hx hb dX0_erase_107 (by decide) ?_
  refine cA_v (rest := []) C P 2 (mA_coverBy l D a b rg3) (lw_V q117 q119 qs8 q17 q120) rfl rfl (by decide +kernel) ⟨Nat.le_of_ble_eq_true rfl, Nat.le_of_ble_eq_true rfl⟩ rfl hl.1 rfl (Nat.le_of_ble_eq_true rfl) dX0_erase_108 (fun H locs P => ?_)
  have rg4 : RG (cbS (up2 (up2 (up2 S 11 (ix (S 0 10)) 1) 12 (ix (S 0 10)) 0) 0 10 ((S 0 10) + 1)) w 1) := RG_cb rg3
  refine lv_aload_n hx hb dX0_erase_111 rfl (lv_at hl 0 rfl) ?_
  refine gA_changes (v := ((cbS (up2 (up2 (up2 S 11 (ix (S 0 10)) 1) 12 (ix (S 0 10)) 0) 0 10 ((S 0 10) + 1)) w 1) 0 10)) C P rfl dX0_erase_112 ?_
  refine lv_iconst (v := 1) hx hb dX0_erase_115 (by decide) ?_
  refine lv_isub hx hb dX0_erase_116 ?_
  exact rA_i C hr hlocks P (rfl) dX0_erase_117

set_option maxHeartbeats 4000000 in
set_option maxRecDepth 100000 in
theorem lpA_erase {p : Program} {l : Launch} {e : Env} {s : State} {m : MethodId} {args : Array Value} {below : List Frame} {meth : Method} {c : Code} {D : va_G} {A : Nat → Prop} {a : Nat → Nat} {b : Nat → ClassId} {V : LL} (C : CX p s m c args cX0_erase 7 RX0 A D (tA b)) (hr : meth.sig.returnType = (some .int)) (hlocks : meth.locks = false) {S : SS} (rg : RG S) (hc : ¬ S 0 10 = 32) (i j : Int32) (J : Nat) (hj : j = nI J) (hJ : J < 2 ^ 31) (w0 : Int64) : ∀ (d k : Nat) (v : Int32) (w : Int64) (H : Heap) (locs : List Loc) (ls : Array Slot), v = nI k → k + d = J → erW d S k w = w0 → PA D A a b S V s.heap H locs → lv_has ls 7 [(0, .ref (a 0)), (1, .int i), (2, .int j), (3, .long w), (5, .int v)] → W p l e ({ frames := 4, cells := 0, slots := 0, locals := 90 }) s m args below meth c H locs 0 0 (QAi D a b A (cbS (erS S) w0 1 0 10 - 1, cbS (erS S) w0 1, vp_updL V (ix (S 0 10)) w0) below args s) (F0 m 36 ls []) := by
  have hx := C.1
  have hb := C.2.1
  intro d
  induction d with
  | zero =>
    intro k v w H locs ls hv hk hT P hl
    subst hv
    have hT : w = w0 := hT
    subst hT
    refine lv_iload hx hb dX0_erase_36 (lv_at hl 4 rfl) ?_
    refine lv_iload_n hx hb dX0_erase_38 rfl (lv_at hl 2 rfl) ?_
    refine lv_icmp_ge (tgt := 65) hx hb dX0_erase_39 (by decide) (fun c1 => ?_) (fun c1 => absurd (by rw [hj]; exact nI_le (by omega) (by omega)) c1)
    exact tlA_erase C hr hlocks rg hc i j w H locs ls P (lv_sub hl [0, 1, 2, 3] rfl)
  | succ d ih =>
    intro k v w H locs ls hv hk hT P hl
    subst hv
    refine lv_iload hx hb dX0_erase_36 (lv_at hl 4 rfl) ?_
    refine lv_iload_n hx hb dX0_erase_38 rfl (lv_at hl 2 rfl) ?_
    refine lv_icmp_ge (tgt := 65) hx hb dX0_erase_39 (by decide) (fun c1 => absurd c1 (by rw [hj]; exact nI_ge (by omega) (by omega))) (fun c1 => ?_)
    refine lv_aload_n hx hb dX0_erase_42 rfl (lv_at hl 0 rfl) ?_
    refine lv_iload hx hb dX0_erase_43 (lv_at hl 4 rfl) ?_
    refine cA_i (rest := []) C P 1 (mA_nodeAt l D a b rg) (lw_V q84 q86 qs1 q17 q87) rfl rfl (by decide +kernel) ⟨Nat.le_of_ble_eq_true rfl, Nat.le_of_ble_eq_true rfl⟩ rfl hl.1 rfl (Nat.le_of_ble_eq_true rfl) dX0_erase_45 (fun H locs P => ?_)
    refine lv_istore (lv' := [(6, .int (nodeF S (nI k))), (0, .ref (a 0)), (1, .int i), (2, .int j), (3, .long w), (5, .int (nI k))]) hx hb dX0_erase_48 hl (by decide) rfl (fun ls hl => ?_)
    refine lv_lload_n hx hb dX0_erase_50 rfl (lv_at hl 4 rfl) ?_
    refine lv_lconst (v := 1) hx hb dX0_erase_51 (by decide) ?_
    refine lv_iload hx hb dX0_erase_52 (lv_at hl 0 rfl) ?_
    refine lv_iconst (v := 1) hx hb dX0_erase_54 (by decide) ?_
    refine lv_isub hx hb dX0_erase_55 ?_
    refine lv_lshl hx hb dX0_erase_56 rfl ?_
    refine lv_lor hx hb dX0_erase_57 ?_
    refine lv_lstore_n (lv' := [(3, .long (w ||| ((1 : Int64) <<< (Int32.toInt64 ((nodeF S (nI k)) - 1) &&& 63)))), (6, .int (nodeF S (nI k))), (0, .ref (a 0)), (1, .int i), (2, .int j), (5, .int (nI k))]) hx hb dX0_erase_58 rfl hl (by decide) rfl (fun ls hl => ?_)
    refine lv_iinc (v := (nI (k + 1))) (lv' := [(5, .int (nI (k + 1))), (3, .long (w ||| ((1 : Int64) <<< (Int32.toInt64 ((nodeF S (nI k)) - 1) &&& 63)))), (6, .int (nodeF S (nI k))), (0, .ref (a 0)), (1, .int i), (2, .int j)]) hx hb dX0_erase_59 hl (k := 5) rfl (nI_1 k) (by decide) rfl (fun ls hl => ?_)
    refine lv_goto (tgt := 36) hx hb dX0_erase_62 (by decide) ?_
    exact ih (k + 1) _ (w ||| ((1 : Int64) <<< (Int32.toInt64 ((nodeF S (nI k)) - 1) &&& 63))) H locs ls rfl (by omega) (by rw [← hT, erW]) P (lv_sub hl [3, 4, 5, 1, 0] rfl)

set_option maxHeartbeats 4000000 in
set_option maxRecDepth 100000 in
theorem mA_erase (l : Launch) (D : va_G) (a : Nat → Nat) (b : Nat → ClassId) {S : SS} {V : LL} {i j : Int32} (rg : RG S) : MAi l D a b yX0_erase cX0_erase 7 .int { frames := 4, cells := 0, slots := 0, locals := 90 } [.int i, .int j] S V (erO S V i j) := by
  refine MAi.of (by decide) rfl (Nat.le_of_ble_eq_true rfl) ?_
  intro p e s m below meth c A ls C hr hlocks P hl
  have hx := C.1
  have hb := C.2.1
  have hl : lv_has ls 7 [(0, .ref (a 0)), (1, .int i), (2, .int j)] := hl
  refine lv_iload_n hx hb dX0_erase_0 rfl (lv_at hl 1 rfl) ?_
  refine lv_if_lt (tgt := 17) hx hb dX0_erase_1 (by decide) (fun c1 => ?_) (fun c1 => ?_)
  · refine lv_iconst (v := (-1)) hx hb dX0_erase_17 (by decide) ?_
    exact rA_i C hr hlocks P (by simp [erO, c1]) dX0_erase_18
  · refine lv_iload_n hx hb dX0_erase_4 rfl (lv_at hl 2 rfl) ?_
    refine lv_iload_n hx hb dX0_erase_5 rfl (lv_at hl 1 rfl) ?_
    refine lv_icmp_le (tgt := 17) hx hb dX0_erase_6 (by decide) (fun c2 => ?_) (fun c2 => ?_)
    · refine lv_iconst (v := (-1)) hx hb dX0_erase_17 (by decide) ?_
      exact rA_i C hr hlocks P (by simp [erO, c1, c2]) dX0_erase_18
    · refine lv_iload_n hx hb dX0_erase_9 rfl (lv_at hl 2 rfl) ?_
      refine lv_aload_n hx hb dX0_erase_10 rfl (lv_at hl 0 rfl) ?_
      refine cA_i (rest := [.int j]) C P 0 (mA_textLength l D a b rg) (lw_V q80 q82 qs0 q17 q83) rfl rfl (by decide +kernel) ⟨Nat.le_of_ble_eq_true rfl, Nat.le_of_ble_eq_true rfl⟩ rfl hl.1 rfl (Nat.le_of_ble_eq_true rfl) dX0_erase_11 (fun H locs P => ?_)
      refine lv_icmp_le (tgt := 19) hx hb dX0_erase_14 (by decide) (fun c3 => ?_) (fun c3 => ?_)
      · refine lv_aload_n hx hb dX0_erase_19 rfl (lv_at hl 0 rfl) ?_
        refine gA_changes (v := (S 0 10)) C P rfl dX0_erase_20 ?_
        refine lv_bipush (v := 32) hx hb dX0_erase_23 (by decide) ?_
        refine lv_icmp_ne (tgt := 31) hx hb dX0_erase_25 (by decide) (fun c4 => ?_) (fun c4 => ?_)
        · refine lv_lconst (v := 0) hx hb dX0_erase_31 (by decide) ?_
          refine lv_lstore_n (lv' := [(3, .long (0 : Int64)), (0, .ref (a 0)), (1, .int i), (2, .int j)]) hx hb dX0_erase_32 rfl hl (by decide) rfl (fun ls hl => ?_)
          refine lv_iload_n hx hb dX0_erase_33 rfl (lv_at hl 2 rfl) ?_
          refine lv_istore (lv' := [(5, .int i), (3, .long (0 : Int64)), (0, .ref (a 0)), (1, .int i), (2, .int j)]) hx hb dX0_erase_34 hl (by decide) rfl (fun ls hl => ?_)
          have hj0 : ¬ j < 0 := fun z => c2 (Int32.le_of_lt (Int32.lt_of_lt_of_le z (by simpa using c1)))
          have hE : (cbS (erS S) (erW (ix j - ix i) S (ix i) 0) 1 0 10 - 1, cbS (erS S) (erW (ix j - ix i) S (ix i) 0) 1, vp_updL V (ix (S 0 10)) (erW (ix j - ix i) S (ix i) 0)) = erO S V i j := by simp [erO, c1, c2, c3, c4]
          rw [← hE]
          exact lpA_erase C hr hlocks rg c4 i j (ix j) (nI_ix hj0).symm (ix_31 _) _ (ix j - ix i) (ix i) _ _ _ _ _ (nI_ix c1).symm (by have := ix_le_of (x := i) (y := j) (fun z => c2 (Int32.le_of_lt z)); omega) rfl P (lv_sub hl [2, 3, 4, 1, 0] rfl)
        · refine lv_bipush (v := (-2)) hx hb dX0_erase_28 (by decide) ?_
          exact rA_i C hr hlocks P (by simp [erO, c1, c2, c3, c4]) dX0_erase_30
      · refine lv_iconst (v := (-1)) hx hb dX0_erase_17 (by decide) ?_
        exact rA_i C hr hlocks P (by simp [erO, c1, c2, c3]) dX0_erase_18
end
section
theorem zlt32 {M : SS} (h : RZ M) (h2 : ¬ M 0 6 = 32) : vp_in (M 0 6) 32 := vin_ne (rzN h) rfl (by decide) (by decide) h2
set_option maxHeartbeats 4000000 in
set_option maxRecDepth 100000 in
theorem mB_isChange (l : Launch) (D : va_G) (a : Nat → Nat) (b : Nat → ClassId) {S : SS} {V : LL} {k : Int32} : MBi l D a b yX1_isChange cX1_isChange 2 .boolean { frames := 0, cells := 0, slots := 0, locals := 0 } [.int k] S V (icI S k, S, V) := by
  refine MBi.of (by decide) rfl (Nat.le_of_ble_eq_true rfl) ?_
  intro p e s m below meth c A ls C hr hlocks P hl
  have hx := C.1
  have hb := C.2.1
  have hl : lv_has ls 2 [(0, .ref (a 0)), (1, .int k)] := hl
  refine lv_iload_n hx hb dX1_isChange_0 rfl (lv_at hl 1 rfl) ?_
  refine lv_if_lt (tgt := 16) hx hb dX1_isChange_1 (by decide) (fun c1 => ?_) (fun c1 => ?_)
  · refine lv_iconst (v := 0) hx hb dX1_isChange_16 (by decide) ?_
    exact rB_z C hr hlocks P (by decide) (by simp [icI, c1]) dX1_isChange_17
  · refine lv_iload_n hx hb dX1_isChange_4 rfl (lv_at hl 1 rfl) ?_
    refine lv_aload_n hx hb dX1_isChange_5 rfl (lv_at hl 0 rfl) ?_
    refine gB_count (v := (S 0 6)) C P rfl dX1_isChange_6 ?_
    refine lv_icmp_ge (tgt := 16) hx hb dX1_isChange_9 (by decide) (fun c2 => ?_) (fun c2 => ?_)
    · refine lv_iconst (v := 0) hx hb dX1_isChange_16 (by decide) ?_
      exact rB_z C hr hlocks P (by decide) (by simp [icI, c1, c2]) dX1_isChange_17
    · refine lv_iconst (v := 1) hx hb dX1_isChange_12 (by decide) ?_
      refine lv_goto (tgt := 17) hx hb dX1_isChange_13 (by decide) ?_
      exact rB_z C hr hlocks P (by decide) (by simp [icI, c1, c2]) dX1_isChange_17

set_option maxHeartbeats 4000000 in
set_option maxRecDepth 100000 in
theorem lpB_coversOf {p : Program} {l : Launch} {e : Env} {s : State} {m : MethodId} {args : Array Value} {below : List Frame} {meth : Method} {c : Code} {D : va_G} {A : Nat → Prop} {a : Nat → Nat} {b : Nat → ClassId} {V : LL} (C : CX p s m c args cX1_coversOf 4 RX1 A D (tB b)) (hr : meth.sig.returnType = (some .int)) (hlocks : meth.locks = false) {S : SS} (rg : RZ S) (ch : Int32) (N : Nat) (hN : S 0 6 = nI N) (hN32 : N ≤ 32) (r : Int32) : ∀ (d k : Nat) (n : Int32) (H : Heap) (locs : List Loc) (ls : Array Slot), k + d = N → coL d S ch k n = r → PB D A a b S V s.heap H locs → lv_has ls 4 [(0, .ref (a 0)), (1, .int ch), (2, .int n), (3, .int (nI k))] → W p l e ({ frames := 0, cells := 0, slots := 0, locals := 0 }) s m args below meth c H locs 0 0 (QBi D a b A (r, S, V) below args s) (F0 m 4 ls []) := by
  have hx := C.1
  have hb := C.2.1
  intro d
  induction d with
  | zero =>
    intro k n H locs ls hd hT P hl
    refine lv_iload_n hx hb dX1_coversOf_4 rfl (lv_at hl 3 rfl) ?_
    refine lv_aload_n hx hb dX1_coversOf_5 rfl (lv_at hl 0 rfl) ?_
    refine gB_count (v := (S 0 6)) C P rfl dX1_coversOf_6 ?_
    refine lv_icmp_ge (tgt := 44) hx hb dX1_coversOf_9 (by decide) (fun c1 => ?_) (fun c1 => absurd (by rw [hN]; exact nI_le (by omega) (by omega)) c1)
    refine lv_iload_n hx hb dX1_coversOf_44 rfl (lv_at hl 2 rfl) ?_
    exact rB_i C hr hlocks P (by rw [← hT]; rfl) dX1_coversOf_45
  | succ d ih =>
    intro k n H locs ls hd hT P hl
    refine lv_iload_n hx hb dX1_coversOf_4 rfl (lv_at hl 3 rfl) ?_
    refine lv_aload_n hx hb dX1_coversOf_5 rfl (lv_at hl 0 rfl) ?_
    refine gB_count (v := (S 0 6)) C P rfl dX1_coversOf_6 ?_
    refine lv_icmp_ge (tgt := 44) hx hb dX1_coversOf_9 (by decide) (fun c1 => absurd c1 (by rw [hN]; exact nI_ge (by omega) (by omega))) (fun c1 => ?_)
    refine lv_aload_n hx hb dX1_coversOf_12 rfl (lv_at hl 0 rfl) ?_
    refine gB_on C P dX1_coversOf_13 ?_
    refine lv_iload_n hx hb dX1_coversOf_16 rfl (lv_at hl 3 rfl) ?_
    refine lB_on (v := (S 5 (ix (nI k)))) C P (vin_n (by omega) (by decide)) rfl dX1_coversOf_17 ?_
    refine lv_if_eq (tgt := 38) hx hb dX1_coversOf_18 (by decide) (fun c2 => ?_) (fun c2 => ?_)
    · refine lv_iinc (v := (nI (k + 1))) (lv' := [(3, .int (nI (k + 1))), (0, .ref (a 0)), (1, .int ch), (2, .int n)]) hx hb dX1_coversOf_38 hl (k := 3) rfl (nI_1 k) (by decide) rfl (fun ls hl => ?_)
      refine lv_goto (tgt := 4) hx hb dX1_coversOf_41 (by decide) ?_
      exact ih (k + 1) n H locs ls (by omega) (by rw [← hT, coL]; simp [c2]) P (lv_sub hl [1, 2, 3, 0] rfl)
    · refine lv_aload_n hx hb dX1_coversOf_21 rfl (lv_at hl 0 rfl) ?_
      refine gB_covered C P dX1_coversOf_22 ?_
      refine lv_iload_n hx hb dX1_coversOf_25 rfl (lv_at hl 3 rfl) ?_
      refine lB_covered (v := (S 4 (ix (nI k)))) C P (vin_n (by omega) (by decide)) rfl dX1_coversOf_26 ?_
      refine lv_iload_n hx hb dX1_coversOf_27 rfl (lv_at hl 1 rfl) ?_
      refine lv_ishr hx hb dX1_coversOf_28 ?_
      refine lv_iconst (v := 1) hx hb dX1_coversOf_29 (by decide) ?_
      refine lv_iand hx hb dX1_coversOf_30 ?_
      refine lv_iconst (v := 1) hx hb dX1_coversOf_31 (by decide) ?_
      refine lv_icmp_ne (tgt := 38) hx hb dX1_coversOf_32 (by decide) (fun c3 => ?_) (fun c3 => ?_)
      · refine lv_iinc (v := (nI (k + 1))) (lv' := [(3, .int (nI (k + 1))), (0, .ref (a 0)), (1, .int ch), (2, .int n)]) hx hb dX1_coversOf_38 hl (k := 3) rfl (nI_1 k) (by decide) rfl (fun ls hl => ?_)
        refine lv_goto (tgt := 4) hx hb dX1_coversOf_41 (by decide) ?_
        exact ih (k + 1) n H locs ls (by omega) (by rw [← hT, coL]; simp [c2, c3]) P (lv_sub hl [1, 2, 3, 0] rfl)
      · refine lv_iinc (v := (n + 1)) (lv' := [(2, .int (n + 1)), (0, .ref (a 0)), (1, .int ch), (3, .int (nI k))]) hx hb dX1_coversOf_35 hl (k := 2) rfl rfl (by decide) rfl (fun ls hl => ?_)
        refine lv_iinc (v := (nI (k + 1))) (lv' := [(3, .int (nI (k + 1))), (2, .int (n + 1)), (0, .ref (a 0)), (1, .int ch)]) hx hb dX1_coversOf_38 hl (k := 3) rfl (nI_1 k) (by decide) rfl (fun ls hl => ?_)
        refine lv_goto (tgt := 4) hx hb dX1_coversOf_41 (by decide) ?_
        exact ih (k + 1) (n + 1) H locs ls (by omega) (by rw [← hT, coL]; simp [c2, c3]) P (lv_sub hl [2, 3, 1, 0] rfl)

set_option maxHeartbeats 4000000 in
set_option maxRecDepth 100000 in
theorem mB_coversOf (l : Launch) (D : va_G) (a : Nat → Nat) (b : Nat → ClassId) {S : SS} {V : LL} {ch : Int32} (rg : RZ S) : MBi l D a b yX1_coversOf cX1_coversOf 4 .int { frames := 0, cells := 0, slots := 0, locals := 0 } [.int ch] S V (coF S ch, S, V) := by
  refine MBi.of (by decide) rfl (Nat.le_of_ble_eq_true rfl) ?_
  intro p e s m below meth c A ls C hr hlocks P hl
  have hx := C.1
  have hb := C.2.1
  have hl : lv_has ls 4 [(0, .ref (a 0)), (1, .int ch)] := hl
  refine lv_iconst (v := 0) hx hb dX1_coversOf_0 (by decide) ?_
  refine lv_istore_n (lv' := [(2, .int 0), (0, .ref (a 0)), (1, .int ch)]) hx hb dX1_coversOf_1 rfl hl (by decide) rfl (fun ls hl => ?_)
  refine lv_iconst (v := (nI 0)) hx hb dX1_coversOf_2 (by decide) ?_
  refine lv_istore_n (lv' := [(3, .int (nI 0)), (2, .int 0), (0, .ref (a 0)), (1, .int ch)]) hx hb dX1_coversOf_3 rfl hl (by decide) rfl (fun ls hl => ?_)
  exact lpB_coversOf C hr hlocks rg ch (ix (S 0 6)) (nI_ix (vin_nn (rzN rg))).symm (Nat.le_of_lt_succ (ix_lt (rzN rg))) _ (ix (S 0 6)) 0 0 _ _ _ (by omega) rfl P (lv_sub hl [2, 3, 1, 0] rfl)

set_option maxHeartbeats 4000000 in
set_option maxRecDepth 100000 in
theorem mB_isShown (l : Launch) (D : va_G) (a : Nat → Nat) (b : Nat → ClassId) {S : SS} {V : LL} {ch : Int32} (rg : RZ S) (hc : vp_in ch 32) : MBi l D a b yX1_isShown cX1_isShown 2 .boolean { frames := 1, cells := 0, slots := 0, locals := 23 } [.int ch] S V (isI S ch, S, V) := by
  refine MBi.of (by decide) rfl (Nat.le_of_ble_eq_true rfl) ?_
  intro p e s m below meth c A ls C hr hlocks P hl
  have hx := C.1
  have hb := C.2.1
  have hl : lv_has ls 2 [(0, .ref (a 0)), (1, .int ch)] := hl
  refine lv_aload_n hx hb dX1_isShown_0 rfl (lv_at hl 0 rfl) ?_
  refine gB_on C P dX1_isShown_1 ?_
  refine lv_iload_n hx hb dX1_isShown_4 rfl (lv_at hl 1 rfl) ?_
  refine lB_on (v := (S 5 (ix ch))) C P hc rfl dX1_isShown_5 ?_
  refine lv_if_eq (tgt := 21) hx hb dX1_isShown_6 (by decide) (fun c1 => ?_) (fun c1 => ?_)
  · refine lv_iconst (v := 0) hx hb dX1_isShown_21 (by decide) ?_
    exact rB_z C hr hlocks P (by decide) (by simp [isI, c1]) dX1_isShown_22
  · refine lv_aload_n hx hb dX1_isShown_9 rfl (lv_at hl 0 rfl) ?_
    refine lv_iload_n hx hb dX1_isShown_10 rfl (lv_at hl 1 rfl) ?_
    refine cB_i (rest := []) C P 1 (mB_coversOf (ch := ch) l D a b rg) (lw_V q229 q231 qs13 q18 q232) rfl rfl (by decide +kernel) ⟨Nat.le_of_ble_eq_true rfl, Nat.le_of_ble_eq_true rfl⟩ rfl hl.1 rfl (Nat.le_of_ble_eq_true rfl) dX1_isShown_11 (fun H locs P => ?_)
    refine lv_if_ne (tgt := 21) hx hb dX1_isShown_14 (by decide) (fun c2 => ?_) (fun c2 => ?_)
    · refine lv_iconst (v := 0) hx hb dX1_isShown_21 (by decide) ?_
      exact rB_z C hr hlocks P (by decide) (by simp [isI, c1, c2]) dX1_isShown_22
    · refine lv_iconst (v := 1) hx hb dX1_isShown_17 (by decide) ?_
      refine lv_goto (tgt := 22) hx hb dX1_isShown_18 (by decide) ?_
      exact rB_z C hr hlocks P (by decide) (by simp [isI, c1, c2]) dX1_isShown_22

set_option maxHeartbeats 4000000 in
set_option maxRecDepth 100000 in
theorem lpB_charAt {p : Program} {l : Launch} {e : Env} {s : State} {m : MethodId} {args : Array Value} {below : List Frame} {meth : Method} {c : Code} {D : va_G} {A : Nat → Prop} {a : Nat → Nat} {b : Nat → ClassId} {V : LL} (C : CX p s m c args cX1_charAt 4 RX1 A D (tB b)) (hr : meth.sig.returnType = (some .int)) (hlocks : meth.locks = false) {S : SS} (rg : RZ S) (q : Int32) (N : Nat) (hN : S 0 1 = nI N) (hN32 : N ≤ 32) (r : Int32) : ∀ (d i : Nat) (bf : Int32) (H : Heap) (locs : List Loc) (ls : Array Slot), i + d = N → caL d S q i bf = r → PB D A a b S V s.heap H locs → lv_has ls 4 [(0, .ref (a 0)), (1, .int q), (2, .int bf), (3, .int (nI i))] → W p l e ({ frames := 2, cells := 0, slots := 0, locals := 44 }) s m args below meth c H locs 0 0 (QBi D a b A (r, S, V) below args s) (F0 m 4 ls []) := by
  have hx := C.1
  have hb := C.2.1
  intro d
  induction d with
  | zero =>
    intro i bf H locs ls hd hT P hl
    refine lv_iload_n hx hb dX1_charAt_4 rfl (lv_at hl 3 rfl) ?_
    refine lv_aload_n hx hb dX1_charAt_5 rfl (lv_at hl 0 rfl) ?_
    refine gB_listed (v := (S 0 1)) C P rfl dX1_charAt_6 ?_
    refine lv_icmp_ge (tgt := 46) hx hb dX1_charAt_9 (by decide) (fun c1 => ?_) (fun c1 => absurd (by rw [hN]; exact nI_le (by omega) (by omega)) c1)
    refine lv_bipush (v := (-4)) hx hb dX1_charAt_46 (by decide) ?_
    exact rB_i C hr hlocks P (by rw [← hT]; rfl) dX1_charAt_48
  | succ d ih =>
    intro i bf H locs ls hd hT P hl
    refine lv_iload_n hx hb dX1_charAt_4 rfl (lv_at hl 3 rfl) ?_
    refine lv_aload_n hx hb dX1_charAt_5 rfl (lv_at hl 0 rfl) ?_
    refine gB_listed (v := (S 0 1)) C P rfl dX1_charAt_6 ?_
    refine lv_icmp_ge (tgt := 46) hx hb dX1_charAt_9 (by decide) (fun c1 => absurd c1 (by rw [hN]; exact nI_ge (by omega) (by omega))) (fun c1 => ?_)
    refine lv_aload_n hx hb dX1_charAt_12 rfl (lv_at hl 0 rfl) ?_
    refine lv_aload_n hx hb dX1_charAt_13 rfl (lv_at hl 0 rfl) ?_
    refine gB_list C P dX1_charAt_14 ?_
    refine lv_iload_n hx hb dX1_charAt_17 rfl (lv_at hl 3 rfl) ?_
    refine lB_list (v := (S 1 (ix (nI i)))) C P (vin_n (by omega) (by decide)) rfl dX1_charAt_18 ?_
    refine cB_i (rest := []) C P 1 (mB_isShown (ch := (S 1 (ix (nI i)))) l D a b rg (rzL rg (vin_n (by omega) (by decide)))) (lw_V q225 q227 qs12 q18 q228) rfl rfl (by decide +kernel) ⟨Nat.le_of_ble_eq_true rfl, Nat.le_of_ble_eq_true rfl⟩ rfl hl.1 rfl (Nat.le_of_ble_eq_true rfl) dX1_charAt_19 (fun H locs P => ?_)
    refine lv_if_eq (tgt := 40) hx hb dX1_charAt_22 (by decide) (fun c2 => ?_) (fun c2 => ?_)
    · refine lv_iinc (v := (nI (i + 1))) (lv' := [(3, .int (nI (i + 1))), (0, .ref (a 0)), (1, .int q), (2, .int bf)]) hx hb dX1_charAt_40 hl (k := 3) rfl (nI_1 i) (by decide) rfl (fun ls hl => ?_)
      refine lv_goto (tgt := 4) hx hb dX1_charAt_43 (by decide) ?_
      exact ih (i + 1) bf H locs ls (by omega) (by rw [← hT, caL]; simp [c2]) P (lv_sub hl [1, 2, 3, 0] rfl)
    · refine lv_iload_n hx hb dX1_charAt_25 rfl (lv_at hl 2 rfl) ?_
      refine lv_iload_n hx hb dX1_charAt_26 rfl (lv_at hl 1 rfl) ?_
      refine lv_icmp_ne (tgt := 37) hx hb dX1_charAt_27 (by decide) (fun c3 => ?_) (fun c3 => ?_)
      · refine lv_iinc (v := (bf + 1)) (lv' := [(2, .int (bf + 1)), (0, .ref (a 0)), (1, .int q), (3, .int (nI i))]) hx hb dX1_charAt_37 hl (k := 2) rfl rfl (by decide) rfl (fun ls hl => ?_)
        refine lv_iinc (v := (nI (i + 1))) (lv' := [(3, .int (nI (i + 1))), (2, .int (bf + 1)), (0, .ref (a 0)), (1, .int q)]) hx hb dX1_charAt_40 hl (k := 3) rfl (nI_1 i) (by decide) rfl (fun ls hl => ?_)
        refine lv_goto (tgt := 4) hx hb dX1_charAt_43 (by decide) ?_
        exact ih (i + 1) (bf + 1) H locs ls (by omega) (by rw [← hT, caL]; simp [c2, c3]) P (lv_sub hl [2, 3, 1, 0] rfl)
      · refine lv_aload_n hx hb dX1_charAt_30 rfl (lv_at hl 0 rfl) ?_
        refine gB_list C P dX1_charAt_31 ?_
        refine lv_iload_n hx hb dX1_charAt_34 rfl (lv_at hl 3 rfl) ?_
        refine lB_list (v := (S 1 (ix (nI i)))) C P (vin_n (by omega) (by decide)) rfl dX1_charAt_35 ?_
        exact rB_i C hr hlocks P (by rw [← hT, caL, if_neg c2, if_pos c3]) dX1_charAt_36

set_option maxHeartbeats 4000000 in
set_option maxRecDepth 100000 in
theorem mB_charAt (l : Launch) (D : va_G) (a : Nat → Nat) (b : Nat → ClassId) {S : SS} {V : LL} {q : Int32} (rg : RZ S) : MBi l D a b yX1_charAt cX1_charAt 4 .int { frames := 2, cells := 0, slots := 0, locals := 44 } [.int q] S V (caF S q, S, V) := by
  refine MBi.of (by decide) rfl (Nat.le_of_ble_eq_true rfl) ?_
  intro p e s m below meth c A ls C hr hlocks P hl
  have hx := C.1
  have hb := C.2.1
  have hl : lv_has ls 4 [(0, .ref (a 0)), (1, .int q)] := hl
  refine lv_iconst (v := 0) hx hb dX1_charAt_0 (by decide) ?_
  refine lv_istore_n (lv' := [(2, .int 0), (0, .ref (a 0)), (1, .int q)]) hx hb dX1_charAt_1 rfl hl (by decide) rfl (fun ls hl => ?_)
  refine lv_iconst (v := (nI 0)) hx hb dX1_charAt_2 (by decide) ?_
  refine lv_istore_n (lv' := [(3, .int (nI 0)), (2, .int 0), (0, .ref (a 0)), (1, .int q)]) hx hb dX1_charAt_3 rfl hl (by decide) rfl (fun ls hl => ?_)
  exact lpB_charAt C hr hlocks rg q (ix (S 0 1)) (nI_ix (vin_nn (rzI rg))).symm (Nat.le_of_lt_succ (ix_lt (rzI rg))) _ (ix (S 0 1)) 0 0 _ _ _ (by omega) rfl P (lv_sub hl [2, 3, 1, 0] rfl)

set_option maxHeartbeats 4000000 in
set_option maxRecDepth 100000 in
theorem lpB_length {p : Program} {l : Launch} {e : Env} {s : State} {m : MethodId} {args : Array Value} {below : List Frame} {meth : Method} {c : Code} {D : va_G} {A : Nat → Prop} {a : Nat → Nat} {b : Nat → ClassId} {V : LL} (C : CX p s m c args cX1_length 3 RX1 A D (tB b)) (hr : meth.sig.returnType = (some .int)) (hlocks : meth.locks = false) {S : SS} (rg : RZ S) (N : Nat) (hN : S 0 1 = nI N) (hN32 : N ≤ 32) (r : Int32) : ∀ (d i : Nat) (n : Int32) (H : Heap) (locs : List Loc) (ls : Array Slot), i + d = N → leL d S i n = r → PB D A a b S V s.heap H locs → lv_has ls 3 [(0, .ref (a 0)), (1, .int n), (2, .int (nI i))] → W p l e ({ frames := 2, cells := 0, slots := 0, locals := 44 }) s m args below meth c H locs 0 0 (QBi D a b A (r, S, V) below args s) (F0 m 4 ls []) := by
  have hx := C.1
  have hb := C.2.1
  intro d
  induction d with
  | zero =>
    intro i n H locs ls hd hT P hl
    refine lv_iload_n hx hb dX1_length_4 rfl (lv_at hl 2 rfl) ?_
    refine lv_aload_n hx hb dX1_length_5 rfl (lv_at hl 0 rfl) ?_
    refine gB_listed (v := (S 0 1)) C P rfl dX1_length_6 ?_
    refine lv_icmp_ge (tgt := 34) hx hb dX1_length_9 (by decide) (fun c1 => ?_) (fun c1 => absurd (by rw [hN]; exact nI_le (by omega) (by omega)) c1)
    refine lv_iload_n hx hb dX1_length_34 rfl (lv_at hl 1 rfl) ?_
    exact rB_i C hr hlocks P (by rw [← hT]; rfl) dX1_length_35
  | succ d ih =>
    intro i n H locs ls hd hT P hl
    refine lv_iload_n hx hb dX1_length_4 rfl (lv_at hl 2 rfl) ?_
    refine lv_aload_n hx hb dX1_length_5 rfl (lv_at hl 0 rfl) ?_
    refine gB_listed (v := (S 0 1)) C P rfl dX1_length_6 ?_
    refine lv_icmp_ge (tgt := 34) hx hb dX1_length_9 (by decide) (fun c1 => absurd c1 (by rw [hN]; exact nI_ge (by omega) (by omega))) (fun c1 => ?_)
    refine lv_aload_n hx hb dX1_length_12 rfl (lv_at hl 0 rfl) ?_
    refine lv_aload_n hx hb dX1_length_13 rfl (lv_at hl 0 rfl) ?_
    refine gB_list C P dX1_length_14 ?_
    refine lv_iload_n hx hb dX1_length_17 rfl (lv_at hl 2 rfl) ?_
    refine lB_list (v := (S 1 (ix (nI i)))) C P (vin_n (by omega) (by decide)) rfl dX1_length_18 ?_
    refine cB_i (rest := []) C P 1 (mB_isShown (ch := (S 1 (ix (nI i)))) l D a b rg (rzL rg (vin_n (by omega) (by decide)))) (lw_V q225 q227 qs12 q18 q228) rfl rfl (by decide +kernel) ⟨Nat.le_of_ble_eq_true rfl, Nat.le_of_ble_eq_true rfl⟩ rfl hl.1 rfl (Nat.le_of_ble_eq_true rfl) dX1_length_19 (fun H locs P => ?_)
    refine lv_if_eq (tgt := 28) hx hb dX1_length_22 (by decide) (fun c2 => ?_) (fun c2 => ?_)
    · refine lv_iinc (v := (nI (i + 1))) (lv' := [(2, .int (nI (i + 1))), (0, .ref (a 0)), (1, .int n)]) hx hb dX1_length_28 hl (k := 2) rfl (nI_1 i) (by decide) rfl (fun ls hl => ?_)
      refine lv_goto (tgt := 4) hx hb dX1_length_31 (by decide) ?_
      exact ih (i + 1) n H locs ls (by omega) (by rw [← hT, leL]; simp [c2]) P (lv_sub hl [1, 2, 0] rfl)
    · refine lv_iinc (v := (n + 1)) (lv' := [(1, .int (n + 1)), (0, .ref (a 0)), (2, .int (nI i))]) hx hb dX1_length_25 hl (k := 1) rfl rfl (by decide) rfl (fun ls hl => ?_)
      refine lv_iinc (v := (nI (i + 1))) (lv' := [(2, .int (nI (i + 1))), (1, .int (n + 1)), (0, .ref (a 0))]) hx hb dX1_length_28 hl (k := 2) rfl (nI_1 i) (by decide) rfl (fun ls hl => ?_)
      refine lv_goto (tgt := 4) hx hb dX1_length_31 (by decide) ?_
      exact ih (i + 1) (n + 1) H locs ls (by omega) (by rw [← hT, leL]; simp [c2]) P (lv_sub hl [2, 1, 0] rfl)

set_option maxHeartbeats 4000000 in
set_option maxRecDepth 100000 in
theorem mB_length (l : Launch) (D : va_G) (a : Nat → Nat) (b : Nat → ClassId) {S : SS} {V : LL} (rg : RZ S) : MBi l D a b yX1_length cX1_length 3 .int { frames := 2, cells := 0, slots := 0, locals := 44 } [] S V (leF S, S, V) := by
  refine MBi.of (by decide) rfl (Nat.le_of_ble_eq_true rfl) ?_
  intro p e s m below meth c A ls C hr hlocks P hl
  have hx := C.1
  have hb := C.2.1
  have hl : lv_has ls 3 [(0, .ref (a 0))] := hl
  refine lv_iconst (v := 0) hx hb dX1_length_0 (by decide) ?_
  refine lv_istore_n (lv' := [(1, .int 0), (0, .ref (a 0))]) hx hb dX1_length_1 rfl hl (by decide) rfl (fun ls hl => ?_)
  refine lv_iconst (v := (nI 0)) hx hb dX1_length_2 (by decide) ?_
  refine lv_istore_n (lv' := [(2, .int (nI 0)), (1, .int 0), (0, .ref (a 0))]) hx hb dX1_length_3 rfl hl (by decide) rfl (fun ls hl => ?_)
  exact lpB_length C hr hlocks rg (ix (S 0 1)) (nI_ix (vin_nn (rzI rg))).symm (Nat.le_of_lt_succ (ix_lt (rzI rg))) _ (ix (S 0 1)) 0 0 _ _ _ (by omega) rfl P (lv_sub hl [2, 1, 0] rfl)
end
section
set_option maxHeartbeats 4000000 in
set_option maxRecDepth 100000 in
theorem tlB_type {p : Program} {l : Launch} {e : Env} {s : State} {m : MethodId} {args : Array Value} {below : List Frame} {meth : Method} {c : Code} {D : va_G} {A : Nat → Prop} {a : Nat → Nat} {b : Nat → ClassId} {V : LL} (C : CX p s m c args cX1_type 5 RX1 A D (tB b)) (hr : meth.sig.returnType = (some .int)) (hlocks : meth.locks = false) (q ch bh : Int32) : ∀ (S : SS) (z : Nat) (H : Heap) (locs : List Loc) (ls : Array Slot), vp_in (S 0 6) 32 → z < 32 → PB D A a b S V s.heap H locs → lv_has ls 5 [(0, .ref (a 0)), (1, .int q), (2, .int ch), (3, .int bh), (4, .int (nI z))] → W p l e ({ frames := 3, cells := 0, slots := 0, locals := 67 }) s m args below meth c H locs 0 0 (QBi D a b A (S 0 6 + 1 - 1, tzS S z ch, V) below args s) (F0 m 99 ls []) := by
  have hx := C.1
  have hb := C.2.1
  intro S z H locs ls hc hz P hl
  refine lv_aload_n hx hb dX1_type_99 rfl (lv_at hl 0 rfl) ?_
  refine gB_list C P dX1_type_100 ?_
  refine lv_iload hx hb dX1_type_103 (lv_at hl 4 rfl) ?_
  refine lv_aload_n hx hb dX1_type_105 rfl (lv_at hl 0 rfl) ?_
  refine gB_count (v := (S 0 6)) C P rfl dX1_type_106 ?_
  refine sB_list C P (vin_n hz (by decide)) dX1_type_109 (fun H locs P => ?_)
  refine lv_aload_n hx hb dX1_type_110 rfl (lv_at hl 0 rfl) ?_
  refine lv_dup hx hb dX1_type_111 rfl ?_
  refine gB_listed (v := (S 0 1)) C P rfl dX1_type_112 ?_
  refine lv_iconst (v := 1) hx hb dX1_type_115 (by decide) ?_
  refine lv_iadd hx hb dX1_type_116 ?_
  refine pB_listed C P dX1_type_117 (fun H locs P => ?_)
  refine lv_aload_n hx hb dX1_type_120 rfl (lv_at hl 0 rfl) ?_
  refine gB_types C P dX1_type_121 ?_
  refine lv_aload_n hx hb dX1_type_124 rfl (lv_at hl 0 rfl) ?_
  refine gB_count (v := (S 0 6)) C P rfl dX1_type_125 ?_
  refine lv_iconst (v := 1) hx hb dX1_type_128 (by decide) ?_
  refine sB_types C P hc (by decide) dX1_type_129 (fun H locs P => ?_)
  refine lv_aload_n hx hb dX1_type_130 rfl (lv_at hl 0 rfl) ?_
  refine gB_letters C P dX1_type_131 ?_
  refine lv_aload_n hx hb dX1_type_134 rfl (lv_at hl 0 rfl) ?_
  refine gB_count (v := (S 0 6)) C P rfl dX1_type_135 ?_
  refine lv_iload_n hx hb dX1_type_138 rfl (lv_at hl 2 rfl) ?_
  refine sB_letters C P hc dX1_type_139 (fun H locs P => ?_)
  refine lv_aload_n hx hb dX1_type_140 rfl (lv_at hl 0 rfl) ?_
  refine gB_covered C P dX1_type_141 ?_
  refine lv_aload_n hx hb dX1_type_144 rfl (lv_at hl 0 rfl) ?_
  refine gB_count (v := (S 0 6)) C P rfl dX1_type_145 ?_
  refine lv_iconst (v := 0) hx hb dX1_type_148 (by decide) ?_
  refine sB_covered C P hc dX1_type_149 (fun H locs P => ?_)
  refine lv_aload_n hx hb dX1_type_150 rfl (lv_at hl 0 rfl) ?_
  refine gB_on C P dX1_type_151 ?_
  refine lv_aload_n hx hb dX1_type_154 rfl (lv_at hl 0 rfl) ?_
  refine gB_count (v := (S 0 6)) C P rfl dX1_type_155 ?_
  refine lv_iconst (v := 1) hx hb dX1_type_158 (by decide) ?_
  refine sB_on C P hc (by decide) dX1_type_159 (fun H locs P => ?_)
  refine lv_aload_n hx hb dX1_type_160 rfl (lv_at hl 0 rfl) ?_
  refine lv_dup hx hb dX1_type_161 rfl ?_
  refine gB_count (v := (S 0 6)) C P rfl dX1_type_162 ?_
  refine lv_iconst (v := 1) hx hb dX1_type_165 (by decide) ?_
  refine lv_iadd hx hb dX1_type_166 ?_
  refine pB_count C P dX1_type_167 (fun H locs P => ?_)
  refine lv_aload_n hx hb dX1_type_170 rfl (lv_at hl 0 rfl) ?_
  refine gB_count (v := ((S 0 6) + 1)) C P rfl dX1_type_171 ?_
  refine lv_iconst (v := 1) hx hb dX1_type_174 (by decide) ?_
  refine lv_isub hx hb dX1_type_175 ?_
  exact rB_i C hr hlocks P (rfl) dX1_type_176

set_option maxHeartbeats 4000000 in
set_option maxRecDepth 100000 in
theorem lpB_type {p : Program} {l : Launch} {e : Env} {s : State} {m : MethodId} {args : Array Value} {below : List Frame} {meth : Method} {c : Code} {D : va_G} {A : Nat → Prop} {a : Nat → Nat} {b : Nat → ClassId} {V : LL} (C : CX p s m c args cX1_type 5 RX1 A D (tB b)) (hr : meth.sig.returnType = (some .int)) (hlocks : meth.locks = false) (q ch bh : Int32) (o : SS × Nat) : ∀ (t : Nat) (S : SS) (H : Heap) (locs : List Loc) (ls : Array Slot), t < 32 → RZ S → vp_in (S 0 6) 32 → shL t S bh = o → PB D A a b S V s.heap H locs → lv_has ls 5 [(0, .ref (a 0)), (1, .int q), (2, .int ch), (3, .int bh), (4, .int (nI t))] → W p l e ({ frames := 3, cells := 0, slots := 0, locals := 67 }) s m args below meth c H locs 0 0 (QBi D a b A (o.1 0 6 + 1 - 1, tzS o.1 o.2 ch, V) below args s) (F0 m 59 ls []) := by
  have hx := C.1
  have hb := C.2.1
  intro t
  induction t with
  | zero =>
    intro S H locs ls ht rg hc hT P hl
    rw [← hT]
    refine lv_iload hx hb dX1_type_59 (lv_at hl 4 rfl) ?_
    refine lv_if_le (tgt := 99) hx hb dX1_type_61 (by decide) (fun c1 => ?_) (fun c1 => absurd (by decide) c1)
    exact tlB_type C hr hlocks q ch bh S 0 H locs ls hc (by omega) P (lv_sub hl [0, 1, 2, 3, 4] rfl)
  | succ t ih =>
    intro S H locs ls ht rg hc hT P hl
    refine lv_iload hx hb dX1_type_59 (lv_at hl 4 rfl) ?_
    refine lv_if_le (tgt := 99) hx hb dX1_type_61 (by decide) (fun c1 => absurd c1 (nI_nle (by omega) (by omega))) (fun c1 => ?_)
    refine lv_aload_n hx hb dX1_type_64 rfl (lv_at hl 0 rfl) ?_
    refine gB_list C P dX1_type_65 ?_
    refine lv_iload hx hb dX1_type_68 (lv_at hl 4 rfl) ?_
    refine lv_iconst (v := 1) hx hb dX1_type_70 (by decide) ?_
    refine lv_isub hx hb dX1_type_71 ?_
    rw [nI_pred]
    refine lB_list (v := (S 1 (ix (nI t)))) C P (vin_n (by omega) (by decide)) rfl dX1_type_72 ?_
    refine lv_iload_n hx hb dX1_type_73 rfl (lv_at hl 3 rfl) ?_
    refine lv_icmp_eq (tgt := 99) hx hb dX1_type_74 (by decide) (fun c2 => ?_) (fun c2 => ?_)
    · rw [← hT, shL, if_pos c2]
      exact tlB_type C hr hlocks q ch bh S (t + 1) H locs ls hc (by omega) P (lv_sub hl [0, 1, 2, 3, 4] rfl)
    · refine lv_aload_n hx hb dX1_type_77 rfl (lv_at hl 0 rfl) ?_
      refine gB_list C P dX1_type_78 ?_
      refine lv_iload hx hb dX1_type_81 (lv_at hl 4 rfl) ?_
      refine lv_aload_n hx hb dX1_type_83 rfl (lv_at hl 0 rfl) ?_
      refine gB_list C P dX1_type_84 ?_
      refine lv_iload hx hb dX1_type_87 (lv_at hl 4 rfl) ?_
      refine lv_iconst (v := 1) hx hb dX1_type_89 (by decide) ?_
      refine lv_isub hx hb dX1_type_90 ?_
      rw [nI_pred]
      refine lB_list (v := (S 1 (ix (nI t)))) C P (vin_n (by omega) (by decide)) rfl dX1_type_91 ?_
      refine sB_list C P (vin_n (by omega) (by decide)) dX1_type_92 (fun H locs P => ?_)
      have rg3 : RZ (up2 S 1 (ix (nI (t + 1))) (S 1 (ix (nI t)))) := RZ_1 rg (rzL rg (vin_n (by omega) (by decide)))
      refine lv_iinc (v := (nI t)) (lv' := [(4, .int (nI t)), (0, .ref (a 0)), (1, .int q), (2, .int ch), (3, .int bh)]) hx hb dX1_type_93 hl (k := 4) rfl (pk_m1 t) (by decide) rfl (fun ls hl => ?_)
      refine lv_goto (tgt := 59) hx hb dX1_type_96 (by decide) ?_
      exact ih (up2 S 1 (ix (nI (t + 1))) (S 1 (ix (nI t)))) H locs ls (by omega) rg3 hc (by rw [← hT, shL, if_neg c2]) P (lv_sub hl [1, 2, 3, 4, 0] rfl)

set_option maxHeartbeats 4000000 in
set_option maxRecDepth 100000 in
theorem mB_type (l : Launch) (D : va_G) (a : Nat → Nat) (b : Nat → ClassId) {S : SS} {V : LL} {q ch : Int32} (rg : RZ S) (hli : ix (S 0 1) ≤ ix (S 0 6)) : MBi l D a b yX1_type cX1_type 5 .int { frames := 3, cells := 0, slots := 0, locals := 67 } [.int q, .int ch] S V (tzO S V q ch) := by
  refine MBi.of (by decide) rfl (Nat.le_of_ble_eq_true rfl) ?_
  intro p e s m below meth c A ls C hr hlocks P hl
  have hx := C.1
  have hb := C.2.1
  have hl : lv_has ls 5 [(0, .ref (a 0)), (1, .int q), (2, .int ch)] := hl
  refine lv_iload_n hx hb dX1_type_0 rfl (lv_at hl 2 rfl) ?_
  refine lv_if_lt (tgt := 22) hx hb dX1_type_1 (by decide) (fun c1 => ?_) (fun c1 => ?_)
  · refine lv_iconst (v := (-1)) hx hb dX1_type_22 (by decide) ?_
    exact rB_i C hr hlocks P (by simp [tzO, c1]) dX1_type_23
  · refine lv_iload_n hx hb dX1_type_4 rfl (lv_at hl 2 rfl) ?_
    refine lv_bipush (v := 25) hx hb dX1_type_5 (by decide) ?_
    refine lv_icmp_gt (tgt := 22) hx hb dX1_type_7 (by decide) (fun c2 => ?_) (fun c2 => ?_)
    · refine lv_iconst (v := (-1)) hx hb dX1_type_22 (by decide) ?_
      exact rB_i C hr hlocks P (by simp [tzO, c1, c2]) dX1_type_23
    · refine lv_iload_n hx hb dX1_type_10 rfl (lv_at hl 1 rfl) ?_
      refine lv_if_lt (tgt := 22) hx hb dX1_type_11 (by decide) (fun c3 => ?_) (fun c3 => ?_)
      · refine lv_iconst (v := (-1)) hx hb dX1_type_22 (by decide) ?_
        exact rB_i C hr hlocks P (by simp [tzO, c1, c2, c3]) dX1_type_23
      · refine lv_iload_n hx hb dX1_type_14 rfl (lv_at hl 1 rfl) ?_
        refine lv_aload_n hx hb dX1_type_15 rfl (lv_at hl 0 rfl) ?_
        refine cB_i (rest := [.int q]) C P 0 (mB_length l D a b rg) (lw_V q221 q222 q223 q18 q224) rfl rfl (by decide +kernel) ⟨Nat.le_of_ble_eq_true rfl, Nat.le_of_ble_eq_true rfl⟩ rfl hl.1 rfl (Nat.le_of_ble_eq_true rfl) dX1_type_16 (fun H locs P => ?_)
        refine lv_icmp_le (tgt := 24) hx hb dX1_type_19 (by decide) (fun c4 => ?_) (fun c4 => ?_)
        · refine lv_aload_n hx hb dX1_type_24 rfl (lv_at hl 0 rfl) ?_
          refine gB_count (v := (S 0 6)) C P rfl dX1_type_25 ?_
          refine lv_bipush (v := 32) hx hb dX1_type_28 (by decide) ?_
          refine lv_icmp_ne (tgt := 36) hx hb dX1_type_30 (by decide) (fun c5 => ?_) (fun c5 => ?_)
          · refine lv_iload_n hx hb dX1_type_36 rfl (lv_at hl 1 rfl) ?_
            refine lv_if_ne (tgt := 45) hx hb dX1_type_37 (by decide) (fun c6 => ?_) (fun c6 => ?_)
            · refine lv_aload_n hx hb dX1_type_45 rfl (lv_at hl 0 rfl) ?_
              refine lv_iload_n hx hb dX1_type_46 rfl (lv_at hl 1 rfl) ?_
              refine lv_iconst (v := 1) hx hb dX1_type_47 (by decide) ?_
              refine lv_isub hx hb dX1_type_48 ?_
              refine cB_i (rest := []) C P 1 (mB_charAt (q := (q - 1)) l D a b rg) (lw_V q233 q235 qs14 q18 q236) rfl rfl (by decide +kernel) ⟨Nat.le_of_ble_eq_true rfl, Nat.le_of_ble_eq_true rfl⟩ rfl hl.1 rfl (Nat.le_of_ble_eq_true rfl) dX1_type_49 (fun H locs P => ?_)
              refine lv_istore_n (lv' := [(3, .int (caF S (q - 1))), (0, .ref (a 0)), (1, .int q), (2, .int ch)]) hx hb dX1_type_52 rfl hl (by decide) rfl (fun ls hl => ?_)
              refine lv_aload_n hx hb dX1_type_53 rfl (lv_at hl 1 rfl) ?_
              refine gB_listed (v := (S 0 1)) C P rfl dX1_type_54 ?_
              refine lv_istore (lv' := [(4, .int (S 0 1)), (3, .int (caF S (q - 1))), (0, .ref (a 0)), (1, .int q), (2, .int ch)]) hx hb dX1_type_57 hl (by decide) rfl (fun ls hl => ?_)
              have hc6 : vp_in (S 0 6) 32 := zlt32 rg c5
              have hE : ((shL (ix (S 0 1)) S (caF S (q - 1))).1 0 6 + 1 - 1, tzS (shL (ix (S 0 1)) S (caF S (q - 1))).1 (shL (ix (S 0 1)) S (caF S (q - 1))).2 ch, V) = tzO S V q ch := by rw [tzO, if_neg c1, if_neg c2, if_neg c3, if_pos c4, if_neg c5, tzB, if_neg c6]
              rw [← hE]
              have hl4 : lv_has ls 5 [(0, .ref (a 0)), (1, .int q), (2, .int ch), (3, .int (caF S (q - 1))), (4, .int (nI (ix (S 0 1))))] := by rw [nI_ix (vin_nn (rzI rg))]; exact (lv_sub hl [2, 3, 4, 1, 0] rfl)
              exact lpB_type C hr hlocks q ch (caF S (q - 1)) _ (ix (S 0 1)) S _ _ _ (by have := ix_lt hc6; omega) rg hc6 rfl P hl4
            · refine lv_bipush (v := (-4)) hx hb dX1_type_40 (by decide) ?_
              refine lv_goto (tgt := 52) hx hb dX1_type_42 (by decide) ?_
              refine lv_istore_n (lv' := [(3, .int (-4)), (0, .ref (a 0)), (1, .int q), (2, .int ch)]) hx hb dX1_type_52 rfl hl (by decide) rfl (fun ls hl => ?_)
              refine lv_aload_n hx hb dX1_type_53 rfl (lv_at hl 1 rfl) ?_
              refine gB_listed (v := (S 0 1)) C P rfl dX1_type_54 ?_
              refine lv_istore (lv' := [(4, .int (S 0 1)), (3, .int (-4)), (0, .ref (a 0)), (1, .int q), (2, .int ch)]) hx hb dX1_type_57 hl (by decide) rfl (fun ls hl => ?_)
              have hc6 : vp_in (S 0 6) 32 := zlt32 rg c5
              have hE : ((shL (ix (S 0 1)) S (-4)).1 0 6 + 1 - 1, tzS (shL (ix (S 0 1)) S (-4)).1 (shL (ix (S 0 1)) S (-4)).2 ch, V) = tzO S V q ch := by rw [tzO, if_neg c1, if_neg c2, if_neg c3, if_pos c4, if_neg c5, tzB, if_pos c6]
              rw [← hE]
              have hl4 : lv_has ls 5 [(0, .ref (a 0)), (1, .int q), (2, .int ch), (3, .int (-4)), (4, .int (nI (ix (S 0 1))))] := by rw [nI_ix (vin_nn (rzI rg))]; exact (lv_sub hl [2, 3, 4, 1, 0] rfl)
              exact lpB_type C hr hlocks q ch (-4) _ (ix (S 0 1)) S _ _ _ (by have := ix_lt hc6; omega) rg hc6 rfl P hl4
          · refine lv_bipush (v := (-2)) hx hb dX1_type_33 (by decide) ?_
            exact rB_i C hr hlocks P (by simp [tzO, c1, c2, c3, c4, c5]) dX1_type_35
        · refine lv_iconst (v := (-1)) hx hb dX1_type_22 (by decide) ?_
          exact rB_i C hr hlocks P (by simp [tzO, c1, c2, c3, c4]) dX1_type_23

set_option maxHeartbeats 4000000 in
set_option maxRecDepth 100000 in
theorem tlB_erase {p : Program} {l : Launch} {e : Env} {s : State} {m : MethodId} {args : Array Value} {below : List Frame} {meth : Method} {c : Code} {D : va_G} {A : Nat → Prop} {a : Nat → Nat} {b : Nat → ClassId} {V : LL} (C : CX p s m c args cX1_erase 6 RX1 A D (tB b)) (hr : meth.sig.returnType = (some .int)) (hlocks : meth.locks = false) {S : SS} (hc : vp_in (S 0 6) 32) (i j w : Int32) : ∀ (H : Heap) (locs : List Loc) (ls : Array Slot), PB D A a b S V s.heap H locs → lv_has ls 6 [(0, .ref (a 0)), (1, .int i), (2, .int j), (3, .int w)] → W p l e ({ frames := 3, cells := 0, slots := 0, locals := 67 }) s m args below meth c H locs 0 0 (QBi D a b A (S 0 6 + 1 - 1, ezS S w, V) below args s) (F0 m 72 ls []) := by
  have hx := C.1
  have hb := C.2.1
  intro H locs ls P hl
  refine lv_aload_n hx hb dX1_erase_72 rfl (lv_at hl 0 rfl) ?_
  refine gB_types C P dX1_erase_73 ?_
  refine lv_aload_n hx hb dX1_erase_76 rfl (lv_at hl 0 rfl) ?_
  refine gB_count (v := (S 0 6)) C P rfl dX1_erase_77 ?_
  refine lv_iconst (v := 0) hx hb dX1_erase_80 (by decide) ?_
  refine sB_types C P hc (by decide) dX1_erase_81 (fun H locs P => ?_)
  refine lv_aload_n hx hb dX1_erase_82 rfl (lv_at hl 0 rfl) ?_
  refine gB_covered C P dX1_erase_83 ?_
  refine lv_aload_n hx hb dX1_erase_86 rfl (lv_at hl 0 rfl) ?_
  refine gB_count (v := (S 0 6)) C P rfl dX1_erase_87 ?_
  refine lv_iload_n hx hb dX1_erase_90 rfl (lv_at hl 3 rfl) ?_
  refine sB_covered C P hc dX1_erase_91 (fun H locs P => ?_)
  refine lv_aload_n hx hb dX1_erase_92 rfl (lv_at hl 0 rfl) ?_
  refine gB_on C P dX1_erase_93 ?_
  refine lv_aload_n hx hb dX1_erase_96 rfl (lv_at hl 0 rfl) ?_
  refine gB_count (v := (S 0 6)) C P rfl dX1_erase_97 ?_
  refine lv_iconst (v := 1) hx hb dX1_erase_100 (by decide) ?_
  refine sB_on C P hc (by decide) dX1_erase_101 (fun H locs P => ?_)
  refine lv_aload_n hx hb dX1_erase_102 rfl (lv_at hl 0 rfl) ?_
  refine lv_dup hx hb dX1_erase_103 rfl ?_
  refine gB_count (v := (S 0 6)) C P rfl dX1_erase_104 ?_
  refine lv_iconst (v := 1) hx hb dX1_erase_107 (by decide) ?_
  refine lv_iadd hx hb dX1_erase_108 ?_
  refine pB_count C P dX1_erase_109 (fun H locs P => ?_)
  refine lv_aload_n hx hb dX1_erase_112 rfl (lv_at hl 0 rfl) ?_
  refine gB_count (v := ((S 0 6) + 1)) C P rfl dX1_erase_113 ?_
  refine lv_iconst (v := 1) hx hb dX1_erase_116 (by decide) ?_
  refine lv_isub hx hb dX1_erase_117 ?_
  exact rB_i C hr hlocks P (rfl) dX1_erase_118

set_option maxHeartbeats 4000000 in
set_option maxRecDepth 100000 in
theorem lpB_erase {p : Program} {l : Launch} {e : Env} {s : State} {m : MethodId} {args : Array Value} {below : List Frame} {meth : Method} {c : Code} {D : va_G} {A : Nat → Prop} {a : Nat → Nat} {b : Nat → ClassId} {V : LL} (C : CX p s m c args cX1_erase 6 RX1 A D (tB b)) (hr : meth.sig.returnType = (some .int)) (hlocks : meth.locks = false) {S : SS} (rg : RZ S) (hc : vp_in (S 0 6) 32) (i j : Int32) (J : Nat) (hj : j = nI J) (hJ : J < 2 ^ 31) (w0 : Int32) : ∀ (d k : Nat) (v w : Int32) (H : Heap) (locs : List Loc) (ls : Array Slot), v = nI k → k + d = J → ezW d S k w = w0 → PB D A a b S V s.heap H locs → lv_has ls 6 [(0, .ref (a 0)), (1, .int i), (2, .int j), (3, .int w), (4, .int v)] → W p l e ({ frames := 3, cells := 0, slots := 0, locals := 67 }) s m args below meth c H locs 0 0 (QBi D a b A (S 0 6 + 1 - 1, ezS S w0, V) below args s) (F0 m 36 ls []) := by
  have hx := C.1
  have hb := C.2.1
  intro d
  induction d with
  | zero =>
    intro k v w H locs ls hv hk hT P hl
    subst hv
    have hT : w = w0 := hT
    subst hT
    refine lv_iload hx hb dX1_erase_36 (lv_at hl 4 rfl) ?_
    refine lv_iload_n hx hb dX1_erase_38 rfl (lv_at hl 2 rfl) ?_
    refine lv_icmp_ge (tgt := 72) hx hb dX1_erase_39 (by decide) (fun c1 => ?_) (fun c1 => absurd (by rw [hj]; exact nI_le (by omega) (by omega)) c1)
    exact tlB_erase C hr hlocks hc i j w H locs ls P (lv_sub hl [0, 1, 2, 3] rfl)
  | succ d ih =>
    intro k v w H locs ls hv hk hT P hl
    subst hv
    refine lv_iload hx hb dX1_erase_36 (lv_at hl 4 rfl) ?_
    refine lv_iload_n hx hb dX1_erase_38 rfl (lv_at hl 2 rfl) ?_
    refine lv_icmp_ge (tgt := 72) hx hb dX1_erase_39 (by decide) (fun c1 => absurd c1 (by rw [hj]; exact nI_ge (by omega) (by omega))) (fun c1 => ?_)
    refine lv_aload_n hx hb dX1_erase_42 rfl (lv_at hl 0 rfl) ?_
    refine lv_iload hx hb dX1_erase_43 (lv_at hl 4 rfl) ?_
    refine cB_i (rest := []) C P 1 (mB_charAt (q := (nI k)) l D a b rg) (lw_V q233 q235 qs14 q18 q236) rfl rfl (by decide +kernel) ⟨Nat.le_of_ble_eq_true rfl, Nat.le_of_ble_eq_true rfl⟩ rfl hl.1 rfl (Nat.le_of_ble_eq_true rfl) dX1_erase_45 (fun H locs P => ?_)
    refine lv_istore (lv' := [(5, .int (caF S (nI k))), (0, .ref (a 0)), (1, .int i), (2, .int j), (3, .int w), (4, .int (nI k))]) hx hb dX1_erase_48 hl (by decide) rfl (fun ls hl => ?_)
    refine lv_iload hx hb dX1_erase_50 (lv_at hl 0 rfl) ?_
    refine lv_if_ge (tgt := 59) hx hb dX1_erase_52 (by decide) (fun c2 => ?_) (fun c2 => ?_)
    · refine lv_iload_n hx hb dX1_erase_59 rfl (lv_at hl 4 rfl) ?_
      refine lv_iconst (v := 1) hx hb dX1_erase_60 (by decide) ?_
      refine lv_iload hx hb dX1_erase_61 (lv_at hl 0 rfl) ?_
      refine lv_ishl hx hb dX1_erase_63 ?_
      refine lv_ior hx hb dX1_erase_64 ?_
      refine lv_istore_n (lv' := [(3, .int (w ||| (1 <<< ((caF S (nI k)) &&& 31)))), (5, .int (caF S (nI k))), (0, .ref (a 0)), (1, .int i), (2, .int j), (4, .int (nI k))]) hx hb dX1_erase_65 rfl hl (by decide) rfl (fun ls hl => ?_)
      refine lv_iinc (v := (nI (k + 1))) (lv' := [(4, .int (nI (k + 1))), (3, .int (w ||| (1 <<< ((caF S (nI k)) &&& 31)))), (5, .int (caF S (nI k))), (0, .ref (a 0)), (1, .int i), (2, .int j)]) hx hb dX1_erase_66 hl (k := 5) rfl (nI_1 k) (by decide) rfl (fun ls hl => ?_)
      refine lv_goto (tgt := 36) hx hb dX1_erase_69 (by decide) ?_
      exact ih (k + 1) _ (w ||| (1 <<< ((caF S (nI k)) &&& 31))) H locs ls rfl (by omega) (by rw [← hT, ezW, if_pos c2]) P (lv_sub hl [3, 4, 5, 1, 0] rfl)
    · refine lv_iload_n hx hb dX1_erase_55 rfl (lv_at hl 4 rfl) ?_
      refine lv_goto (tgt := 65) hx hb dX1_erase_56 (by decide) ?_
      refine lv_istore_n (lv' := [(3, .int w), (5, .int (caF S (nI k))), (0, .ref (a 0)), (1, .int i), (2, .int j), (4, .int (nI k))]) hx hb dX1_erase_65 rfl hl (by decide) rfl (fun ls hl => ?_)
      refine lv_iinc (v := (nI (k + 1))) (lv' := [(4, .int (nI (k + 1))), (3, .int w), (5, .int (caF S (nI k))), (0, .ref (a 0)), (1, .int i), (2, .int j)]) hx hb dX1_erase_66 hl (k := 5) rfl (nI_1 k) (by decide) rfl (fun ls hl => ?_)
      refine lv_goto (tgt := 36) hx hb dX1_erase_69 (by decide) ?_
      exact ih (k + 1) _ w H locs ls rfl (by omega) (by rw [← hT, ezW, if_neg c2]) P (lv_sub hl [3, 4, 5, 1, 0] rfl)

set_option maxHeartbeats 4000000 in
set_option maxRecDepth 100000 in
theorem mB_erase (l : Launch) (D : va_G) (a : Nat → Nat) (b : Nat → ClassId) {S : SS} {V : LL} {i j : Int32} (rg : RZ S) : MBi l D a b yX1_erase cX1_erase 6 .int { frames := 3, cells := 0, slots := 0, locals := 67 } [.int i, .int j] S V (ezO S V i j) := by
  refine MBi.of (by decide) rfl (Nat.le_of_ble_eq_true rfl) ?_
  intro p e s m below meth c A ls C hr hlocks P hl
  have hx := C.1
  have hb := C.2.1
  have hl : lv_has ls 6 [(0, .ref (a 0)), (1, .int i), (2, .int j)] := hl
  refine lv_iload_n hx hb dX1_erase_0 rfl (lv_at hl 1 rfl) ?_
  refine lv_if_lt (tgt := 17) hx hb dX1_erase_1 (by decide) (fun c1 => ?_) (fun c1 => ?_)
  · refine lv_iconst (v := (-1)) hx hb dX1_erase_17 (by decide) ?_
    exact rB_i C hr hlocks P (by simp [ezO, c1]) dX1_erase_18
  · refine lv_iload_n hx hb dX1_erase_4 rfl (lv_at hl 2 rfl) ?_
    refine lv_iload_n hx hb dX1_erase_5 rfl (lv_at hl 1 rfl) ?_
    refine lv_icmp_le (tgt := 17) hx hb dX1_erase_6 (by decide) (fun c2 => ?_) (fun c2 => ?_)
    · refine lv_iconst (v := (-1)) hx hb dX1_erase_17 (by decide) ?_
      exact rB_i C hr hlocks P (by simp [ezO, c1, c2]) dX1_erase_18
    · refine lv_iload_n hx hb dX1_erase_9 rfl (lv_at hl 2 rfl) ?_
      refine lv_aload_n hx hb dX1_erase_10 rfl (lv_at hl 0 rfl) ?_
      refine cB_i (rest := [.int j]) C P 0 (mB_length l D a b rg) (lw_V q221 q222 q223 q18 q224) rfl rfl (by decide +kernel) ⟨Nat.le_of_ble_eq_true rfl, Nat.le_of_ble_eq_true rfl⟩ rfl hl.1 rfl (Nat.le_of_ble_eq_true rfl) dX1_erase_11 (fun H locs P => ?_)
      refine lv_icmp_le (tgt := 19) hx hb dX1_erase_14 (by decide) (fun c3 => ?_) (fun c3 => ?_)
      · refine lv_aload_n hx hb dX1_erase_19 rfl (lv_at hl 0 rfl) ?_
        refine gB_count (v := (S 0 6)) C P rfl dX1_erase_20 ?_
        refine lv_bipush (v := 32) hx hb dX1_erase_23 (by decide) ?_
        refine lv_icmp_ne (tgt := 31) hx hb dX1_erase_25 (by decide) (fun c4 => ?_) (fun c4 => ?_)
        · refine lv_iconst (v := 0) hx hb dX1_erase_31 (by decide) ?_
          refine lv_istore_n (lv' := [(3, .int 0), (0, .ref (a 0)), (1, .int i), (2, .int j)]) hx hb dX1_erase_32 rfl hl (by decide) rfl (fun ls hl => ?_)
          refine lv_iload_n hx hb dX1_erase_33 rfl (lv_at hl 2 rfl) ?_
          refine lv_istore (lv' := [(4, .int i), (3, .int 0), (0, .ref (a 0)), (1, .int i), (2, .int j)]) hx hb dX1_erase_34 hl (by decide) rfl (fun ls hl => ?_)
          have hj0 : ¬ j < 0 := fun z => c2 (Int32.le_of_lt (Int32.lt_of_lt_of_le z (by simpa using c1)))
          have hE : (S 0 6 + 1 - 1, ezS S (ezW (ix j - ix i) S (ix i) 0), V) = ezO S V i j := by rw [ezO, if_neg c1, if_neg c2, if_pos c3, if_neg c4]
          rw [← hE]
          exact lpB_erase C hr hlocks rg (zlt32 rg c4) i j (ix j) (nI_ix hj0).symm (ix_31 _) _ (ix j - ix i) (ix i) _ _ _ _ _ (nI_ix c1).symm (by have := ix_le_of (x := i) (y := j) (fun z => c2 (Int32.le_of_lt z)); omega) rfl P (lv_sub hl [2, 3, 4, 1, 0] rfl)
        · refine lv_bipush (v := (-2)) hx hb dX1_erase_28 (by decide) ?_
          exact rB_i C hr hlocks P (by simp [ezO, c1, c2, c3, c4]) dX1_erase_30
      · refine lv_iconst (v := (-1)) hx hb dX1_erase_17 (by decide) ?_
        exact rB_i C hr hlocks P (by simp [ezO, c1, c2, c3]) dX1_erase_18
end
section
set_option maxHeartbeats 4000000 in
set_option maxRecDepth 100000 in
theorem mB_put (l : Launch) (D : va_G) (a : Nat → Nat) (b : Nat → ClassId) {S : SS} {V : LL} {k z : Int32} (rg : RZ S) : MBi l D a b yX1_put cX1_put 4 .int { frames := 1, cells := 0, slots := 0, locals := 21 } [.int k, .int z] S V (pzO S V k z) := by
  refine MBi.of (by decide) rfl (Nat.le_of_ble_eq_true rfl) ?_
  intro p e s m below meth c A ls C hr hlocks P hl
  have hx := C.1
  have hb := C.2.1
  have hl : lv_has ls 4 [(0, .ref (a 0)), (1, .int k), (2, .int z)] := hl
  refine lv_aload_n hx hb dX1_put_0 rfl (lv_at hl 0 rfl) ?_
  refine lv_iload_n hx hb dX1_put_1 rfl (lv_at hl 1 rfl) ?_
  refine cB_i (rest := []) C P 1 (mB_isChange l D a b) (lw_V q245 q247 qs15 q18 q248) rfl rfl (by decide +kernel) ⟨Nat.le_of_ble_eq_true rfl, Nat.le_of_ble_eq_true rfl⟩ rfl hl.1 rfl (Nat.le_of_ble_eq_true rfl) dX1_put_2 (fun H locs P => ?_)
  refine lv_if_ne (tgt := 10) hx hb dX1_put_5 (by decide) (fun c1 => ?_) (fun c1 => ?_)
  · refine lv_aload_n hx hb dX1_put_10 rfl (lv_at hl 0 rfl) ?_
    refine gB_on C P dX1_put_11 ?_
    refine lv_iload_n hx hb dX1_put_14 rfl (lv_at hl 1 rfl) ?_
    refine lB_on (v := (S 5 (ix k))) C P (ic_in rg c1) rfl dX1_put_15 ?_
    refine lv_if_eq (tgt := 23) hx hb dX1_put_16 (by decide) (fun c2 => ?_) (fun c2 => ?_)
    · refine lv_iconst (v := 0) hx hb dX1_put_23 (by decide) ?_
      refine lv_istore_n (lv' := [(3, .int 0), (0, .ref (a 0)), (1, .int k), (2, .int z)]) hx hb dX1_put_24 rfl hl (by decide) rfl (fun ls hl => ?_)
      refine lv_aload_n hx hb dX1_put_25 rfl (lv_at hl 1 rfl) ?_
      refine gB_on C P dX1_put_26 ?_
      refine lv_iload_n hx hb dX1_put_29 rfl (lv_at hl 2 rfl) ?_
      refine lv_iload_n hx hb dX1_put_30 rfl (lv_at hl 3 rfl) ?_
      refine lv_if_eq (tgt := 38) hx hb dX1_put_31 (by decide) (fun c3 => ?_) (fun c3 => ?_)
      · refine lv_iconst (v := 0) hx hb dX1_put_38 (by decide) ?_
        refine sB_on C P (ic_in rg c1) (by decide) dX1_put_39 (fun H locs P => ?_)
        have rg4 : RZ (up2 S 5 (ix k) 0) := RZ_5 rg
        refine lv_iload_n hx hb dX1_put_40 rfl (lv_at hl 0 rfl) ?_
        exact rB_i C hr hlocks P (by simp [pzO, b01, c1, c2, c3]) dX1_put_41
      · refine lv_iconst (v := 1) hx hb dX1_put_34 (by decide) ?_
        refine lv_goto (tgt := 39) hx hb dX1_put_35 (by decide) ?_
        refine sB_on C P (ic_in rg c1) (by decide) dX1_put_39 (fun H locs P => ?_)
        have rg5 : RZ (up2 S 5 (ix k) 1) := RZ_5 rg
        refine lv_iload_n hx hb dX1_put_40 rfl (lv_at hl 0 rfl) ?_
        exact rB_i C hr hlocks P (by simp [pzO, b01, c1, c2, c3]) dX1_put_41
    · refine lv_iconst (v := 1) hx hb dX1_put_19 (by decide) ?_
      refine lv_goto (tgt := 24) hx hb dX1_put_20 (by decide) ?_
      refine lv_istore_n (lv' := [(3, .int 1), (0, .ref (a 0)), (1, .int k), (2, .int z)]) hx hb dX1_put_24 rfl hl (by decide) rfl (fun ls hl => ?_)
      refine lv_aload_n hx hb dX1_put_25 rfl (lv_at hl 1 rfl) ?_
      refine gB_on C P dX1_put_26 ?_
      refine lv_iload_n hx hb dX1_put_29 rfl (lv_at hl 2 rfl) ?_
      refine lv_iload_n hx hb dX1_put_30 rfl (lv_at hl 3 rfl) ?_
      refine lv_if_eq (tgt := 38) hx hb dX1_put_31 (by decide) (fun c6 => ?_) (fun c6 => ?_)
      · refine lv_iconst (v := 0) hx hb dX1_put_38 (by decide) ?_
        refine sB_on C P (ic_in rg c1) (by decide) dX1_put_39 (fun H locs P => ?_)
        have rg7 : RZ (up2 S 5 (ix k) 0) := RZ_5 rg
        refine lv_iload_n hx hb dX1_put_40 rfl (lv_at hl 0 rfl) ?_
        exact rB_i C hr hlocks P (by simp [pzO, b01, c1, c2, c6]) dX1_put_41
      · refine lv_iconst (v := 1) hx hb dX1_put_34 (by decide) ?_
        refine lv_goto (tgt := 39) hx hb dX1_put_35 (by decide) ?_
        refine sB_on C P (ic_in rg c1) (by decide) dX1_put_39 (fun H locs P => ?_)
        have rg8 : RZ (up2 S 5 (ix k) 1) := RZ_5 rg
        refine lv_iload_n hx hb dX1_put_40 rfl (lv_at hl 0 rfl) ?_
        exact rB_i C hr hlocks P (by simp [pzO, b01, c1, c2, c6]) dX1_put_41
  · refine lv_iconst (v := (-1)) hx hb dX1_put_8 (by decide) ?_
    exact rB_i C hr hlocks P (by simp [pzO, b01, c1]) dX1_put_9

set_option maxHeartbeats 4000000 in
set_option maxRecDepth 100000 in
theorem lpB_undo {p : Program} {l : Launch} {e : Env} {s : State} {m : MethodId} {args : Array Value} {below : List Frame} {meth : Method} {c : Code} {D : va_G} {A : Nat → Prop} {a : Nat → Nat} {b : Nat → ClassId} {V : LL} (C : CX p s m c args cX1_undo 2 RX1 A D (tB b)) (hr : meth.sig.returnType = (some .int)) (hlocks : meth.locks = false) {S : SS} (rg : RZ S) (o : Int32 × SS × LL) : ∀ (d : Nat) (v : Int32) (H : Heap) (locs : List Loc) (ls : Array Slot), v = nI d - 1 → d ≤ 32 → uzO S V d = o → PB D A a b S V s.heap H locs → lv_has ls 2 [(0, .ref (a 0)), (1, .int v)] → W p l e ({ frames := 0, cells := 0, slots := 0, locals := 0 }) s m args below meth c H locs 0 0 (QBi D a b A o below args s) (F0 m 7 ls []) := by
  have hx := C.1
  have hb := C.2.1
  intro d
  induction d with
  | zero =>
    intro v H locs ls hv hd hT P hl
    subst hv
    refine lv_iload_n hx hb dX1_undo_7 rfl (lv_at hl 1 rfl) ?_
    refine lv_if_lt (tgt := 35) hx hb dX1_undo_8 (by decide) (fun c1 => ?_) (fun c1 => absurd (by decide) c1)
    refine lv_bipush (v := (-4)) hx hb dX1_undo_35 (by decide) ?_
    exact rB_i C hr hlocks P (by rw [← hT]; rfl) dX1_undo_37
  | succ d ih =>
    intro v H locs ls hv hd hT P hl
    rw [nI_pred] at hv
    subst hv
    refine lv_iload_n hx hb dX1_undo_7 rfl (lv_at hl 1 rfl) ?_
    refine lv_if_lt (tgt := 35) hx hb dX1_undo_8 (by decide) (fun c1 => absurd c1 (nI_pos (by omega))) (fun c1 => ?_)
    refine lv_aload_n hx hb dX1_undo_11 rfl (lv_at hl 0 rfl) ?_
    refine gB_on C P dX1_undo_12 ?_
    refine lv_iload_n hx hb dX1_undo_15 rfl (lv_at hl 1 rfl) ?_
    refine lB_on (v := (S 5 (ix (nI d)))) C P (vin_n (by omega) (by decide)) rfl dX1_undo_16 ?_
    refine lv_if_eq (tgt := 29) hx hb dX1_undo_17 (by decide) (fun c2 => ?_) (fun c2 => ?_)
    · refine lv_iinc (v := ((nI d) + (-1))) (lv' := [(1, .int ((nI d) + (-1))), (0, .ref (a 0))]) hx hb dX1_undo_29 hl (k := 1) rfl rfl (by decide) rfl (fun ls hl => ?_)
      refine lv_goto (tgt := 7) hx hb dX1_undo_32 (by decide) ?_
      exact ih _ H locs ls (nI_m1 d) (by omega) (by rw [← hT, uzO, if_pos c2]) P (lv_sub hl [1, 0] rfl)
    · refine lv_aload_n hx hb dX1_undo_20 rfl (lv_at hl 0 rfl) ?_
      refine gB_on C P dX1_undo_21 ?_
      refine lv_iload_n hx hb dX1_undo_24 rfl (lv_at hl 1 rfl) ?_
      refine lv_iconst (v := 0) hx hb dX1_undo_25 (by decide) ?_
      refine sB_on C P (vin_n (by omega) (by decide)) (by decide) dX1_undo_26 (fun H locs P => ?_)
      have rg3 : RZ (up2 S 5 (ix (nI d)) 0) := RZ_5 rg
      refine lv_iload_n hx hb dX1_undo_27 rfl (lv_at hl 1 rfl) ?_
      exact rB_i C hr hlocks P (by rw [← hT, uzO, if_neg c2]) dX1_undo_28

set_option maxHeartbeats 4000000 in
set_option maxRecDepth 100000 in
theorem mB_undo (l : Launch) (D : va_G) (a : Nat → Nat) (b : Nat → ClassId) {S : SS} {V : LL} (rg : RZ S) : MBi l D a b yX1_undo cX1_undo 2 .int { frames := 0, cells := 0, slots := 0, locals := 0 } [] S V (uzO S V (ix (S 0 6))) := by
  refine MBi.of (by decide) rfl (Nat.le_of_ble_eq_true rfl) ?_
  intro p e s m below meth c A ls C hr hlocks P hl
  have hx := C.1
  have hb := C.2.1
  have hl : lv_has ls 2 [(0, .ref (a 0))] := hl
  refine lv_aload_n hx hb dX1_undo_0 rfl (lv_at hl 0 rfl) ?_
  refine gB_count (v := (S 0 6)) C P rfl dX1_undo_1 ?_
  refine lv_iconst (v := 1) hx hb dX1_undo_4 (by decide) ?_
  refine lv_isub hx hb dX1_undo_5 ?_
  refine lv_istore_n (lv' := [(1, .int ((S 0 6) - 1)), (0, .ref (a 0))]) hx hb dX1_undo_6 rfl hl (by decide) rfl (fun ls hl => ?_)
  exact lpB_undo C hr hlocks rg _ (ix (S 0 6)) _ _ _ _ (by rw [nI_ix (vin_nn (rzN rg))]) (Nat.le_of_lt_succ (ix_lt (rzN rg))) rfl P (lv_sub hl [1, 0] rfl)

set_option maxHeartbeats 4000000 in
set_option maxRecDepth 100000 in
theorem lpB_redo {p : Program} {l : Launch} {e : Env} {s : State} {m : MethodId} {args : Array Value} {below : List Frame} {meth : Method} {c : Code} {D : va_G} {A : Nat → Prop} {a : Nat → Nat} {b : Nat → ClassId} {V : LL} (C : CX p s m c args cX1_redo 2 RX1 A D (tB b)) (hr : meth.sig.returnType = (some .int)) (hlocks : meth.locks = false) {S : SS} (rg : RZ S) (N : Nat) (hN : S 0 6 = nI N) (hN32 : N ≤ 32) (o : Int32 × SS × LL) : ∀ (d k : Nat) (H : Heap) (locs : List Loc) (ls : Array Slot), k + d = N → rzO S V d k = o → PB D A a b S V s.heap H locs → lv_has ls 2 [(0, .ref (a 0)), (1, .int (nI k))] → W p l e ({ frames := 0, cells := 0, slots := 0, locals := 0 }) s m args below meth c H locs 0 0 (QBi D a b A o below args s) (F0 m 2 ls []) := by
  have hx := C.1
  have hb := C.2.1
  intro d
  induction d with
  | zero =>
    intro k H locs ls hd hT P hl
    refine lv_iload_n hx hb dX1_redo_2 rfl (lv_at hl 1 rfl) ?_
    refine lv_aload_n hx hb dX1_redo_3 rfl (lv_at hl 0 rfl) ?_
    refine gB_count (v := (S 0 6)) C P rfl dX1_redo_4 ?_
    refine lv_icmp_ge (tgt := 34) hx hb dX1_redo_7 (by decide) (fun c1 => ?_) (fun c1 => absurd (by rw [hN]; exact nI_le (by omega) (by omega)) c1)
    refine lv_bipush (v := (-4)) hx hb dX1_redo_34 (by decide) ?_
    exact rB_i C hr hlocks P (by rw [← hT]; rfl) dX1_redo_36
  | succ d ih =>
    intro k H locs ls hd hT P hl
    refine lv_iload_n hx hb dX1_redo_2 rfl (lv_at hl 1 rfl) ?_
    refine lv_aload_n hx hb dX1_redo_3 rfl (lv_at hl 0 rfl) ?_
    refine gB_count (v := (S 0 6)) C P rfl dX1_redo_4 ?_
    refine lv_icmp_ge (tgt := 34) hx hb dX1_redo_7 (by decide) (fun c1 => absurd c1 (by rw [hN]; exact nI_ge (by omega) (by omega))) (fun c1 => ?_)
    refine lv_aload_n hx hb dX1_redo_10 rfl (lv_at hl 0 rfl) ?_
    refine gB_on C P dX1_redo_11 ?_
    refine lv_iload_n hx hb dX1_redo_14 rfl (lv_at hl 1 rfl) ?_
    refine lB_on (v := (S 5 (ix (nI k)))) C P (vin_n (by omega) (by decide)) rfl dX1_redo_15 ?_
    refine lv_if_ne (tgt := 28) hx hb dX1_redo_16 (by decide) (fun c2 => ?_) (fun c2 => ?_)
    · refine lv_iinc (v := (nI (k + 1))) (lv' := [(1, .int (nI (k + 1))), (0, .ref (a 0))]) hx hb dX1_redo_28 hl (k := 1) rfl (nI_1 k) (by decide) rfl (fun ls hl => ?_)
      refine lv_goto (tgt := 2) hx hb dX1_redo_31 (by decide) ?_
      exact ih (k + 1) H locs ls (by omega) (by rw [← hT, rzO, if_neg c2]) P (lv_sub hl [1, 0] rfl)
    · refine lv_aload_n hx hb dX1_redo_19 rfl (lv_at hl 0 rfl) ?_
      refine gB_on C P dX1_redo_20 ?_
      refine lv_iload_n hx hb dX1_redo_23 rfl (lv_at hl 1 rfl) ?_
      refine lv_iconst (v := 1) hx hb dX1_redo_24 (by decide) ?_
      refine sB_on C P (vin_n (by omega) (by decide)) (by decide) dX1_redo_25 (fun H locs P => ?_)
      have rg3 : RZ (up2 S 5 (ix (nI k)) 1) := RZ_5 rg
      refine lv_iload_n hx hb dX1_redo_26 rfl (lv_at hl 1 rfl) ?_
      exact rB_i C hr hlocks P (by rw [← hT, rzO, if_pos c2]) dX1_redo_27

set_option maxHeartbeats 4000000 in
set_option maxRecDepth 100000 in
theorem mB_redo (l : Launch) (D : va_G) (a : Nat → Nat) (b : Nat → ClassId) {S : SS} {V : LL} (rg : RZ S) : MBi l D a b yX1_redo cX1_redo 2 .int { frames := 0, cells := 0, slots := 0, locals := 0 } [] S V (rzO S V (ix (S 0 6)) 0) := by
  refine MBi.of (by decide) rfl (Nat.le_of_ble_eq_true rfl) ?_
  intro p e s m below meth c A ls C hr hlocks P hl
  have hx := C.1
  have hb := C.2.1
  have hl : lv_has ls 2 [(0, .ref (a 0))] := hl
  refine lv_iconst (v := (nI 0)) hx hb dX1_redo_0 (by decide) ?_
  refine lv_istore_n (lv' := [(1, .int (nI 0)), (0, .ref (a 0))]) hx hb dX1_redo_1 rfl hl (by decide) rfl (fun ls hl => ?_)
  exact lpB_redo C hr hlocks rg (ix (S 0 6)) (nI_ix (vin_nn (rzN rg))).symm (Nat.le_of_lt_succ (ix_lt (rzN rg))) _ (ix (S 0 6)) 0 _ _ _ (by omega) rfl P (lv_sub hl [1, 0] rfl)

set_option maxHeartbeats 4000000 in
set_option maxRecDepth 100000 in
theorem lpB_flip {p : Program} {l : Launch} {e : Env} {s : State} {m : MethodId} {args : Array Value} {below : List Frame} {meth : Method} {c : Code} {D : va_G} {A : Nat → Prop} {a : Nat → Nat} {b : Nat → ClassId} {V : LL} (C : CX p s m c args cX1_flip 5 RX1 A D (tB b)) (hr : meth.sig.returnType = (some .int)) (hlocks : meth.locks = false) (i j : Int32) (o : Int32 × SS × LL) (J : Nat) (hj : j = nI J) (hJ : J < 32) : ∀ (d k : Nat) (S : SS) (n v : Int32) (H : Heap) (locs : List Loc) (ls : Array Slot), v = nI k → k + d = J + 1 → RZ S → fzL d S V k n = o → PB D A a b S V s.heap H locs → lv_has ls 5 [(0, .ref (a 0)), (1, .int i), (2, .int j), (3, .int n), (4, .int v)] → W p l e ({ frames := 0, cells := 0, slots := 0, locals := 0 }) s m args below meth c H locs 0 0 (QBi D a b A o below args s) (F0 m 24 ls []) := by
  have hx := C.1
  have hb := C.2.1
  intro d
  induction d with
  | zero =>
    intro k S n v H locs ls hv hk rg hT P hl
    subst hv
    refine lv_iload hx hb dX1_flip_24 (lv_at hl 4 rfl) ?_
    refine lv_iload_n hx hb dX1_flip_26 rfl (lv_at hl 2 rfl) ?_
    refine lv_icmp_gt (tgt := 76) hx hb dX1_flip_27 (by decide) (fun c1 => ?_) (fun c1 => absurd (by rw [hj]; exact nI_lt (by omega) (by omega)) c1)
    refine lv_iload_n hx hb dX1_flip_76 rfl (lv_at hl 3 rfl) ?_
    exact rB_i C hr hlocks P (by rw [← hT]; rfl) dX1_flip_77
  | succ d ih =>
    intro k S n v H locs ls hv hk rg hT P hl
    subst hv
    refine lv_iload hx hb dX1_flip_24 (lv_at hl 4 rfl) ?_
    refine lv_iload_n hx hb dX1_flip_26 rfl (lv_at hl 2 rfl) ?_
    refine lv_icmp_gt (tgt := 76) hx hb dX1_flip_27 (by decide) (fun c1 => absurd c1 (by rw [hj]; exact nI_nlt (by omega) (by omega))) (fun c1 => ?_)
    refine lv_aload_n hx hb dX1_flip_30 rfl (lv_at hl 0 rfl) ?_
    refine gB_on C P dX1_flip_31 ?_
    refine lv_iload hx hb dX1_flip_34 (lv_at hl 4 rfl) ?_
    refine lv_aload_n hx hb dX1_flip_36 rfl (lv_at hl 0 rfl) ?_
    refine gB_on C P dX1_flip_37 ?_
    refine lv_iload hx hb dX1_flip_40 (lv_at hl 4 rfl) ?_
    refine lB_on (v := (S 5 (ix (nI k)))) C P (vin_n (by omega) (by decide)) rfl dX1_flip_42 ?_
    refine lv_if_ne (tgt := 50) hx hb dX1_flip_43 (by decide) (fun c2 => ?_) (fun c2 => ?_)
    · refine lv_iconst (v := 0) hx hb dX1_flip_50 (by decide) ?_
      refine sB_on C P (vin_n (by omega) (by decide)) (by decide) dX1_flip_51 (fun H locs P => ?_)
      have rg3 : RZ (up2 S 5 (ix (nI k)) 0) := RZ_5 rg
      refine lv_aload_n hx hb dX1_flip_52 rfl (lv_at hl 0 rfl) ?_
      refine gB_on C P dX1_flip_53 ?_
      refine lv_iload hx hb dX1_flip_56 (lv_at hl 4 rfl) ?_
      refine lB_on (v := ((up2 S 5 (ix (nI k)) 0) 5 (ix (nI k)))) C P (vin_n (by omega) (by decide)) rfl dX1_flip_58 ?_
      refine lv_if_eq (tgt := 68) hx hb dX1_flip_59 (by decide) (fun c4 => ?_) (fun c4 => ?_)
      · refine lv_iload_n hx hb dX1_flip_68 rfl (lv_at hl 3 rfl) ?_
        refine lv_istore_n (lv' := [(3, .int n), (0, .ref (a 0)), (1, .int i), (2, .int j), (4, .int (nI k))]) hx hb dX1_flip_69 rfl hl (by decide) rfl (fun ls hl => ?_)
        refine lv_iinc (v := (nI (k + 1))) (lv' := [(4, .int (nI (k + 1))), (3, .int n), (0, .ref (a 0)), (1, .int i), (2, .int j)]) hx hb dX1_flip_70 hl (k := 4) rfl (nI_1 k) (by decide) rfl (fun ls hl => ?_)
        refine lv_goto (tgt := 24) hx hb dX1_flip_73 (by decide) ?_
        exact ih (k + 1) (up2 S 5 (ix (nI k)) 0) n _ H locs ls rfl (by omega) rg3 (by rw [← hT, fzL]; simp [tgZ, c2, c4]) P (lv_sub hl [2, 3, 4, 1, 0] rfl)
      · refine lv_iload_n hx hb dX1_flip_62 rfl (lv_at hl 3 rfl) ?_
        refine lv_iconst (v := 1) hx hb dX1_flip_63 (by decide) ?_
        refine lv_iadd hx hb dX1_flip_64 ?_
        refine lv_goto (tgt := 69) hx hb dX1_flip_65 (by decide) ?_
        refine lv_istore_n (lv' := [(3, .int (n + 1)), (0, .ref (a 0)), (1, .int i), (2, .int j), (4, .int (nI k))]) hx hb dX1_flip_69 rfl hl (by decide) rfl (fun ls hl => ?_)
        refine lv_iinc (v := (nI (k + 1))) (lv' := [(4, .int (nI (k + 1))), (3, .int (n + 1)), (0, .ref (a 0)), (1, .int i), (2, .int j)]) hx hb dX1_flip_70 hl (k := 4) rfl (nI_1 k) (by decide) rfl (fun ls hl => ?_)
        refine lv_goto (tgt := 24) hx hb dX1_flip_73 (by decide) ?_
        exact ih (k + 1) (up2 S 5 (ix (nI k)) 0) (n + 1) _ H locs ls rfl (by omega) rg3 (by rw [← hT, fzL]; simp [tgZ, c2, c4]) P (lv_sub hl [2, 3, 4, 1, 0] rfl)
    · refine lv_iconst (v := 1) hx hb dX1_flip_46 (by decide) ?_
      refine lv_goto (tgt := 51) hx hb dX1_flip_47 (by decide) ?_
      refine sB_on C P (vin_n (by omega) (by decide)) (by decide) dX1_flip_51 (fun H locs P => ?_)
      have rg5 : RZ (up2 S 5 (ix (nI k)) 1) := RZ_5 rg
      refine lv_aload_n hx hb dX1_flip_52 rfl (lv_at hl 0 rfl) ?_
      refine gB_on C P dX1_flip_53 ?_
      refine lv_iload hx hb dX1_flip_56 (lv_at hl 4 rfl) ?_
      refine lB_on (v := ((up2 S 5 (ix (nI k)) 1) 5 (ix (nI k)))) C P (vin_n (by omega) (by decide)) rfl dX1_flip_58 ?_
      refine lv_if_eq (tgt := 68) hx hb dX1_flip_59 (by decide) (fun c6 => ?_) (fun c6 => ?_)
      · refine lv_iload_n hx hb dX1_flip_68 rfl (lv_at hl 3 rfl) ?_
        refine lv_istore_n (lv' := [(3, .int n), (0, .ref (a 0)), (1, .int i), (2, .int j), (4, .int (nI k))]) hx hb dX1_flip_69 rfl hl (by decide) rfl (fun ls hl => ?_)
        refine lv_iinc (v := (nI (k + 1))) (lv' := [(4, .int (nI (k + 1))), (3, .int n), (0, .ref (a 0)), (1, .int i), (2, .int j)]) hx hb dX1_flip_70 hl (k := 4) rfl (nI_1 k) (by decide) rfl (fun ls hl => ?_)
        refine lv_goto (tgt := 24) hx hb dX1_flip_73 (by decide) ?_
        exact ih (k + 1) (up2 S 5 (ix (nI k)) 1) n _ H locs ls rfl (by omega) rg5 (by rw [← hT, fzL]; simp [tgZ, c2, c6]) P (lv_sub hl [2, 3, 4, 1, 0] rfl)
      · refine lv_iload_n hx hb dX1_flip_62 rfl (lv_at hl 3 rfl) ?_
        refine lv_iconst (v := 1) hx hb dX1_flip_63 (by decide) ?_
        refine lv_iadd hx hb dX1_flip_64 ?_
        refine lv_goto (tgt := 69) hx hb dX1_flip_65 (by decide) ?_
        refine lv_istore_n (lv' := [(3, .int (n + 1)), (0, .ref (a 0)), (1, .int i), (2, .int j), (4, .int (nI k))]) hx hb dX1_flip_69 rfl hl (by decide) rfl (fun ls hl => ?_)
        refine lv_iinc (v := (nI (k + 1))) (lv' := [(4, .int (nI (k + 1))), (3, .int (n + 1)), (0, .ref (a 0)), (1, .int i), (2, .int j)]) hx hb dX1_flip_70 hl (k := 4) rfl (nI_1 k) (by decide) rfl (fun ls hl => ?_)
        refine lv_goto (tgt := 24) hx hb dX1_flip_73 (by decide) ?_
        exact ih (k + 1) (up2 S 5 (ix (nI k)) 1) (n + 1) _ H locs ls rfl (by omega) rg5 (by rw [← hT, fzL]; simp [tgZ, c2, c6]) P (lv_sub hl [2, 3, 4, 1, 0] rfl)

set_option maxHeartbeats 4000000 in
set_option maxRecDepth 100000 in
theorem mB_flip (l : Launch) (D : va_G) (a : Nat → Nat) (b : Nat → ClassId) {S : SS} {V : LL} {i j : Int32} (rg : RZ S) : MBi l D a b yX1_flip cX1_flip 5 .int { frames := 0, cells := 0, slots := 0, locals := 0 } [.int i, .int j] S V (fzO S V i j) := by
  refine MBi.of (by decide) rfl (Nat.le_of_ble_eq_true rfl) ?_
  intro p e s m below meth c A ls C hr hlocks P hl
  have hx := C.1
  have hb := C.2.1
  have hl : lv_has ls 5 [(0, .ref (a 0)), (1, .int i), (2, .int j)] := hl
  refine lv_iload_n hx hb dX1_flip_0 rfl (lv_at hl 1 rfl) ?_
  refine lv_if_lt (tgt := 17) hx hb dX1_flip_1 (by decide) (fun c1 => ?_) (fun c1 => ?_)
  · refine lv_iconst (v := (-1)) hx hb dX1_flip_17 (by decide) ?_
    exact rB_i C hr hlocks P (by simp [fzO, c1]) dX1_flip_18
  · refine lv_iload_n hx hb dX1_flip_4 rfl (lv_at hl 2 rfl) ?_
    refine lv_iload_n hx hb dX1_flip_5 rfl (lv_at hl 1 rfl) ?_
    refine lv_icmp_lt (tgt := 17) hx hb dX1_flip_6 (by decide) (fun c2 => ?_) (fun c2 => ?_)
    · refine lv_iconst (v := (-1)) hx hb dX1_flip_17 (by decide) ?_
      exact rB_i C hr hlocks P (by simp [fzO, c1, c2]) dX1_flip_18
    · refine lv_iload_n hx hb dX1_flip_9 rfl (lv_at hl 2 rfl) ?_
      refine lv_aload_n hx hb dX1_flip_10 rfl (lv_at hl 0 rfl) ?_
      refine gB_count (v := (S 0 6)) C P rfl dX1_flip_11 ?_
      refine lv_icmp_lt (tgt := 19) hx hb dX1_flip_14 (by decide) (fun c3 => ?_) (fun c3 => ?_)
      · refine lv_iconst (v := 0) hx hb dX1_flip_19 (by decide) ?_
        refine lv_istore_n (lv' := [(3, .int 0), (0, .ref (a 0)), (1, .int i), (2, .int j)]) hx hb dX1_flip_20 rfl hl (by decide) rfl (fun ls hl => ?_)
        refine lv_iload_n hx hb dX1_flip_21 rfl (lv_at hl 2 rfl) ?_
        refine lv_istore (lv' := [(4, .int i), (3, .int 0), (0, .ref (a 0)), (1, .int i), (2, .int j)]) hx hb dX1_flip_22 hl (by decide) rfl (fun ls hl => ?_)
        have hj0 : ¬ j < 0 := fun z => c2 (Int32.lt_of_lt_of_le z (by simpa using c1))
        have hJ : ix j < 32 := by have := ix_lt_of hj0 c3; have := ix_lt (rzN rg); omega
        exact lpB_flip C hr hlocks i j _ (ix j) (nI_ix hj0).symm hJ (ix j + 1 - ix i) (ix i) S _ _ _ _ _ (nI_ix c1).symm (by have := ix_le_of c2; omega) rg (by rw [fzO, if_neg c1, if_neg c2, if_pos c3]) P (lv_sub hl [2, 3, 4, 1, 0] rfl)
      · refine lv_iconst (v := (-1)) hx hb dX1_flip_17 (by decide) ?_
        exact rB_i C hr hlocks P (by simp [fzO, c1, c2, c3]) dX1_flip_18

set_option maxHeartbeats 4000000 in
set_option maxRecDepth 100000 in
theorem mB_changes (l : Launch) (D : va_G) (a : Nat → Nat) (b : Nat → ClassId) {S : SS} {V : LL}  : MBi l D a b yX1_changes cX1_changes 1 .int { frames := 0, cells := 0, slots := 0, locals := 0 } [] S V (S 0 6, S, V) := by
  refine MBi.of (by decide) rfl (Nat.le_of_ble_eq_true rfl) ?_
  intro p e s m below meth c A ls C hr hlocks P hl
  have hx := C.1
  have hb := C.2.1
  have hl : lv_has ls 1 [(0, .ref (a 0))] := hl
  refine lv_aload_n hx hb dX1_changes_0 rfl (lv_at hl 0 rfl) ?_
  refine gB_count (v := (S 0 6)) C P rfl dX1_changes_1 ?_
  exact rB_i C hr hlocks P (rfl) dX1_changes_4

set_option maxHeartbeats 4000000 in
set_option maxRecDepth 100000 in
theorem mB_isOn (l : Launch) (D : va_G) (a : Nat → Nat) (b : Nat → ClassId) {S : SS} {V : LL} {k : Int32} (rg : RZ S) : MBi l D a b yX1_isOn cX1_isOn 2 .boolean { frames := 1, cells := 0, slots := 0, locals := 21 } [.int k] S V (izF S k, S, V) := by
  refine MBi.of (by decide) rfl (Nat.le_of_ble_eq_true rfl) ?_
  intro p e s m below meth c A ls C hr hlocks P hl
  have hx := C.1
  have hb := C.2.1
  have hl : lv_has ls 2 [(0, .ref (a 0)), (1, .int k)] := hl
  refine lv_aload_n hx hb dX1_isOn_0 rfl (lv_at hl 0 rfl) ?_
  refine lv_iload_n hx hb dX1_isOn_1 rfl (lv_at hl 1 rfl) ?_
  refine cB_i (rest := []) C P 1 (mB_isChange l D a b) (lw_V q245 q247 qs15 q18 q248) rfl rfl (by decide +kernel) ⟨Nat.le_of_ble_eq_true rfl, Nat.le_of_ble_eq_true rfl⟩ rfl hl.1 rfl (Nat.le_of_ble_eq_true rfl) dX1_isOn_2 (fun H locs P => ?_)
  refine lv_if_eq (tgt := 21) hx hb dX1_isOn_5 (by decide) (fun c1 => ?_) (fun c1 => ?_)
  · refine lv_iconst (v := 0) hx hb dX1_isOn_21 (by decide) ?_
    exact rB_z C hr hlocks P (by decide) (by simp [izF, c1]) dX1_isOn_22
  · refine lv_aload_n hx hb dX1_isOn_8 rfl (lv_at hl 0 rfl) ?_
    refine gB_on C P dX1_isOn_9 ?_
    refine lv_iload_n hx hb dX1_isOn_12 rfl (lv_at hl 1 rfl) ?_
    refine lB_on (v := (S 5 (ix k))) C P (ic_in rg c1) rfl dX1_isOn_13 ?_
    refine lv_if_eq (tgt := 21) hx hb dX1_isOn_14 (by decide) (fun c2 => ?_) (fun c2 => ?_)
    · refine lv_iconst (v := 0) hx hb dX1_isOn_21 (by decide) ?_
      exact rB_z C hr hlocks P (by decide) (by simp [izF, c1, c2]) dX1_isOn_22
    · refine lv_iconst (v := 1) hx hb dX1_isOn_17 (by decide) ?_
      refine lv_goto (tgt := 22) hx hb dX1_isOn_18 (by decide) ?_
      exact rB_z C hr hlocks P (by decide) (by simp [izF, c1, c2]) dX1_isOn_22

set_option maxHeartbeats 4000000 in
set_option maxRecDepth 100000 in
theorem mB_letter (l : Launch) (D : va_G) (a : Nat → Nat) (b : Nat → ClassId) {S : SS} {V : LL} {k : Int32} (rg : RZ S) : MBi l D a b yX1_letter cX1_letter 3 .int { frames := 3, cells := 0, slots := 0, locals := 67 } [.int k] S V (lzF S k, S, V) := by
  refine MBi.of (by decide) rfl (Nat.le_of_ble_eq_true rfl) ?_
  intro p e s m below meth c A ls C hr hlocks P hl
  have hx := C.1
  have hb := C.2.1
  have hl : lv_has ls 3 [(0, .ref (a 0)), (1, .int k)] := hl
  refine lv_aload_n hx hb dX1_letter_0 rfl (lv_at hl 0 rfl) ?_
  refine lv_iload_n hx hb dX1_letter_1 rfl (lv_at hl 1 rfl) ?_
  refine cB_i (rest := []) C P 1 (mB_charAt (q := k) l D a b rg) (lw_V q233 q235 qs14 q18 q236) rfl rfl (by decide +kernel) ⟨Nat.le_of_ble_eq_true rfl, Nat.le_of_ble_eq_true rfl⟩ rfl hl.1 rfl (Nat.le_of_ble_eq_true rfl) dX1_letter_2 (fun H locs P => ?_)
  refine lv_istore_n (lv' := [(2, .int (caF S k)), (0, .ref (a 0)), (1, .int k)]) hx hb dX1_letter_5 rfl hl (by decide) rfl (fun ls hl => ?_)
  refine lv_iload_n hx hb dX1_letter_6 rfl (lv_at hl 0 rfl) ?_
  refine lv_if_ge (tgt := 15) hx hb dX1_letter_7 (by decide) (fun c1 => ?_) (fun c1 => ?_)
  · refine lv_aload_n hx hb dX1_letter_15 rfl (lv_at hl 1 rfl) ?_
    refine gB_letters C P dX1_letter_16 ?_
    refine lv_iload_n hx hb dX1_letter_19 rfl (lv_at hl 0 rfl) ?_
    refine lB_letters (v := (S 3 (ix (caF S k)))) C P (ca_in rg c1) rfl dX1_letter_20 ?_
    exact rB_i C hr hlocks P (by simp [lzF, c1]) dX1_letter_21
  · refine lv_bipush (v := (-4)) hx hb dX1_letter_10 (by decide) ?_
    refine lv_goto (tgt := 21) hx hb dX1_letter_12 (by decide) ?_
    exact rB_i C hr hlocks P (by simp [lzF, c1]) dX1_letter_21

set_option maxHeartbeats 4000000 in
set_option maxRecDepth 100000 in
theorem mB_origin (l : Launch) (D : va_G) (a : Nat → Nat) (b : Nat → ClassId) {S : SS} {V : LL} {k : Int32} (rg : RZ S) : MBi l D a b yX1_origin cX1_origin 2 .int { frames := 3, cells := 0, slots := 0, locals := 67 } [.int k] S V (caF S k, S, V) := by
  refine MBi.of (by decide) rfl (Nat.le_of_ble_eq_true rfl) ?_
  intro p e s m below meth c A ls C hr hlocks P hl
  have hx := C.1
  have hb := C.2.1
  have hl : lv_has ls 2 [(0, .ref (a 0)), (1, .int k)] := hl
  refine lv_aload_n hx hb dX1_origin_0 rfl (lv_at hl 0 rfl) ?_
  refine lv_iload_n hx hb dX1_origin_1 rfl (lv_at hl 1 rfl) ?_
  refine cB_i (rest := []) C P 1 (mB_charAt (q := k) l D a b rg) (lw_V q233 q235 qs14 q18 q236) rfl rfl (by decide +kernel) ⟨Nat.le_of_ble_eq_true rfl, Nat.le_of_ble_eq_true rfl⟩ rfl hl.1 rfl (Nat.le_of_ble_eq_true rfl) dX1_origin_2 (fun H locs P => ?_)
  exact rB_i C hr hlocks P (rfl) dX1_origin_5

set_option maxHeartbeats 4000000 in
set_option maxRecDepth 100000 in
theorem lpB_where {p : Program} {l : Launch} {e : Env} {s : State} {m : MethodId} {args : Array Value} {below : List Frame} {meth : Method} {c : Code} {D : va_G} {A : Nat → Prop} {a : Nat → Nat} {b : Nat → ClassId} {V : LL} (C : CX p s m c args cX1_where 4 RX1 A D (tB b)) (hr : meth.sig.returnType = (some .int)) (hlocks : meth.locks = false) {S : SS} (rg : RZ S) (k r : Int32) : ∀ (d q : Nat) (H : Heap) (locs : List Loc) (ls : Array Slot), q + d = 32 → wzL d S k q = r → PB D A a b S V s.heap H locs → lv_has ls 4 [(0, .ref (a 0)), (1, .int k), (2, .int (nI q))] → W p l e ({ frames := 3, cells := 0, slots := 0, locals := 67 }) s m args below meth c H locs 0 0 (QBi D a b A (r, S, V) below args s) (F0 m 2 ls []) := by
  have hx := C.1
  have hb := C.2.1
  intro d
  induction d with
  | zero =>
    intro q H locs ls hd hT P hl
    have hd : q = 32 := by omega
    subst hd
    refine lv_iload_n hx hb dX1_where_2 rfl (lv_at hl 2 rfl) ?_
    refine lv_bipush (v := (nI 32)) hx hb dX1_where_3 (by decide) ?_
    refine lv_icmp_ge (tgt := 31) hx hb dX1_where_5 (by decide) (fun c1 => ?_) (fun c1 => absurd (nI_le (Nat.le_refl 32) (by decide)) c1)
    refine lv_bipush (v := (-4)) hx hb dX1_where_31 (by decide) ?_
    exact rB_i C hr hlocks P (by rw [← hT]; rfl) dX1_where_33
  | succ d ih =>
    intro q H locs ls hd hT P hl
    refine lv_iload_n hx hb dX1_where_2 rfl (lv_at hl 2 rfl) ?_
    refine lv_bipush (v := (nI 32)) hx hb dX1_where_3 (by decide) ?_
    refine lv_icmp_ge (tgt := 31) hx hb dX1_where_5 (by decide) (fun c1 => absurd c1 (nI_ge (a := q) (b := 32) (by omega) (by decide))) (fun c1 => ?_)
    refine lv_aload_n hx hb dX1_where_8 rfl (lv_at hl 0 rfl) ?_
    refine lv_iload_n hx hb dX1_where_9 rfl (lv_at hl 2 rfl) ?_
    refine cB_i (rest := []) C P 1 (mB_charAt (q := (nI q)) l D a b rg) (lw_V q233 q235 qs14 q18 q236) rfl rfl (by decide +kernel) ⟨Nat.le_of_ble_eq_true rfl, Nat.le_of_ble_eq_true rfl⟩ rfl hl.1 rfl (Nat.le_of_ble_eq_true rfl) dX1_where_10 (fun H locs P => ?_)
    refine lv_istore_n (lv' := [(3, .int (caF S (nI q))), (0, .ref (a 0)), (1, .int k), (2, .int (nI q))]) hx hb dX1_where_13 rfl hl (by decide) rfl (fun ls hl => ?_)
    refine lv_iload_n hx hb dX1_where_14 rfl (lv_at hl 0 rfl) ?_
    refine lv_iload_n hx hb dX1_where_15 rfl (lv_at hl 2 rfl) ?_
    refine lv_icmp_ne (tgt := 25) hx hb dX1_where_16 (by decide) (fun c2 => ?_) (fun c2 => ?_)
    · refine lv_iinc (v := (nI (q + 1))) (lv' := [(2, .int (nI (q + 1))), (3, .int (caF S (nI q))), (0, .ref (a 0)), (1, .int k)]) hx hb dX1_where_25 hl (k := 3) rfl (nI_1 q) (by decide) rfl (fun ls hl => ?_)
      refine lv_goto (tgt := 2) hx hb dX1_where_28 (by decide) ?_
      exact ih (q + 1) H locs ls (by omega) (by rw [← hT, wzL, if_neg (fun z => c2 z.1)]) P (lv_sub hl [2, 3, 0] rfl)
    · refine lv_iload_n hx hb dX1_where_19 rfl (lv_at hl 0 rfl) ?_
      refine lv_if_lt (tgt := 25) hx hb dX1_where_20 (by decide) (fun c3 => ?_) (fun c3 => ?_)
      · refine lv_iinc (v := (nI (q + 1))) (lv' := [(2, .int (nI (q + 1))), (3, .int (caF S (nI q))), (0, .ref (a 0)), (1, .int k)]) hx hb dX1_where_25 hl (k := 3) rfl (nI_1 q) (by decide) rfl (fun ls hl => ?_)
        refine lv_goto (tgt := 2) hx hb dX1_where_28 (by decide) ?_
        exact ih (q + 1) H locs ls (by omega) (by rw [← hT, wzL, if_neg (fun z => z.2 c3)]) P (lv_sub hl [2, 3, 0] rfl)
      · refine lv_iload_n hx hb dX1_where_23 rfl (lv_at hl 3 rfl) ?_
        exact rB_i C hr hlocks P (by rw [← hT, wzL, if_pos ⟨c2, c3⟩]) dX1_where_24

set_option maxHeartbeats 4000000 in
set_option maxRecDepth 100000 in
theorem mB_where (l : Launch) (D : va_G) (a : Nat → Nat) (b : Nat → ClassId) {S : SS} {V : LL} {k : Int32} (rg : RZ S) : MBi l D a b yX1_where cX1_where 4 .int { frames := 3, cells := 0, slots := 0, locals := 67 } [.int k] S V (wzL 32 S k 0, S, V) := by
  refine MBi.of (by decide) rfl (Nat.le_of_ble_eq_true rfl) ?_
  intro p e s m below meth c A ls C hr hlocks P hl
  have hx := C.1
  have hb := C.2.1
  have hl : lv_has ls 4 [(0, .ref (a 0)), (1, .int k)] := hl
  refine lv_iconst (v := (nI 0)) hx hb dX1_where_0 (by decide) ?_
  refine lv_istore_n (lv' := [(2, .int (nI 0)), (0, .ref (a 0)), (1, .int k)]) hx hb dX1_where_1 rfl hl (by decide) rfl (fun ls hl => ?_)
  exact lpB_where C hr hlocks rg k _ 32 0 _ _ _ rfl rfl P (lv_sub hl [1, 2, 0] rfl)

set_option maxHeartbeats 4000000 in
set_option maxRecDepth 100000 in
theorem lpB_covers {p : Program} {l : Launch} {e : Env} {s : State} {m : MethodId} {args : Array Value} {below : List Frame} {meth : Method} {c : Code} {D : va_G} {A : Nat → Prop} {a : Nat → Nat} {b : Nat → ClassId} {V : LL} (C : CX p s m c args cX1_covers 4 RX1 A D (tB b)) (hr : meth.sig.returnType = (some .int)) (hlocks : meth.locks = false) {S : SS} (rg : RZ S) (k : Int32) (hk : vp_in k 32) (r : Int32) : ∀ (d x : Nat) (n : Int32) (H : Heap) (locs : List Loc) (ls : Array Slot), x + d = 32 → czL d (S 4 (ix k)) x n = r → PB D A a b S V s.heap H locs → lv_has ls 4 [(0, .ref (a 0)), (1, .int k), (2, .int n), (3, .int (nI x))] → W p l e ({ frames := 1, cells := 0, slots := 0, locals := 21 }) s m args below meth c H locs 0 0 (QBi D a b A (r, S, V) below args s) (F0 m 14 ls []) := by
  have hx := C.1
  have hb := C.2.1
  intro d
  induction d with
  | zero =>
    intro x n H locs ls hd hT P hl
    have hd : x = 32 := by omega
    subst hd
    refine lv_iload_n hx hb dX1_covers_14 rfl (lv_at hl 3 rfl) ?_
    refine lv_bipush (v := (nI 32)) hx hb dX1_covers_15 (by decide) ?_
    refine lv_icmp_ge (tgt := 39) hx hb dX1_covers_17 (by decide) (fun c1 => ?_) (fun c1 => absurd (nI_le (Nat.le_refl 32) (by decide)) c1)
    refine lv_iload_n hx hb dX1_covers_39 rfl (lv_at hl 2 rfl) ?_
    exact rB_i C hr hlocks P (by rw [← hT]; rfl) dX1_covers_40
  | succ d ih =>
    intro x n H locs ls hd hT P hl
    refine lv_iload_n hx hb dX1_covers_14 rfl (lv_at hl 3 rfl) ?_
    refine lv_bipush (v := (nI 32)) hx hb dX1_covers_15 (by decide) ?_
    refine lv_icmp_ge (tgt := 39) hx hb dX1_covers_17 (by decide) (fun c1 => absurd c1 (nI_ge (a := x) (b := 32) (by omega) (by decide))) (fun c1 => ?_)
    refine lv_iload_n hx hb dX1_covers_20 rfl (lv_at hl 2 rfl) ?_
    refine lv_aload_n hx hb dX1_covers_21 rfl (lv_at hl 0 rfl) ?_
    refine gB_covered C P dX1_covers_22 ?_
    refine lv_iload_n hx hb dX1_covers_25 rfl (lv_at hl 1 rfl) ?_
    refine lB_covered (v := (S 4 (ix k))) C P hk rfl dX1_covers_26 ?_
    refine lv_iload_n hx hb dX1_covers_27 rfl (lv_at hl 3 rfl) ?_
    refine lv_ishr hx hb dX1_covers_28 ?_
    refine lv_iconst (v := 1) hx hb dX1_covers_29 (by decide) ?_
    refine lv_iand hx hb dX1_covers_30 ?_
    refine lv_iadd hx hb dX1_covers_31 ?_
    refine lv_istore_n (lv' := [(2, .int (n + (((S 4 (ix k)) >>> ((nI x) &&& 31)) &&& 1))), (0, .ref (a 0)), (1, .int k), (3, .int (nI x))]) hx hb dX1_covers_32 rfl hl (by decide) rfl (fun ls hl => ?_)
    refine lv_iinc (v := (nI (x + 1))) (lv' := [(3, .int (nI (x + 1))), (2, .int (n + (((S 4 (ix k)) >>> ((nI x) &&& 31)) &&& 1))), (0, .ref (a 0)), (1, .int k)]) hx hb dX1_covers_33 hl (k := 3) rfl (nI_1 x) (by decide) rfl (fun ls hl => ?_)
    refine lv_goto (tgt := 14) hx hb dX1_covers_36 (by decide) ?_
    exact ih (x + 1) (n + (((S 4 (ix k)) >>> ((nI x) &&& 31)) &&& 1)) H locs ls (by omega) (by rw [← hT, czL]) P (lv_sub hl [2, 3, 1, 0] rfl)

set_option maxHeartbeats 4000000 in
set_option maxRecDepth 100000 in
theorem mB_covers (l : Launch) (D : va_G) (a : Nat → Nat) (b : Nat → ClassId) {S : SS} {V : LL} {k : Int32} (rg : RZ S) : MBi l D a b yX1_covers cX1_covers 4 .int { frames := 1, cells := 0, slots := 0, locals := 21 } [.int k] S V (czF S k, S, V) := by
  refine MBi.of (by decide) rfl (Nat.le_of_ble_eq_true rfl) ?_
  intro p e s m below meth c A ls C hr hlocks P hl
  have hx := C.1
  have hb := C.2.1
  have hl : lv_has ls 4 [(0, .ref (a 0)), (1, .int k)] := hl
  refine lv_aload_n hx hb dX1_covers_0 rfl (lv_at hl 0 rfl) ?_
  refine lv_iload_n hx hb dX1_covers_1 rfl (lv_at hl 1 rfl) ?_
  refine cB_i (rest := []) C P 1 (mB_isChange l D a b) (lw_V q245 q247 qs15 q18 q248) rfl rfl (by decide +kernel) ⟨Nat.le_of_ble_eq_true rfl, Nat.le_of_ble_eq_true rfl⟩ rfl hl.1 rfl (Nat.le_of_ble_eq_true rfl) dX1_covers_2 (fun H locs P => ?_)
  refine lv_if_ne (tgt := 10) hx hb dX1_covers_5 (by decide) (fun c1 => ?_) (fun c1 => ?_)
  · refine lv_iconst (v := 0) hx hb dX1_covers_10 (by decide) ?_
    refine lv_istore_n (lv' := [(2, .int 0), (0, .ref (a 0)), (1, .int k)]) hx hb dX1_covers_11 rfl hl (by decide) rfl (fun ls hl => ?_)
    refine lv_iconst (v := (nI 0)) hx hb dX1_covers_12 (by decide) ?_
    refine lv_istore_n (lv' := [(3, .int (nI 0)), (2, .int 0), (0, .ref (a 0)), (1, .int k)]) hx hb dX1_covers_13 rfl hl (by decide) rfl (fun ls hl => ?_)
    exact lpB_covers C hr hlocks rg k (ic_in rg c1) _ 32 0 0 _ _ _ rfl (by rw [czF, if_neg c1]) P (lv_sub hl [2, 3, 1, 0] rfl)
  · refine lv_iconst (v := (-1)) hx hb dX1_covers_8 (by decide) ?_
    exact rB_i C hr hlocks P (by simp [czF, c1]) dX1_covers_9

set_option maxHeartbeats 4000000 in
set_option maxRecDepth 100000 in
theorem mB_coveredBy (l : Launch) (D : va_G) (a : Nat → Nat) (b : Nat → ClassId) {S : SS} {V : LL} {k : Int32} (rg : RZ S) : MBi l D a b yX1_coveredBy cX1_coveredBy 2 .int { frames := 1, cells := 0, slots := 0, locals := 23 } [.int k] S V (cqF S k, S, V) := by
  refine MBi.of (by decide) rfl (Nat.le_of_ble_eq_true rfl) ?_
  intro p e s m below meth c A ls C hr hlocks P hl
  have hx := C.1
  have hb := C.2.1
  have hl : lv_has ls 2 [(0, .ref (a 0)), (1, .int k)] := hl
  refine lv_aload_n hx hb dX1_coveredBy_0 rfl (lv_at hl 0 rfl) ?_
  refine lv_iload_n hx hb dX1_coveredBy_1 rfl (lv_at hl 1 rfl) ?_
  refine cB_i (rest := []) C P 1 (mB_isChange l D a b) (lw_V q245 q247 qs15 q18 q248) rfl rfl (by decide +kernel) ⟨Nat.le_of_ble_eq_true rfl, Nat.le_of_ble_eq_true rfl⟩ rfl hl.1 rfl (Nat.le_of_ble_eq_true rfl) dX1_coveredBy_2 (fun H locs P => ?_)
  refine lv_if_ne (tgt := 10) hx hb dX1_coveredBy_5 (by decide) (fun c1 => ?_) (fun c1 => ?_)
  · refine lv_aload_n hx hb dX1_coveredBy_10 rfl (lv_at hl 0 rfl) ?_
    refine gB_types C P dX1_coveredBy_11 ?_
    refine lv_iload_n hx hb dX1_coveredBy_14 rfl (lv_at hl 1 rfl) ?_
    refine lB_types (v := (S 2 (ix k))) C P (ic_in rg c1) rfl dX1_coveredBy_15 ?_
    refine lv_if_eq (tgt := 27) hx hb dX1_coveredBy_16 (by decide) (fun c2 => ?_) (fun c2 => ?_)
    · refine lv_bipush (v := (-4)) hx hb dX1_coveredBy_27 (by decide) ?_
      exact rB_i C hr hlocks P (by simp [cqF, c1, c2]) dX1_coveredBy_29
    · refine lv_aload_n hx hb dX1_coveredBy_19 rfl (lv_at hl 0 rfl) ?_
      refine lv_iload_n hx hb dX1_coveredBy_20 rfl (lv_at hl 1 rfl) ?_
      refine cB_i (rest := []) C P 1 (mB_coversOf (ch := k) l D a b rg) (lw_V q229 q231 qs13 q18 q232) rfl rfl (by decide +kernel) ⟨Nat.le_of_ble_eq_true rfl, Nat.le_of_ble_eq_true rfl⟩ rfl hl.1 rfl (Nat.le_of_ble_eq_true rfl) dX1_coveredBy_21 (fun H locs P => ?_)
      refine lv_goto (tgt := 29) hx hb dX1_coveredBy_24 (by decide) ?_
      exact rB_i C hr hlocks P (by simp [cqF, c1, c2]) dX1_coveredBy_29
  · refine lv_iconst (v := (-1)) hx hb dX1_coveredBy_8 (by decide) ?_
    exact rB_i C hr hlocks P (by simp [cqF, c1]) dX1_coveredBy_9

set_option maxHeartbeats 4000000 in
set_option maxRecDepth 100000 in
theorem mB_effect (l : Launch) (D : va_G) (a : Nat → Nat) (b : Nat → ClassId) {S : SS} {V : LL} {k : Int32} (rg : RZ S) : MBi l D a b yX1_effect cX1_effect 4 .int { frames := 3, cells := 0, slots := 0, locals := 66 } [.int k] S V (ezF S k, ezT S k, V) := by
  refine MBi.of (by decide) rfl (Nat.le_of_ble_eq_true rfl) ?_
  intro p e s m below meth c A ls C hr hlocks P hl
  have hx := C.1
  have hb := C.2.1
  have hl : lv_has ls 4 [(0, .ref (a 0)), (1, .int k)] := hl
  refine lv_aload_n hx hb dX1_effect_0 rfl (lv_at hl 0 rfl) ?_
  refine lv_iload_n hx hb dX1_effect_1 rfl (lv_at hl 1 rfl) ?_
  refine cB_i (rest := []) C P 1 (mB_isChange l D a b) (lw_V q245 q247 qs15 q18 q248) rfl rfl (by decide +kernel) ⟨Nat.le_of_ble_eq_true rfl, Nat.le_of_ble_eq_true rfl⟩ rfl hl.1 rfl (Nat.le_of_ble_eq_true rfl) dX1_effect_2 (fun H locs P => ?_)
  refine lv_if_ne (tgt := 10) hx hb dX1_effect_5 (by decide) (fun c1 => ?_) (fun c1 => ?_)
  · refine lv_aload_n hx hb dX1_effect_10 rfl (lv_at hl 0 rfl) ?_
    refine cB_i (rest := []) C P 0 (mB_length l D a b rg) (lw_V q221 q222 q223 q18 q224) rfl rfl (by decide +kernel) ⟨Nat.le_of_ble_eq_true rfl, Nat.le_of_ble_eq_true rfl⟩ rfl hl.1 rfl (Nat.le_of_ble_eq_true rfl) dX1_effect_11 (fun H locs P => ?_)
    refine lv_istore_n (lv' := [(2, .int (leF S)), (0, .ref (a 0)), (1, .int k)]) hx hb dX1_effect_14 rfl hl (by decide) rfl (fun ls hl => ?_)
    refine lv_aload_n hx hb dX1_effect_15 rfl (lv_at hl 1 rfl) ?_
    refine gB_on C P dX1_effect_16 ?_
    refine lv_iload_n hx hb dX1_effect_19 rfl (lv_at hl 2 rfl) ?_
    refine lv_aload_n hx hb dX1_effect_20 rfl (lv_at hl 1 rfl) ?_
    refine gB_on C P dX1_effect_21 ?_
    refine lv_iload_n hx hb dX1_effect_24 rfl (lv_at hl 2 rfl) ?_
    refine lB_on (v := (S 5 (ix k))) C P (ic_in rg c1) rfl dX1_effect_25 ?_
    refine lv_if_ne (tgt := 33) hx hb dX1_effect_26 (by decide) (fun c2 => ?_) (fun c2 => ?_)
    · refine lv_iconst (v := 0) hx hb dX1_effect_33 (by decide) ?_
      refine sB_on C P (ic_in rg c1) (by decide) dX1_effect_34 (fun H locs P => ?_)
      have rg3 : RZ (up2 S 5 (ix k) 0) := RZ_5 rg
      refine lv_aload_n hx hb dX1_effect_35 rfl (lv_at hl 1 rfl) ?_
      refine cB_i (rest := []) C P 0 (mB_length l D a b rg3) (lw_V q221 q222 q223 q18 q224) rfl rfl (by decide +kernel) ⟨Nat.le_of_ble_eq_true rfl, Nat.le_of_ble_eq_true rfl⟩ rfl hl.1 rfl (Nat.le_of_ble_eq_true rfl) dX1_effect_36 (fun H locs P => ?_)
      refine lv_istore_n (lv' := [(3, .int (leF (up2 S 5 (ix k) 0))), (2, .int (leF S)), (0, .ref (a 0)), (1, .int k)]) hx hb dX1_effect_39 rfl hl (by decide) rfl (fun ls hl => ?_)
      refine lv_aload_n hx hb dX1_effect_40 rfl (lv_at hl 2 rfl) ?_
      refine gB_on C P dX1_effect_41 ?_
      refine lv_iload_n hx hb dX1_effect_44 rfl (lv_at hl 3 rfl) ?_
      refine lv_aload_n hx hb dX1_effect_45 rfl (lv_at hl 2 rfl) ?_
      refine gB_on C P dX1_effect_46 ?_
      refine lv_iload_n hx hb dX1_effect_49 rfl (lv_at hl 3 rfl) ?_
      refine lB_on (v := ((up2 S 5 (ix k) 0) 5 (ix k))) C P (ic_in rg c1) rfl dX1_effect_50 ?_
      refine lv_if_ne (tgt := 58) hx hb dX1_effect_51 (by decide) (fun c4 => ?_) (fun c4 => ?_)
      · refine lv_iconst (v := 0) hx hb dX1_effect_58 (by decide) ?_
        refine sB_on C P (ic_in rg c1) (by decide) dX1_effect_59 (fun H locs P => ?_)
        have rg5 : RZ (up2 (up2 S 5 (ix k) 0) 5 (ix k) 0) := RZ_5 rg3
        refine lv_iload_n hx hb dX1_effect_60 rfl (lv_at hl 0 rfl) ?_
        refine lv_iload_n hx hb dX1_effect_61 rfl (lv_at hl 1 rfl) ?_
        refine lv_isub hx hb dX1_effect_62 ?_
        exact rB_i C hr hlocks P (by simp [ezF, ezT, tgZ, c1, c2, c4]) dX1_effect_63
      · refine lv_iconst (v := 1) hx hb dX1_effect_54 (by decide) ?_
        refine lv_goto (tgt := 59) hx hb dX1_effect_55 (by decide) ?_
        refine sB_on C P (ic_in rg c1) (by decide) dX1_effect_59 (fun H locs P => ?_)
        have rg6 : RZ (up2 (up2 S 5 (ix k) 0) 5 (ix k) 1) := RZ_5 rg3
        refine lv_iload_n hx hb dX1_effect_60 rfl (lv_at hl 0 rfl) ?_
        refine lv_iload_n hx hb dX1_effect_61 rfl (lv_at hl 1 rfl) ?_
        refine lv_isub hx hb dX1_effect_62 ?_
        exact rB_i C hr hlocks P (by simp [ezF, ezT, tgZ, c1, c2, c4]) dX1_effect_63
    · refine lv_iconst (v := 1) hx hb dX1_effect_29 (by decide) ?_
      refine lv_goto (tgt := 34) hx hb dX1_effect_30 (by decide) ?_
      refine sB_on C P (ic_in rg c1) (by decide) dX1_effect_34 (fun H locs P => ?_)
      have rg7 : RZ (up2 S 5 (ix k) 1) := RZ_5 rg
      refine lv_aload_n hx hb dX1_effect_35 rfl (lv_at hl 1 rfl) ?_
      refine cB_i (rest := []) C P 0 (mB_length l D a b rg7) (lw_V q221 q222 q223 q18 q224) rfl rfl (by decide +kernel) ⟨Nat.le_of_ble_eq_true rfl, Nat.le_of_ble_eq_true rfl⟩ rfl hl.1 rfl (Nat.le_of_ble_eq_true rfl) dX1_effect_36 (fun H locs P => ?_)
      refine lv_istore_n (lv' := [(3, .int (leF (up2 S 5 (ix k) 1))), (2, .int (leF S)), (0, .ref (a 0)), (1, .int k)]) hx hb dX1_effect_39 rfl hl (by decide) rfl (fun ls hl => ?_)
      refine lv_aload_n hx hb dX1_effect_40 rfl (lv_at hl 2 rfl) ?_
      refine gB_on C P dX1_effect_41 ?_
      refine lv_iload_n hx hb dX1_effect_44 rfl (lv_at hl 3 rfl) ?_
      refine lv_aload_n hx hb dX1_effect_45 rfl (lv_at hl 2 rfl) ?_
      refine gB_on C P dX1_effect_46 ?_
      refine lv_iload_n hx hb dX1_effect_49 rfl (lv_at hl 3 rfl) ?_
      refine lB_on (v := ((up2 S 5 (ix k) 1) 5 (ix k))) C P (ic_in rg c1) rfl dX1_effect_50 ?_
      refine lv_if_ne (tgt := 58) hx hb dX1_effect_51 (by decide) (fun c8 => ?_) (fun c8 => ?_)
      · refine lv_iconst (v := 0) hx hb dX1_effect_58 (by decide) ?_
        refine sB_on C P (ic_in rg c1) (by decide) dX1_effect_59 (fun H locs P => ?_)
        have rg9 : RZ (up2 (up2 S 5 (ix k) 1) 5 (ix k) 0) := RZ_5 rg7
        refine lv_iload_n hx hb dX1_effect_60 rfl (lv_at hl 0 rfl) ?_
        refine lv_iload_n hx hb dX1_effect_61 rfl (lv_at hl 1 rfl) ?_
        refine lv_isub hx hb dX1_effect_62 ?_
        exact rB_i C hr hlocks P (by simp [ezF, ezT, tgZ, c1, c2, c8]) dX1_effect_63
      · refine lv_iconst (v := 1) hx hb dX1_effect_54 (by decide) ?_
        refine lv_goto (tgt := 59) hx hb dX1_effect_55 (by decide) ?_
        refine sB_on C P (ic_in rg c1) (by decide) dX1_effect_59 (fun H locs P => ?_)
        have rg10 : RZ (up2 (up2 S 5 (ix k) 1) 5 (ix k) 1) := RZ_5 rg7
        refine lv_iload_n hx hb dX1_effect_60 rfl (lv_at hl 0 rfl) ?_
        refine lv_iload_n hx hb dX1_effect_61 rfl (lv_at hl 1 rfl) ?_
        refine lv_isub hx hb dX1_effect_62 ?_
        exact rB_i C hr hlocks P (by simp [ezF, ezT, tgZ, c1, c2, c8]) dX1_effect_63
  · refine lv_iconst (v := 0) hx hb dX1_effect_8 (by decide) ?_
    exact rB_i C hr hlocks P (by simp [ezF, ezT, tgZ, c1]) dX1_effect_9

set_option maxHeartbeats 4000000 in
set_option maxRecDepth 100000 in
theorem lpB_digest {p : Program} {l : Launch} {e : Env} {s : State} {m : MethodId} {args : Array Value} {below : List Frame} {meth : Method} {c : Code} {D : va_G} {A : Nat → Prop} {a : Nat → Nat} {b : Nat → ClassId} {V : LL} (C : CX p s m c args cX1_digest 4 RX1 A D (tB b)) (hr : meth.sig.returnType = (some .int)) (hlocks : meth.locks = false) {S : SS} (rg : RZ S) (r : Int32) : ∀ (d k : Nat) (n : Int32) (H : Heap) (locs : List Loc) (ls : Array Slot), k + d = 32 → dzL d S k n = r → PB D A a b S V s.heap H locs → lv_has ls 4 [(0, .ref (a 0)), (1, .int n), (2, .int (nI k))] → W p l e ({ frames := 3, cells := 0, slots := 0, locals := 67 }) s m args below meth c H locs 0 0 (QBi D a b A (r, S, V) below args s) (F0 m 4 ls []) := by
  have hx := C.1
  have hb := C.2.1
  intro d
  induction d with
  | zero =>
    intro k n H locs ls hd hT P hl
    have hd : k = 32 := by omega
    subst hd
    refine lv_iload_n hx hb dX1_digest_4 rfl (lv_at hl 2 rfl) ?_
    refine lv_bipush (v := (nI 32)) hx hb dX1_digest_5 (by decide) ?_
    refine lv_icmp_ge (tgt := 45) hx hb dX1_digest_7 (by decide) (fun c1 => ?_) (fun c1 => absurd (nI_le (Nat.le_refl 32) (by decide)) c1)
    refine lv_iload_n hx hb dX1_digest_45 rfl (lv_at hl 1 rfl) ?_
    exact rB_i C hr hlocks P (by rw [← hT]; rfl) dX1_digest_46
  | succ d ih =>
    intro k n H locs ls hd hT P hl
    refine lv_iload_n hx hb dX1_digest_4 rfl (lv_at hl 2 rfl) ?_
    refine lv_bipush (v := (nI 32)) hx hb dX1_digest_5 (by decide) ?_
    refine lv_icmp_ge (tgt := 45) hx hb dX1_digest_7 (by decide) (fun c1 => absurd c1 (nI_ge (a := k) (b := 32) (by omega) (by decide))) (fun c1 => ?_)
    refine lv_aload_n hx hb dX1_digest_10 rfl (lv_at hl 0 rfl) ?_
    refine lv_iload_n hx hb dX1_digest_11 rfl (lv_at hl 2 rfl) ?_
    refine cB_i (rest := []) C P 1 (mB_charAt (q := (nI k)) l D a b rg) (lw_V q233 q235 qs14 q18 q236) rfl rfl (by decide +kernel) ⟨Nat.le_of_ble_eq_true rfl, Nat.le_of_ble_eq_true rfl⟩ rfl hl.1 rfl (Nat.le_of_ble_eq_true rfl) dX1_digest_12 (fun H locs P => ?_)
    refine lv_istore_n (lv' := [(3, .int (caF S (nI k))), (0, .ref (a 0)), (1, .int n), (2, .int (nI k))]) hx hb dX1_digest_15 rfl hl (by decide) rfl (fun ls hl => ?_)
    refine lv_iload_n hx hb dX1_digest_16 rfl (lv_at hl 0 rfl) ?_
    refine lv_if_ge (tgt := 24) hx hb dX1_digest_17 (by decide) (fun c2 => ?_) (fun c2 => ?_)
    · refine lv_iload_n hx hb dX1_digest_24 rfl (lv_at hl 2 rfl) ?_
      refine lv_iload_n hx hb dX1_digest_25 rfl (lv_at hl 3 rfl) ?_
      refine lv_iconst (v := 1) hx hb dX1_digest_26 (by decide) ?_
      refine lv_iadd hx hb dX1_digest_27 ?_
      refine lv_aload_n hx hb dX1_digest_28 rfl (lv_at hl 1 rfl) ?_
      refine gB_letters C P dX1_digest_29 ?_
      refine lv_iload_n hx hb dX1_digest_32 rfl (lv_at hl 0 rfl) ?_
      refine lB_letters (v := (S 3 (ix (caF S (nI k))))) C P (ca_in rg c2) rfl dX1_digest_33 ?_
      refine lv_iconst (v := 1) hx hb dX1_digest_34 (by decide) ?_
      refine lv_iadd hx hb dX1_digest_35 ?_
      refine lv_imul hx hb dX1_digest_36 ?_
      refine lv_iadd hx hb dX1_digest_37 ?_
      refine lv_istore_n (lv' := [(1, .int (n + (((nI k) + 1) * ((S 3 (ix (caF S (nI k)))) + 1)))), (3, .int (caF S (nI k))), (0, .ref (a 0)), (2, .int (nI k))]) hx hb dX1_digest_38 rfl hl (by decide) rfl (fun ls hl => ?_)
      refine lv_iinc (v := (nI (k + 1))) (lv' := [(2, .int (nI (k + 1))), (1, .int (n + (((nI k) + 1) * ((S 3 (ix (caF S (nI k)))) + 1)))), (3, .int (caF S (nI k))), (0, .ref (a 0))]) hx hb dX1_digest_39 hl (k := 3) rfl (nI_1 k) (by decide) rfl (fun ls hl => ?_)
      refine lv_goto (tgt := 4) hx hb dX1_digest_42 (by decide) ?_
      exact ih (k + 1) (n + (((nI k) + 1) * ((S 3 (ix (caF S (nI k)))) + 1))) H locs ls (by omega) (by rw [← hT, dzL, if_pos c2]) P (lv_sub hl [3, 1, 0] rfl)
    · refine lv_iload_n hx hb dX1_digest_20 rfl (lv_at hl 2 rfl) ?_
      refine lv_goto (tgt := 38) hx hb dX1_digest_21 (by decide) ?_
      refine lv_istore_n (lv' := [(1, .int n), (3, .int (caF S (nI k))), (0, .ref (a 0)), (2, .int (nI k))]) hx hb dX1_digest_38 rfl hl (by decide) rfl (fun ls hl => ?_)
      refine lv_iinc (v := (nI (k + 1))) (lv' := [(2, .int (nI (k + 1))), (1, .int n), (3, .int (caF S (nI k))), (0, .ref (a 0))]) hx hb dX1_digest_39 hl (k := 3) rfl (nI_1 k) (by decide) rfl (fun ls hl => ?_)
      refine lv_goto (tgt := 4) hx hb dX1_digest_42 (by decide) ?_
      exact ih (k + 1) n H locs ls (by omega) (by rw [← hT, dzL, if_neg c2]) P (lv_sub hl [3, 1, 0] rfl)

set_option maxHeartbeats 4000000 in
set_option maxRecDepth 100000 in
theorem mB_digest (l : Launch) (D : va_G) (a : Nat → Nat) (b : Nat → ClassId) {S : SS} {V : LL} (rg : RZ S) : MBi l D a b yX1_digest cX1_digest 4 .int { frames := 3, cells := 0, slots := 0, locals := 67 } [] S V (dzF S, S, V) := by
  refine MBi.of (by decide) rfl (Nat.le_of_ble_eq_true rfl) ?_
  intro p e s m below meth c A ls C hr hlocks P hl
  have hx := C.1
  have hb := C.2.1
  have hl : lv_has ls 4 [(0, .ref (a 0))] := hl
  refine lv_iconst (v := 0) hx hb dX1_digest_0 (by decide) ?_
  refine lv_istore_n (lv' := [(1, .int 0), (0, .ref (a 0))]) hx hb dX1_digest_1 rfl hl (by decide) rfl (fun ls hl => ?_)
  refine lv_iconst (v := (nI 0)) hx hb dX1_digest_2 (by decide) ?_
  refine lv_istore_n (lv' := [(2, .int (nI 0)), (1, .int 0), (0, .ref (a 0))]) hx hb dX1_digest_3 rfl hl (by decide) rfl (fun ls hl => ?_)
  exact lpB_digest C hr hlocks rg _ 32 0 0 _ _ _ rfl rfl P (lv_sub hl [2, 1, 0] rfl)
end
section
def S0 : SS := up2 (fun _ _ => 0) 0 14 12345
def M0 : SS := fun _ _ => 0
def Z0 : LL := fun _ => 0
set_option maxHeartbeats 4000000 in
set_option maxRecDepth 100000 in
/-- the constructor: its arrays made, all zero -/
theorem mA_init (l : Launch) (D : va_G) (h0 sz : Nat) : Met l yX0_init (ws_ yX0_init cX0_init 1 none) { frames := 1, cells := 11, slots := 488, locals := 12 } (va_Pc [.ref h0] (fun U => U.heap.size = sz ∧ va_P D vwCl [(h0, .inr (0, [.int 0, .int 0, .null, .null, .null, .null, .null, .null, .null, .null, .int 0, .null, .null, .null, .int 0]))] U.heap ∧ va_K D vwCl [] U ∧ va_D (fun _ => True) [(h0, .inr (0, [.int 0, .int 0, .null, .null, .null, .null, .null, .null, .null, .null, .int 0, .null, .null, .null, .int 0]))])) (va_Qv (fun (u : (Nat → Nat) × (Nat → ClassId)) => u.1 0 = h0) (fun u t => va_P D vwCl (wA u.1 u.2 S0 Z0) t.heap ∧ va_K D vwCl (tA u.2) t ∧ va_D (va_A [(h0, .inr (0, [.int 0, .int 0, .null, .null, .null, .null, .null, .null, .null, .null, .int 0, .null, .null, .null, .int 0]))] sz) (wA u.1 u.2 S0 Z0)) (va_A [(h0, .inr (0, [.int 0, .int 0, .null, .null, .null, .null, .null, .null, .null, .null, .int 0, .null, .null, .null, .int 0]))] sz)) 11 488 (va_A [(h0, .inr (0, [.int 0, .int 0, .null, .null, .null, .null, .null, .null, .null, .null, .int 0, .null, .null, .null, .int 0]))] sz) := by
  refine Met.ofW (cc := cX0_init) (maxL := 1) (ret := none) (by decide) rfl ?_
  intro p e s m args below meth c s₁ B hml hv
  obtain ⟨rfl, hsz, hP, hK, hD0⟩ := hv
  have hx := B.exec
  have hb := B.bytes
  have hr := B.returns
  have hts := atoms_spec (ws := ws_ yX0_init cX0_init 1 none) B.pre
  have hts : ∀ w ∈ lw_all, w.before _ s = true := fun w h => hts w (List.mem_cons_of_mem _ h)
  have hown : s.vm.findClass RX0 = some m.cls := findClass_of_methodNamed B.named
  have hlocks := B.notSynchronized
  have hin : meth.name = "<init>" := (name_of_methodNamed B.named B.method).1
  subst hsz
  have hD := hD0.self (sz := s.heap.size)
  generalize hAe : va_A [(h0, .inr (0, [.int 0, .int 0, .null, .null, .null, .null, .null, .null, .null, .null, .int 0, .null, .null, .null, .int 0]))] s.heap.size = A at hD ⊢
  have hA : ∀ q : Nat, s.heap.size ≤ q → A q := fun q h => by rw [← hAe]; exact Or.inr h
  have hS : va_S A s.heap s.heap [] := va_S.rf
  have hl := lv_entry ([.ref h0]) (n := 1) (Nat.le_of_ble_eq_true rfl)
  rw [lg_entry_eq]
  generalize (lg_sl ([.ref h0]) ++ List.replicate (1 - (lg_sl ([.ref h0])).length) Slot.unset).toArray = ls at hl ⊢
  have hl : lv_has ls 1 [(0, .ref h0)] := hl
  refine lv_aload_n hx hb dX0_init_0 rfl (lv_at hl 0 rfl) ?_
  refine W.objInit hx hb hown (hts _ q24) (hts _ q25) (hts _ q26) rfl (by rw [hml]; exact hl.1) rfl dX0_init_1 (Nat.le_of_ble_eq_true rfl) (Nat.le_of_ble_eq_true rfl) ?_
  refine W.eq (g2 := F0 m 4 ls []) rfl ?_
  refine lv_aload_n hx hb dX0_init_4 rfl (lv_at hl 0 rfl) ?_
  refine lv_bipush (v := 49) hx hb dX0_init_5 (by decide) ?_
  refine va_newa (atype := .int) (ty := .int) (a0 := (49, .inl (fun _ => 0))) hx hb (hts _ q73) rfl hK hP hD hS hA (fun cA => rfl) (by decide) (by decide) (Nat.le_of_ble_eq_true rfl) (Nat.le_of_ble_eq_true rfl) (Nat.le_of_ble_eq_true rfl) dX0_init_7 (fun q0 c0 H hK hP hD hS => ?_)
  have hP : va_P D vwCl [(h0, .inr (0, [.int 0, .int 0, .null, .null, .null, .null, .null, .null, .null, .null, .int 0, .null, .null, .null, .int 0])), (q0, .inl (c0, 49, .inl (fun _ => 0)))] H := hP
  have hD : va_D A [(h0, .inr (0, [.int 0, .int 0, .null, .null, .null, .null, .null, .null, .null, .null, .int 0, .null, .null, .null, .int 0])), (q0, .inl (c0, 49, .inl (fun _ => 0)))] := hD
  have hK : va_K D vwCl [(c0, .int)] s := hK
  refine W.widen (k := 1) (n := 49) (Nat.le_of_ble_eq_true rfl) (Nat.le_of_ble_eq_true rfl) ?_
  refine va_putF (D := D) (ci := 0) (v := .ref q0) (ty := (.array .int)) (C := RX0) (T := TX0) (N := 15) hx hb hts in_X0 tyX0 tyX0_ok nmX0 hown hK hP hD hS 0 rfl rfl 2 (by decide) (hts _ q29) (fun _ h9 => h9) rfl hin rfl (by decide +kernel) rfl rfl (Nat.le_of_ble_eq_true rfl) dX0_init_9 (fun H locs hP hD hS => ?_)
  have hP : va_P D vwCl [(h0, .inr (0, [.int 0, .int 0, .ref q0, .null, .null, .null, .null, .null, .null, .null, .int 0, .null, .null, .null, .int 0])), (q0, .inl (c0, 49, .inl (fun _ => 0)))] H := hP
  have hD : va_D A [(h0, .inr (0, [.int 0, .int 0, .ref q0, .null, .null, .null, .null, .null, .null, .null, .int 0, .null, .null, .null, .int 0])), (q0, .inl (c0, 49, .inl (fun _ => 0)))] := hD
  refine lv_aload_n hx hb dX0_init_12 rfl (lv_at hl 0 rfl) ?_
  refine lv_bipush (v := 49) hx hb dX0_init_13 (by decide) ?_
  refine va_newa (atype := .int) (ty := .int) (a0 := (49, .inl (fun _ => 0))) hx hb (hts _ q73) rfl hK hP hD hS hA (fun cA => rfl) (by decide) (by decide) (Nat.le_of_ble_eq_true rfl) (Nat.le_of_ble_eq_true rfl) (Nat.le_of_ble_eq_true rfl) dX0_init_15 (fun q1 c1 H hK hP hD hS => ?_)
  have hP : va_P D vwCl [(h0, .inr (0, [.int 0, .int 0, .ref q0, .null, .null, .null, .null, .null, .null, .null, .int 0, .null, .null, .null, .int 0])), (q0, .inl (c0, 49, .inl (fun _ => 0))), (q1, .inl (c1, 49, .inl (fun _ => 0)))] H := hP
  have hD : va_D A [(h0, .inr (0, [.int 0, .int 0, .ref q0, .null, .null, .null, .null, .null, .null, .null, .int 0, .null, .null, .null, .int 0])), (q0, .inl (c0, 49, .inl (fun _ => 0))), (q1, .inl (c1, 49, .inl (fun _ => 0)))] := hD
  have hK : va_K D vwCl [(c0, .int), (c1, .int)] s := hK
  refine W.widen (k := 2) (n := 98) (Nat.le_of_ble_eq_true rfl) (Nat.le_of_ble_eq_true rfl) ?_
  refine va_putF (D := D) (ci := 0) (v := .ref q1) (ty := (.array .int)) (C := RX0) (T := TX0) (N := 15) hx hb hts in_X0 tyX0 tyX0_ok nmX0 hown hK hP hD hS 0 rfl rfl 3 (by decide) (hts _ q30) (fun _ h9 => h9) rfl hin rfl (by decide +kernel) rfl rfl (Nat.le_of_ble_eq_true rfl) dX0_init_17 (fun H locs hP hD hS => ?_)
  have hP : va_P D vwCl [(h0, .inr (0, [.int 0, .int 0, .ref q0, .ref q1, .null, .null, .null, .null, .null, .null, .int 0, .null, .null, .null, .int 0])), (q0, .inl (c0, 49, .inl (fun _ => 0))), (q1, .inl (c1, 49, .inl (fun _ => 0)))] H := hP
  have hD : va_D A [(h0, .inr (0, [.int 0, .int 0, .ref q0, .ref q1, .null, .null, .null, .null, .null, .null, .int 0, .null, .null, .null, .int 0])), (q0, .inl (c0, 49, .inl (fun _ => 0))), (q1, .inl (c1, 49, .inl (fun _ => 0)))] := hD
  refine lv_aload_n hx hb dX0_init_20 rfl (lv_at hl 0 rfl) ?_
  refine lv_bipush (v := 49) hx hb dX0_init_21 (by decide) ?_
  refine va_newa (atype := .int) (ty := .int) (a0 := (49, .inl (fun _ => 0))) hx hb (hts _ q73) rfl hK hP hD hS hA (fun cA => rfl) (by decide) (by decide) (Nat.le_of_ble_eq_true rfl) (Nat.le_of_ble_eq_true rfl) (Nat.le_of_ble_eq_true rfl) dX0_init_23 (fun q2 c2 H hK hP hD hS => ?_)
  have hP : va_P D vwCl [(h0, .inr (0, [.int 0, .int 0, .ref q0, .ref q1, .null, .null, .null, .null, .null, .null, .int 0, .null, .null, .null, .int 0])), (q0, .inl (c0, 49, .inl (fun _ => 0))), (q1, .inl (c1, 49, .inl (fun _ => 0))), (q2, .inl (c2, 49, .inl (fun _ => 0)))] H := hP
  have hD : va_D A [(h0, .inr (0, [.int 0, .int 0, .ref q0, .ref q1, .null, .null, .null, .null, .null, .null, .int 0, .null, .null, .null, .int 0])), (q0, .inl (c0, 49, .inl (fun _ => 0))), (q1, .inl (c1, 49, .inl (fun _ => 0))), (q2, .inl (c2, 49, .inl (fun _ => 0)))] := hD
  have hK : va_K D vwCl [(c0, .int), (c1, .int), (c2, .int)] s := hK
  refine W.widen (k := 3) (n := 147) (Nat.le_of_ble_eq_true rfl) (Nat.le_of_ble_eq_true rfl) ?_
  refine va_putF (D := D) (ci := 0) (v := .ref q2) (ty := (.array .int)) (C := RX0) (T := TX0) (N := 15) hx hb hts in_X0 tyX0 tyX0_ok nmX0 hown hK hP hD hS 0 rfl rfl 4 (by decide) (hts _ q31) (fun _ h9 => h9) rfl hin rfl (by decide +kernel) rfl rfl (Nat.le_of_ble_eq_true rfl) dX0_init_25 (fun H locs hP hD hS => ?_)
  have hP : va_P D vwCl [(h0, .inr (0, [.int 0, .int 0, .ref q0, .ref q1, .ref q2, .null, .null, .null, .null, .null, .int 0, .null, .null, .null, .int 0])), (q0, .inl (c0, 49, .inl (fun _ => 0))), (q1, .inl (c1, 49, .inl (fun _ => 0))), (q2, .inl (c2, 49, .inl (fun _ => 0)))] H := hP
  have hD : va_D A [(h0, .inr (0, [.int 0, .int 0, .ref q0, .ref q1, .ref q2, .null, .null, .null, .null, .null, .int 0, .null, .null, .null, .int 0])), (q0, .inl (c0, 49, .inl (fun _ => 0))), (q1, .inl (c1, 49, .inl (fun _ => 0))), (q2, .inl (c2, 49, .inl (fun _ => 0)))] := hD
  refine lv_aload_n hx hb dX0_init_28 rfl (lv_at hl 0 rfl) ?_
  refine lv_bipush (v := 49) hx hb dX0_init_29 (by decide) ?_
  refine va_newa (atype := .int) (ty := .int) (a0 := (49, .inl (fun _ => 0))) hx hb (hts _ q73) rfl hK hP hD hS hA (fun cA => rfl) (by decide) (by decide) (Nat.le_of_ble_eq_true rfl) (Nat.le_of_ble_eq_true rfl) (Nat.le_of_ble_eq_true rfl) dX0_init_31 (fun q3 c3 H hK hP hD hS => ?_)
  have hP : va_P D vwCl [(h0, .inr (0, [.int 0, .int 0, .ref q0, .ref q1, .ref q2, .null, .null, .null, .null, .null, .int 0, .null, .null, .null, .int 0])), (q0, .inl (c0, 49, .inl (fun _ => 0))), (q1, .inl (c1, 49, .inl (fun _ => 0))), (q2, .inl (c2, 49, .inl (fun _ => 0))), (q3, .inl (c3, 49, .inl (fun _ => 0)))] H := hP
  have hD : va_D A [(h0, .inr (0, [.int 0, .int 0, .ref q0, .ref q1, .ref q2, .null, .null, .null, .null, .null, .int 0, .null, .null, .null, .int 0])), (q0, .inl (c0, 49, .inl (fun _ => 0))), (q1, .inl (c1, 49, .inl (fun _ => 0))), (q2, .inl (c2, 49, .inl (fun _ => 0))), (q3, .inl (c3, 49, .inl (fun _ => 0)))] := hD
  have hK : va_K D vwCl [(c0, .int), (c1, .int), (c2, .int), (c3, .int)] s := hK
  refine W.widen (k := 4) (n := 196) (Nat.le_of_ble_eq_true rfl) (Nat.le_of_ble_eq_true rfl) ?_
  refine va_putF (D := D) (ci := 0) (v := .ref q3) (ty := (.array .int)) (C := RX0) (T := TX0) (N := 15) hx hb hts in_X0 tyX0 tyX0_ok nmX0 hown hK hP hD hS 0 rfl rfl 5 (by decide) (hts _ q32) (fun _ h9 => h9) rfl hin rfl (by decide +kernel) rfl rfl (Nat.le_of_ble_eq_true rfl) dX0_init_33 (fun H locs hP hD hS => ?_)
  have hP : va_P D vwCl [(h0, .inr (0, [.int 0, .int 0, .ref q0, .ref q1, .ref q2, .ref q3, .null, .null, .null, .null, .int 0, .null, .null, .null, .int 0])), (q0, .inl (c0, 49, .inl (fun _ => 0))), (q1, .inl (c1, 49, .inl (fun _ => 0))), (q2, .inl (c2, 49, .inl (fun _ => 0))), (q3, .inl (c3, 49, .inl (fun _ => 0)))] H := hP
  have hD : va_D A [(h0, .inr (0, [.int 0, .int 0, .ref q0, .ref q1, .ref q2, .ref q3, .null, .null, .null, .null, .int 0, .null, .null, .null, .int 0])), (q0, .inl (c0, 49, .inl (fun _ => 0))), (q1, .inl (c1, 49, .inl (fun _ => 0))), (q2, .inl (c2, 49, .inl (fun _ => 0))), (q3, .inl (c3, 49, .inl (fun _ => 0)))] := hD
  refine lv_aload_n hx hb dX0_init_36 rfl (lv_at hl 0 rfl) ?_
  refine lv_bipush (v := 49) hx hb dX0_init_37 (by decide) ?_
  refine va_newa (atype := .int) (ty := .int) (a0 := (49, .inl (fun _ => 0))) hx hb (hts _ q73) rfl hK hP hD hS hA (fun cA => rfl) (by decide) (by decide) (Nat.le_of_ble_eq_true rfl) (Nat.le_of_ble_eq_true rfl) (Nat.le_of_ble_eq_true rfl) dX0_init_39 (fun q4 c4 H hK hP hD hS => ?_)
  have hP : va_P D vwCl [(h0, .inr (0, [.int 0, .int 0, .ref q0, .ref q1, .ref q2, .ref q3, .null, .null, .null, .null, .int 0, .null, .null, .null, .int 0])), (q0, .inl (c0, 49, .inl (fun _ => 0))), (q1, .inl (c1, 49, .inl (fun _ => 0))), (q2, .inl (c2, 49, .inl (fun _ => 0))), (q3, .inl (c3, 49, .inl (fun _ => 0))), (q4, .inl (c4, 49, .inl (fun _ => 0)))] H := hP
  have hD : va_D A [(h0, .inr (0, [.int 0, .int 0, .ref q0, .ref q1, .ref q2, .ref q3, .null, .null, .null, .null, .int 0, .null, .null, .null, .int 0])), (q0, .inl (c0, 49, .inl (fun _ => 0))), (q1, .inl (c1, 49, .inl (fun _ => 0))), (q2, .inl (c2, 49, .inl (fun _ => 0))), (q3, .inl (c3, 49, .inl (fun _ => 0))), (q4, .inl (c4, 49, .inl (fun _ => 0)))] := hD
  have hK : va_K D vwCl [(c0, .int), (c1, .int), (c2, .int), (c3, .int), (c4, .int)] s := hK
  refine W.widen (k := 5) (n := 245) (Nat.le_of_ble_eq_true rfl) (Nat.le_of_ble_eq_true rfl) ?_
  refine va_putF (D := D) (ci := 0) (v := .ref q4) (ty := (.array .int)) (C := RX0) (T := TX0) (N := 15) hx hb hts in_X0 tyX0 tyX0_ok nmX0 hown hK hP hD hS 0 rfl rfl 6 (by decide) (hts _ q33) (fun _ h9 => h9) rfl hin rfl (by decide +kernel) rfl rfl (Nat.le_of_ble_eq_true rfl) dX0_init_41 (fun H locs hP hD hS => ?_)
  have hP : va_P D vwCl [(h0, .inr (0, [.int 0, .int 0, .ref q0, .ref q1, .ref q2, .ref q3, .ref q4, .null, .null, .null, .int 0, .null, .null, .null, .int 0])), (q0, .inl (c0, 49, .inl (fun _ => 0))), (q1, .inl (c1, 49, .inl (fun _ => 0))), (q2, .inl (c2, 49, .inl (fun _ => 0))), (q3, .inl (c3, 49, .inl (fun _ => 0))), (q4, .inl (c4, 49, .inl (fun _ => 0)))] H := hP
  have hD : va_D A [(h0, .inr (0, [.int 0, .int 0, .ref q0, .ref q1, .ref q2, .ref q3, .ref q4, .null, .null, .null, .int 0, .null, .null, .null, .int 0])), (q0, .inl (c0, 49, .inl (fun _ => 0))), (q1, .inl (c1, 49, .inl (fun _ => 0))), (q2, .inl (c2, 49, .inl (fun _ => 0))), (q3, .inl (c3, 49, .inl (fun _ => 0))), (q4, .inl (c4, 49, .inl (fun _ => 0)))] := hD
  refine lv_aload_n hx hb dX0_init_44 rfl (lv_at hl 0 rfl) ?_
  refine lv_bipush (v := 49) hx hb dX0_init_45 (by decide) ?_
  refine va_newa (atype := .int) (ty := .int) (a0 := (49, .inl (fun _ => 0))) hx hb (hts _ q73) rfl hK hP hD hS hA (fun cA => rfl) (by decide) (by decide) (Nat.le_of_ble_eq_true rfl) (Nat.le_of_ble_eq_true rfl) (Nat.le_of_ble_eq_true rfl) dX0_init_47 (fun q5 c5 H hK hP hD hS => ?_)
  have hP : va_P D vwCl [(h0, .inr (0, [.int 0, .int 0, .ref q0, .ref q1, .ref q2, .ref q3, .ref q4, .null, .null, .null, .int 0, .null, .null, .null, .int 0])), (q0, .inl (c0, 49, .inl (fun _ => 0))), (q1, .inl (c1, 49, .inl (fun _ => 0))), (q2, .inl (c2, 49, .inl (fun _ => 0))), (q3, .inl (c3, 49, .inl (fun _ => 0))), (q4, .inl (c4, 49, .inl (fun _ => 0))), (q5, .inl (c5, 49, .inl (fun _ => 0)))] H := hP
  have hD : va_D A [(h0, .inr (0, [.int 0, .int 0, .ref q0, .ref q1, .ref q2, .ref q3, .ref q4, .null, .null, .null, .int 0, .null, .null, .null, .int 0])), (q0, .inl (c0, 49, .inl (fun _ => 0))), (q1, .inl (c1, 49, .inl (fun _ => 0))), (q2, .inl (c2, 49, .inl (fun _ => 0))), (q3, .inl (c3, 49, .inl (fun _ => 0))), (q4, .inl (c4, 49, .inl (fun _ => 0))), (q5, .inl (c5, 49, .inl (fun _ => 0)))] := hD
  have hK : va_K D vwCl [(c0, .int), (c1, .int), (c2, .int), (c3, .int), (c4, .int), (c5, .int)] s := hK
  refine W.widen (k := 6) (n := 294) (Nat.le_of_ble_eq_true rfl) (Nat.le_of_ble_eq_true rfl) ?_
  refine va_putF (D := D) (ci := 0) (v := .ref q5) (ty := (.array .int)) (C := RX0) (T := TX0) (N := 15) hx hb hts in_X0 tyX0 tyX0_ok nmX0 hown hK hP hD hS 0 rfl rfl 7 (by decide) (hts _ q34) (fun _ h9 => h9) rfl hin rfl (by decide +kernel) rfl rfl (Nat.le_of_ble_eq_true rfl) dX0_init_49 (fun H locs hP hD hS => ?_)
  have hP : va_P D vwCl [(h0, .inr (0, [.int 0, .int 0, .ref q0, .ref q1, .ref q2, .ref q3, .ref q4, .ref q5, .null, .null, .int 0, .null, .null, .null, .int 0])), (q0, .inl (c0, 49, .inl (fun _ => 0))), (q1, .inl (c1, 49, .inl (fun _ => 0))), (q2, .inl (c2, 49, .inl (fun _ => 0))), (q3, .inl (c3, 49, .inl (fun _ => 0))), (q4, .inl (c4, 49, .inl (fun _ => 0))), (q5, .inl (c5, 49, .inl (fun _ => 0)))] H := hP
  have hD : va_D A [(h0, .inr (0, [.int 0, .int 0, .ref q0, .ref q1, .ref q2, .ref q3, .ref q4, .ref q5, .null, .null, .int 0, .null, .null, .null, .int 0])), (q0, .inl (c0, 49, .inl (fun _ => 0))), (q1, .inl (c1, 49, .inl (fun _ => 0))), (q2, .inl (c2, 49, .inl (fun _ => 0))), (q3, .inl (c3, 49, .inl (fun _ => 0))), (q4, .inl (c4, 49, .inl (fun _ => 0))), (q5, .inl (c5, 49, .inl (fun _ => 0)))] := hD
  refine lv_aload_n hx hb dX0_init_52 rfl (lv_at hl 0 rfl) ?_
  refine lv_bipush (v := 49) hx hb dX0_init_53 (by decide) ?_
  refine va_newa (atype := .int) (ty := .int) (a0 := (49, .inl (fun _ => 0))) hx hb (hts _ q73) rfl hK hP hD hS hA (fun cA => rfl) (by decide) (by decide) (Nat.le_of_ble_eq_true rfl) (Nat.le_of_ble_eq_true rfl) (Nat.le_of_ble_eq_true rfl) dX0_init_55 (fun q6 c6 H hK hP hD hS => ?_)
  have hP : va_P D vwCl [(h0, .inr (0, [.int 0, .int 0, .ref q0, .ref q1, .ref q2, .ref q3, .ref q4, .ref q5, .null, .null, .int 0, .null, .null, .null, .int 0])), (q0, .inl (c0, 49, .inl (fun _ => 0))), (q1, .inl (c1, 49, .inl (fun _ => 0))), (q2, .inl (c2, 49, .inl (fun _ => 0))), (q3, .inl (c3, 49, .inl (fun _ => 0))), (q4, .inl (c4, 49, .inl (fun _ => 0))), (q5, .inl (c5, 49, .inl (fun _ => 0))), (q6, .inl (c6, 49, .inl (fun _ => 0)))] H := hP
  have hD : va_D A [(h0, .inr (0, [.int 0, .int 0, .ref q0, .ref q1, .ref q2, .ref q3, .ref q4, .ref q5, .null, .null, .int 0, .null, .null, .null, .int 0])), (q0, .inl (c0, 49, .inl (fun _ => 0))), (q1, .inl (c1, 49, .inl (fun _ => 0))), (q2, .inl (c2, 49, .inl (fun _ => 0))), (q3, .inl (c3, 49, .inl (fun _ => 0))), (q4, .inl (c4, 49, .inl (fun _ => 0))), (q5, .inl (c5, 49, .inl (fun _ => 0))), (q6, .inl (c6, 49, .inl (fun _ => 0)))] := hD
  have hK : va_K D vwCl [(c0, .int), (c1, .int), (c2, .int), (c3, .int), (c4, .int), (c5, .int), (c6, .int)] s := hK
  refine W.widen (k := 7) (n := 343) (Nat.le_of_ble_eq_true rfl) (Nat.le_of_ble_eq_true rfl) ?_
  refine va_putF (D := D) (ci := 0) (v := .ref q6) (ty := (.array .int)) (C := RX0) (T := TX0) (N := 15) hx hb hts in_X0 tyX0 tyX0_ok nmX0 hown hK hP hD hS 0 rfl rfl 8 (by decide) (hts _ q35) (fun _ h9 => h9) rfl hin rfl (by decide +kernel) rfl rfl (Nat.le_of_ble_eq_true rfl) dX0_init_57 (fun H locs hP hD hS => ?_)
  have hP : va_P D vwCl [(h0, .inr (0, [.int 0, .int 0, .ref q0, .ref q1, .ref q2, .ref q3, .ref q4, .ref q5, .ref q6, .null, .int 0, .null, .null, .null, .int 0])), (q0, .inl (c0, 49, .inl (fun _ => 0))), (q1, .inl (c1, 49, .inl (fun _ => 0))), (q2, .inl (c2, 49, .inl (fun _ => 0))), (q3, .inl (c3, 49, .inl (fun _ => 0))), (q4, .inl (c4, 49, .inl (fun _ => 0))), (q5, .inl (c5, 49, .inl (fun _ => 0))), (q6, .inl (c6, 49, .inl (fun _ => 0)))] H := hP
  have hD : va_D A [(h0, .inr (0, [.int 0, .int 0, .ref q0, .ref q1, .ref q2, .ref q3, .ref q4, .ref q5, .ref q6, .null, .int 0, .null, .null, .null, .int 0])), (q0, .inl (c0, 49, .inl (fun _ => 0))), (q1, .inl (c1, 49, .inl (fun _ => 0))), (q2, .inl (c2, 49, .inl (fun _ => 0))), (q3, .inl (c3, 49, .inl (fun _ => 0))), (q4, .inl (c4, 49, .inl (fun _ => 0))), (q5, .inl (c5, 49, .inl (fun _ => 0))), (q6, .inl (c6, 49, .inl (fun _ => 0)))] := hD
  refine lv_aload_n hx hb dX0_init_60 rfl (lv_at hl 0 rfl) ?_
  refine lv_bipush (v := 49) hx hb dX0_init_61 (by decide) ?_
  refine va_newa (atype := .int) (ty := .int) (a0 := (49, .inl (fun _ => 0))) hx hb (hts _ q73) rfl hK hP hD hS hA (fun cA => rfl) (by decide) (by decide) (Nat.le_of_ble_eq_true rfl) (Nat.le_of_ble_eq_true rfl) (Nat.le_of_ble_eq_true rfl) dX0_init_63 (fun q7 c7 H hK hP hD hS => ?_)
  have hP : va_P D vwCl [(h0, .inr (0, [.int 0, .int 0, .ref q0, .ref q1, .ref q2, .ref q3, .ref q4, .ref q5, .ref q6, .null, .int 0, .null, .null, .null, .int 0])), (q0, .inl (c0, 49, .inl (fun _ => 0))), (q1, .inl (c1, 49, .inl (fun _ => 0))), (q2, .inl (c2, 49, .inl (fun _ => 0))), (q3, .inl (c3, 49, .inl (fun _ => 0))), (q4, .inl (c4, 49, .inl (fun _ => 0))), (q5, .inl (c5, 49, .inl (fun _ => 0))), (q6, .inl (c6, 49, .inl (fun _ => 0))), (q7, .inl (c7, 49, .inl (fun _ => 0)))] H := hP
  have hD : va_D A [(h0, .inr (0, [.int 0, .int 0, .ref q0, .ref q1, .ref q2, .ref q3, .ref q4, .ref q5, .ref q6, .null, .int 0, .null, .null, .null, .int 0])), (q0, .inl (c0, 49, .inl (fun _ => 0))), (q1, .inl (c1, 49, .inl (fun _ => 0))), (q2, .inl (c2, 49, .inl (fun _ => 0))), (q3, .inl (c3, 49, .inl (fun _ => 0))), (q4, .inl (c4, 49, .inl (fun _ => 0))), (q5, .inl (c5, 49, .inl (fun _ => 0))), (q6, .inl (c6, 49, .inl (fun _ => 0))), (q7, .inl (c7, 49, .inl (fun _ => 0)))] := hD
  have hK : va_K D vwCl [(c0, .int), (c1, .int), (c2, .int), (c3, .int), (c4, .int), (c5, .int), (c6, .int), (c7, .int)] s := hK
  refine W.widen (k := 8) (n := 392) (Nat.le_of_ble_eq_true rfl) (Nat.le_of_ble_eq_true rfl) ?_
  refine va_putF (D := D) (ci := 0) (v := .ref q7) (ty := (.array .int)) (C := RX0) (T := TX0) (N := 15) hx hb hts in_X0 tyX0 tyX0_ok nmX0 hown hK hP hD hS 0 rfl rfl 9 (by decide) (hts _ q36) (fun _ h9 => h9) rfl hin rfl (by decide +kernel) rfl rfl (Nat.le_of_ble_eq_true rfl) dX0_init_65 (fun H locs hP hD hS => ?_)
  have hP : va_P D vwCl [(h0, .inr (0, [.int 0, .int 0, .ref q0, .ref q1, .ref q2, .ref q3, .ref q4, .ref q5, .ref q6, .ref q7, .int 0, .null, .null, .null, .int 0])), (q0, .inl (c0, 49, .inl (fun _ => 0))), (q1, .inl (c1, 49, .inl (fun _ => 0))), (q2, .inl (c2, 49, .inl (fun _ => 0))), (q3, .inl (c3, 49, .inl (fun _ => 0))), (q4, .inl (c4, 49, .inl (fun _ => 0))), (q5, .inl (c5, 49, .inl (fun _ => 0))), (q6, .inl (c6, 49, .inl (fun _ => 0))), (q7, .inl (c7, 49, .inl (fun _ => 0)))] H := hP
  have hD : va_D A [(h0, .inr (0, [.int 0, .int 0, .ref q0, .ref q1, .ref q2, .ref q3, .ref q4, .ref q5, .ref q6, .ref q7, .int 0, .null, .null, .null, .int 0])), (q0, .inl (c0, 49, .inl (fun _ => 0))), (q1, .inl (c1, 49, .inl (fun _ => 0))), (q2, .inl (c2, 49, .inl (fun _ => 0))), (q3, .inl (c3, 49, .inl (fun _ => 0))), (q4, .inl (c4, 49, .inl (fun _ => 0))), (q5, .inl (c5, 49, .inl (fun _ => 0))), (q6, .inl (c6, 49, .inl (fun _ => 0))), (q7, .inl (c7, 49, .inl (fun _ => 0)))] := hD
  refine lv_aload_n hx hb dX0_init_68 rfl (lv_at hl 0 rfl) ?_
  refine lv_bipush (v := 32) hx hb dX0_init_69 (by decide) ?_
  refine va_newa (atype := .boolean) (ty := .boolean) (a0 := (32, .inl (fun _ => 0))) hx hb (hts _ q74) rfl hK hP hD hS hA (fun cA => rfl) (by decide) (by decide) (Nat.le_of_ble_eq_true rfl) (Nat.le_of_ble_eq_true rfl) (Nat.le_of_ble_eq_true rfl) dX0_init_71 (fun q8 c8 H hK hP hD hS => ?_)
  have hP : va_P D vwCl [(h0, .inr (0, [.int 0, .int 0, .ref q0, .ref q1, .ref q2, .ref q3, .ref q4, .ref q5, .ref q6, .ref q7, .int 0, .null, .null, .null, .int 0])), (q0, .inl (c0, 49, .inl (fun _ => 0))), (q1, .inl (c1, 49, .inl (fun _ => 0))), (q2, .inl (c2, 49, .inl (fun _ => 0))), (q3, .inl (c3, 49, .inl (fun _ => 0))), (q4, .inl (c4, 49, .inl (fun _ => 0))), (q5, .inl (c5, 49, .inl (fun _ => 0))), (q6, .inl (c6, 49, .inl (fun _ => 0))), (q7, .inl (c7, 49, .inl (fun _ => 0))), (q8, .inl (c8, 32, .inl (fun _ => 0)))] H := hP
  have hD : va_D A [(h0, .inr (0, [.int 0, .int 0, .ref q0, .ref q1, .ref q2, .ref q3, .ref q4, .ref q5, .ref q6, .ref q7, .int 0, .null, .null, .null, .int 0])), (q0, .inl (c0, 49, .inl (fun _ => 0))), (q1, .inl (c1, 49, .inl (fun _ => 0))), (q2, .inl (c2, 49, .inl (fun _ => 0))), (q3, .inl (c3, 49, .inl (fun _ => 0))), (q4, .inl (c4, 49, .inl (fun _ => 0))), (q5, .inl (c5, 49, .inl (fun _ => 0))), (q6, .inl (c6, 49, .inl (fun _ => 0))), (q7, .inl (c7, 49, .inl (fun _ => 0))), (q8, .inl (c8, 32, .inl (fun _ => 0)))] := hD
  have hK : va_K D vwCl [(c0, .int), (c1, .int), (c2, .int), (c3, .int), (c4, .int), (c5, .int), (c6, .int), (c7, .int), (c8, .boolean)] s := hK
  refine W.widen (k := 9) (n := 424) (Nat.le_of_ble_eq_true rfl) (Nat.le_of_ble_eq_true rfl) ?_
  refine va_putF (D := D) (ci := 0) (v := .ref q8) (ty := (.array .boolean)) (C := RX0) (T := TX0) (N := 15) hx hb hts in_X0 tyX0 tyX0_ok nmX0 hown hK hP hD hS 0 rfl rfl 11 (by decide) (hts _ q38) (fun _ h9 => h9) rfl hin rfl (by decide +kernel) rfl rfl (Nat.le_of_ble_eq_true rfl) dX0_init_73 (fun H locs hP hD hS => ?_)
  have hP : va_P D vwCl [(h0, .inr (0, [.int 0, .int 0, .ref q0, .ref q1, .ref q2, .ref q3, .ref q4, .ref q5, .ref q6, .ref q7, .int 0, .ref q8, .null, .null, .int 0])), (q0, .inl (c0, 49, .inl (fun _ => 0))), (q1, .inl (c1, 49, .inl (fun _ => 0))), (q2, .inl (c2, 49, .inl (fun _ => 0))), (q3, .inl (c3, 49, .inl (fun _ => 0))), (q4, .inl (c4, 49, .inl (fun _ => 0))), (q5, .inl (c5, 49, .inl (fun _ => 0))), (q6, .inl (c6, 49, .inl (fun _ => 0))), (q7, .inl (c7, 49, .inl (fun _ => 0))), (q8, .inl (c8, 32, .inl (fun _ => 0)))] H := hP
  have hD : va_D A [(h0, .inr (0, [.int 0, .int 0, .ref q0, .ref q1, .ref q2, .ref q3, .ref q4, .ref q5, .ref q6, .ref q7, .int 0, .ref q8, .null, .null, .int 0])), (q0, .inl (c0, 49, .inl (fun _ => 0))), (q1, .inl (c1, 49, .inl (fun _ => 0))), (q2, .inl (c2, 49, .inl (fun _ => 0))), (q3, .inl (c3, 49, .inl (fun _ => 0))), (q4, .inl (c4, 49, .inl (fun _ => 0))), (q5, .inl (c5, 49, .inl (fun _ => 0))), (q6, .inl (c6, 49, .inl (fun _ => 0))), (q7, .inl (c7, 49, .inl (fun _ => 0))), (q8, .inl (c8, 32, .inl (fun _ => 0)))] := hD
  refine lv_aload_n hx hb dX0_init_76 rfl (lv_at hl 0 rfl) ?_
  refine lv_bipush (v := 32) hx hb dX0_init_77 (by decide) ?_
  refine va_newa (atype := .int) (ty := .int) (a0 := (32, .inl (fun _ => 0))) hx hb (hts _ q73) rfl hK hP hD hS hA (fun cA => rfl) (by decide) (by decide) (Nat.le_of_ble_eq_true rfl) (Nat.le_of_ble_eq_true rfl) (Nat.le_of_ble_eq_true rfl) dX0_init_79 (fun q9 c9 H hK hP hD hS => ?_)
  have hP : va_P D vwCl [(h0, .inr (0, [.int 0, .int 0, .ref q0, .ref q1, .ref q2, .ref q3, .ref q4, .ref q5, .ref q6, .ref q7, .int 0, .ref q8, .null, .null, .int 0])), (q0, .inl (c0, 49, .inl (fun _ => 0))), (q1, .inl (c1, 49, .inl (fun _ => 0))), (q2, .inl (c2, 49, .inl (fun _ => 0))), (q3, .inl (c3, 49, .inl (fun _ => 0))), (q4, .inl (c4, 49, .inl (fun _ => 0))), (q5, .inl (c5, 49, .inl (fun _ => 0))), (q6, .inl (c6, 49, .inl (fun _ => 0))), (q7, .inl (c7, 49, .inl (fun _ => 0))), (q8, .inl (c8, 32, .inl (fun _ => 0))), (q9, .inl (c9, 32, .inl (fun _ => 0)))] H := hP
  have hD : va_D A [(h0, .inr (0, [.int 0, .int 0, .ref q0, .ref q1, .ref q2, .ref q3, .ref q4, .ref q5, .ref q6, .ref q7, .int 0, .ref q8, .null, .null, .int 0])), (q0, .inl (c0, 49, .inl (fun _ => 0))), (q1, .inl (c1, 49, .inl (fun _ => 0))), (q2, .inl (c2, 49, .inl (fun _ => 0))), (q3, .inl (c3, 49, .inl (fun _ => 0))), (q4, .inl (c4, 49, .inl (fun _ => 0))), (q5, .inl (c5, 49, .inl (fun _ => 0))), (q6, .inl (c6, 49, .inl (fun _ => 0))), (q7, .inl (c7, 49, .inl (fun _ => 0))), (q8, .inl (c8, 32, .inl (fun _ => 0))), (q9, .inl (c9, 32, .inl (fun _ => 0)))] := hD
  have hK : va_K D vwCl [(c0, .int), (c1, .int), (c2, .int), (c3, .int), (c4, .int), (c5, .int), (c6, .int), (c7, .int), (c8, .boolean), (c9, .int)] s := hK
  refine W.widen (k := 10) (n := 456) (Nat.le_of_ble_eq_true rfl) (Nat.le_of_ble_eq_true rfl) ?_
  refine va_putF (D := D) (ci := 0) (v := .ref q9) (ty := (.array .int)) (C := RX0) (T := TX0) (N := 15) hx hb hts in_X0 tyX0 tyX0_ok nmX0 hown hK hP hD hS 0 rfl rfl 12 (by decide) (hts _ q39) (fun _ h9 => h9) rfl hin rfl (by decide +kernel) rfl rfl (Nat.le_of_ble_eq_true rfl) dX0_init_81 (fun H locs hP hD hS => ?_)
  have hP : va_P D vwCl [(h0, .inr (0, [.int 0, .int 0, .ref q0, .ref q1, .ref q2, .ref q3, .ref q4, .ref q5, .ref q6, .ref q7, .int 0, .ref q8, .ref q9, .null, .int 0])), (q0, .inl (c0, 49, .inl (fun _ => 0))), (q1, .inl (c1, 49, .inl (fun _ => 0))), (q2, .inl (c2, 49, .inl (fun _ => 0))), (q3, .inl (c3, 49, .inl (fun _ => 0))), (q4, .inl (c4, 49, .inl (fun _ => 0))), (q5, .inl (c5, 49, .inl (fun _ => 0))), (q6, .inl (c6, 49, .inl (fun _ => 0))), (q7, .inl (c7, 49, .inl (fun _ => 0))), (q8, .inl (c8, 32, .inl (fun _ => 0))), (q9, .inl (c9, 32, .inl (fun _ => 0)))] H := hP
  have hD : va_D A [(h0, .inr (0, [.int 0, .int 0, .ref q0, .ref q1, .ref q2, .ref q3, .ref q4, .ref q5, .ref q6, .ref q7, .int 0, .ref q8, .ref q9, .null, .int 0])), (q0, .inl (c0, 49, .inl (fun _ => 0))), (q1, .inl (c1, 49, .inl (fun _ => 0))), (q2, .inl (c2, 49, .inl (fun _ => 0))), (q3, .inl (c3, 49, .inl (fun _ => 0))), (q4, .inl (c4, 49, .inl (fun _ => 0))), (q5, .inl (c5, 49, .inl (fun _ => 0))), (q6, .inl (c6, 49, .inl (fun _ => 0))), (q7, .inl (c7, 49, .inl (fun _ => 0))), (q8, .inl (c8, 32, .inl (fun _ => 0))), (q9, .inl (c9, 32, .inl (fun _ => 0)))] := hD
  refine lv_aload_n hx hb dX0_init_84 rfl (lv_at hl 0 rfl) ?_
  refine lv_bipush (v := 32) hx hb dX0_init_85 (by decide) ?_
  refine va_newa (atype := .long) (ty := .long) (a0 := (32, .inr (.inl (fun _ => 0)))) hx hb (hts _ q75) rfl hK hP hD hS hA (fun cA => rfl) (by decide) (by decide) (Nat.le_of_ble_eq_true rfl) (Nat.le_of_ble_eq_true rfl) (Nat.le_of_ble_eq_true rfl) dX0_init_87 (fun q10 c10 H hK hP hD hS => ?_)
  have hP : va_P D vwCl [(h0, .inr (0, [.int 0, .int 0, .ref q0, .ref q1, .ref q2, .ref q3, .ref q4, .ref q5, .ref q6, .ref q7, .int 0, .ref q8, .ref q9, .null, .int 0])), (q0, .inl (c0, 49, .inl (fun _ => 0))), (q1, .inl (c1, 49, .inl (fun _ => 0))), (q2, .inl (c2, 49, .inl (fun _ => 0))), (q3, .inl (c3, 49, .inl (fun _ => 0))), (q4, .inl (c4, 49, .inl (fun _ => 0))), (q5, .inl (c5, 49, .inl (fun _ => 0))), (q6, .inl (c6, 49, .inl (fun _ => 0))), (q7, .inl (c7, 49, .inl (fun _ => 0))), (q8, .inl (c8, 32, .inl (fun _ => 0))), (q9, .inl (c9, 32, .inl (fun _ => 0))), (q10, .inl (c10, 32, .inr (.inl (fun _ => 0))))] H := hP
  have hD : va_D A [(h0, .inr (0, [.int 0, .int 0, .ref q0, .ref q1, .ref q2, .ref q3, .ref q4, .ref q5, .ref q6, .ref q7, .int 0, .ref q8, .ref q9, .null, .int 0])), (q0, .inl (c0, 49, .inl (fun _ => 0))), (q1, .inl (c1, 49, .inl (fun _ => 0))), (q2, .inl (c2, 49, .inl (fun _ => 0))), (q3, .inl (c3, 49, .inl (fun _ => 0))), (q4, .inl (c4, 49, .inl (fun _ => 0))), (q5, .inl (c5, 49, .inl (fun _ => 0))), (q6, .inl (c6, 49, .inl (fun _ => 0))), (q7, .inl (c7, 49, .inl (fun _ => 0))), (q8, .inl (c8, 32, .inl (fun _ => 0))), (q9, .inl (c9, 32, .inl (fun _ => 0))), (q10, .inl (c10, 32, .inr (.inl (fun _ => 0))))] := hD
  have hK : va_K D vwCl [(c0, .int), (c1, .int), (c2, .int), (c3, .int), (c4, .int), (c5, .int), (c6, .int), (c7, .int), (c8, .boolean), (c9, .int), (c10, .long)] s := hK
  refine W.widen (k := 11) (n := 488) (Nat.le_of_ble_eq_true rfl) (Nat.le_of_ble_eq_true rfl) ?_
  refine va_putF (D := D) (ci := 0) (v := .ref q10) (ty := (.array .long)) (C := RX0) (T := TX0) (N := 15) hx hb hts in_X0 tyX0 tyX0_ok nmX0 hown hK hP hD hS 0 rfl rfl 13 (by decide) (hts _ q40) (fun _ h9 => h9) rfl hin rfl (by decide +kernel) rfl rfl (Nat.le_of_ble_eq_true rfl) dX0_init_89 (fun H locs hP hD hS => ?_)
  have hP : va_P D vwCl [(h0, .inr (0, [.int 0, .int 0, .ref q0, .ref q1, .ref q2, .ref q3, .ref q4, .ref q5, .ref q6, .ref q7, .int 0, .ref q8, .ref q9, .ref q10, .int 0])), (q0, .inl (c0, 49, .inl (fun _ => 0))), (q1, .inl (c1, 49, .inl (fun _ => 0))), (q2, .inl (c2, 49, .inl (fun _ => 0))), (q3, .inl (c3, 49, .inl (fun _ => 0))), (q4, .inl (c4, 49, .inl (fun _ => 0))), (q5, .inl (c5, 49, .inl (fun _ => 0))), (q6, .inl (c6, 49, .inl (fun _ => 0))), (q7, .inl (c7, 49, .inl (fun _ => 0))), (q8, .inl (c8, 32, .inl (fun _ => 0))), (q9, .inl (c9, 32, .inl (fun _ => 0))), (q10, .inl (c10, 32, .inr (.inl (fun _ => 0))))] H := hP
  have hD : va_D A [(h0, .inr (0, [.int 0, .int 0, .ref q0, .ref q1, .ref q2, .ref q3, .ref q4, .ref q5, .ref q6, .ref q7, .int 0, .ref q8, .ref q9, .ref q10, .int 0])), (q0, .inl (c0, 49, .inl (fun _ => 0))), (q1, .inl (c1, 49, .inl (fun _ => 0))), (q2, .inl (c2, 49, .inl (fun _ => 0))), (q3, .inl (c3, 49, .inl (fun _ => 0))), (q4, .inl (c4, 49, .inl (fun _ => 0))), (q5, .inl (c5, 49, .inl (fun _ => 0))), (q6, .inl (c6, 49, .inl (fun _ => 0))), (q7, .inl (c7, 49, .inl (fun _ => 0))), (q8, .inl (c8, 32, .inl (fun _ => 0))), (q9, .inl (c9, 32, .inl (fun _ => 0))), (q10, .inl (c10, 32, .inr (.inl (fun _ => 0))))] := hD
  refine lv_aload_n hx hb dX0_init_92 rfl (lv_at hl 0 rfl) ?_
  refine lv_sipush (v := 12345) hx hb dX0_init_93 (by decide) ?_
  refine va_put (D := D) (ci := 0) (v := .int 12345) (ty := .int) (C := RX0) (T := TX0) (N := 15) hx hb hts in_X0 tyX0 tyX0_ok nmX0 hown hK hP hD hS 0 rfl rfl 14 (by decide) (hts _ q41) (fun _ h9 => h9) rfl (by decide +kernel) rfl rfl (Nat.le_of_ble_eq_true rfl) dX0_init_96 (fun H locs hP hD hS => ?_)
  have hP : va_P D vwCl [(h0, .inr (0, [.int 0, .int 0, .ref q0, .ref q1, .ref q2, .ref q3, .ref q4, .ref q5, .ref q6, .ref q7, .int 0, .ref q8, .ref q9, .ref q10, .int 12345])), (q0, .inl (c0, 49, .inl (fun _ => 0))), (q1, .inl (c1, 49, .inl (fun _ => 0))), (q2, .inl (c2, 49, .inl (fun _ => 0))), (q3, .inl (c3, 49, .inl (fun _ => 0))), (q4, .inl (c4, 49, .inl (fun _ => 0))), (q5, .inl (c5, 49, .inl (fun _ => 0))), (q6, .inl (c6, 49, .inl (fun _ => 0))), (q7, .inl (c7, 49, .inl (fun _ => 0))), (q8, .inl (c8, 32, .inl (fun _ => 0))), (q9, .inl (c9, 32, .inl (fun _ => 0))), (q10, .inl (c10, 32, .inr (.inl (fun _ => 0))))] H := hP
  have hD : va_D A [(h0, .inr (0, [.int 0, .int 0, .ref q0, .ref q1, .ref q2, .ref q3, .ref q4, .ref q5, .ref q6, .ref q7, .int 0, .ref q8, .ref q9, .ref q10, .int 12345])), (q0, .inl (c0, 49, .inl (fun _ => 0))), (q1, .inl (c1, 49, .inl (fun _ => 0))), (q2, .inl (c2, 49, .inl (fun _ => 0))), (q3, .inl (c3, 49, .inl (fun _ => 0))), (q4, .inl (c4, 49, .inl (fun _ => 0))), (q5, .inl (c5, 49, .inl (fun _ => 0))), (q6, .inl (c6, 49, .inl (fun _ => 0))), (q7, .inl (c7, 49, .inl (fun _ => 0))), (q8, .inl (c8, 32, .inl (fun _ => 0))), (q9, .inl (c9, 32, .inl (fun _ => 0))), (q10, .inl (c10, 32, .inr (.inl (fun _ => 0))))] := hD
  exact W.vret hx hb hr (fun t ht hW => ⟨⟨(fun k => if k = 0 then h0 else if k = 2 then q0 else if k = 3 then q1 else if k = 4 then q2 else if k = 5 then q3 else if k = 6 then q4 else if k = 7 then q5 else if k = 8 then q6 else if k = 9 then q7 else if k = 11 then q8 else if k = 12 then q9 else if k = 13 then q10 else 0, fun k => if k = 2 then c0 else if k = 3 then c1 else if k = 4 then c2 else if k = 5 then c3 else if k = 6 then c4 else if k = 7 then c5 else if k = 8 then c6 else if k = 9 then c7 else if k = 11 then c8 else if k = 12 then c9 else if k = 13 then c10 else c0), rfl, rfl, by rw [ht]; exact hP, va_K.moved hW.alike hK, hD⟩, hS.F ht⟩) hS.2.2 dX0_init_99
set_option maxHeartbeats 4000000 in
set_option maxRecDepth 100000 in
/-- the constructor: its arrays made, all zero -/
theorem mB_init (l : Launch) (D : va_G) (h0 sz : Nat) : Met l yX1_init (ws_ yX1_init cX1_init 1 none) { frames := 1, cells := 5, slots := 160, locals := 12 } (va_Pc [.ref h0] (fun U => U.heap.size = sz ∧ va_P D vwCl [(h0, .inr (1, [.null, .int 0, .null, .null, .null, .null, .int 0]))] U.heap ∧ va_K D vwCl [] U ∧ va_D (fun _ => True) [(h0, .inr (1, [.null, .int 0, .null, .null, .null, .null, .int 0]))])) (va_Qv (fun (u : (Nat → Nat) × (Nat → ClassId)) => u.1 0 = h0) (fun u t => va_P D vwCl (wB u.1 u.2 M0 Z0) t.heap ∧ va_K D vwCl (tB u.2) t ∧ va_D (va_A [(h0, .inr (1, [.null, .int 0, .null, .null, .null, .null, .int 0]))] sz) (wB u.1 u.2 M0 Z0)) (va_A [(h0, .inr (1, [.null, .int 0, .null, .null, .null, .null, .int 0]))] sz)) 5 160 (va_A [(h0, .inr (1, [.null, .int 0, .null, .null, .null, .null, .int 0]))] sz) := by
  refine Met.ofW (cc := cX1_init) (maxL := 1) (ret := none) (by decide) rfl ?_
  intro p e s m args below meth c s₁ B hml hv
  obtain ⟨rfl, hsz, hP, hK, hD0⟩ := hv
  have hx := B.exec
  have hb := B.bytes
  have hr := B.returns
  have hts := atoms_spec (ws := ws_ yX1_init cX1_init 1 none) B.pre
  have hts : ∀ w ∈ lw_all, w.before _ s = true := fun w h => hts w (List.mem_cons_of_mem _ h)
  have hown : s.vm.findClass RX1 = some m.cls := findClass_of_methodNamed B.named
  have hlocks := B.notSynchronized
  have hin : meth.name = "<init>" := (name_of_methodNamed B.named B.method).1
  subst hsz
  have hD := hD0.self (sz := s.heap.size)
  generalize hAe : va_A [(h0, .inr (1, [.null, .int 0, .null, .null, .null, .null, .int 0]))] s.heap.size = A at hD ⊢
  have hA : ∀ q : Nat, s.heap.size ≤ q → A q := fun q h => by rw [← hAe]; exact Or.inr h
  have hS : va_S A s.heap s.heap [] := va_S.rf
  have hl := lv_entry ([.ref h0]) (n := 1) (Nat.le_of_ble_eq_true rfl)
  rw [lg_entry_eq]
  generalize (lg_sl ([.ref h0]) ++ List.replicate (1 - (lg_sl ([.ref h0])).length) Slot.unset).toArray = ls at hl ⊢
  have hl : lv_has ls 1 [(0, .ref h0)] := hl
  refine lv_aload_n hx hb dX1_init_0 rfl (lv_at hl 0 rfl) ?_
  refine W.objInit hx hb hown (hts _ q194) (hts _ q25) (hts _ q26) rfl (by rw [hml]; exact hl.1) rfl dX1_init_1 (Nat.le_of_ble_eq_true rfl) (Nat.le_of_ble_eq_true rfl) ?_
  refine W.eq (g2 := F0 m 4 ls []) rfl ?_
  refine lv_aload_n hx hb dX1_init_4 rfl (lv_at hl 0 rfl) ?_
  refine lv_bipush (v := 32) hx hb dX1_init_5 (by decide) ?_
  refine va_newa (atype := .int) (ty := .int) (a0 := (32, .inl (fun _ => 0))) hx hb (hts _ q73) rfl hK hP hD hS hA (fun cA => rfl) (by decide) (by decide) (Nat.le_of_ble_eq_true rfl) (Nat.le_of_ble_eq_true rfl) (Nat.le_of_ble_eq_true rfl) dX1_init_7 (fun q0 c0 H hK hP hD hS => ?_)
  have hP : va_P D vwCl [(h0, .inr (1, [.null, .int 0, .null, .null, .null, .null, .int 0])), (q0, .inl (c0, 32, .inl (fun _ => 0)))] H := hP
  have hD : va_D A [(h0, .inr (1, [.null, .int 0, .null, .null, .null, .null, .int 0])), (q0, .inl (c0, 32, .inl (fun _ => 0)))] := hD
  have hK : va_K D vwCl [(c0, .int)] s := hK
  refine W.widen (k := 1) (n := 32) (Nat.le_of_ble_eq_true rfl) (Nat.le_of_ble_eq_true rfl) ?_
  refine va_putF (D := D) (ci := 1) (v := .ref q0) (ty := (.array .int)) (C := RX1) (T := TX1) (N := 7) hx hb hts in_X1 tyX1 tyX1_ok nmX1 hown hK hP hD hS 0 rfl rfl 0 (by decide) (hts _ q195) (fun _ h9 => h9) rfl hin rfl (by decide +kernel) rfl rfl (Nat.le_of_ble_eq_true rfl) dX1_init_9 (fun H locs hP hD hS => ?_)
  have hP : va_P D vwCl [(h0, .inr (1, [.ref q0, .int 0, .null, .null, .null, .null, .int 0])), (q0, .inl (c0, 32, .inl (fun _ => 0)))] H := hP
  have hD : va_D A [(h0, .inr (1, [.ref q0, .int 0, .null, .null, .null, .null, .int 0])), (q0, .inl (c0, 32, .inl (fun _ => 0)))] := hD
  refine lv_aload_n hx hb dX1_init_12 rfl (lv_at hl 0 rfl) ?_
  refine lv_bipush (v := 32) hx hb dX1_init_13 (by decide) ?_
  refine va_newa (atype := .boolean) (ty := .boolean) (a0 := (32, .inl (fun _ => 0))) hx hb (hts _ q74) rfl hK hP hD hS hA (fun cA => rfl) (by decide) (by decide) (Nat.le_of_ble_eq_true rfl) (Nat.le_of_ble_eq_true rfl) (Nat.le_of_ble_eq_true rfl) dX1_init_15 (fun q1 c1 H hK hP hD hS => ?_)
  have hP : va_P D vwCl [(h0, .inr (1, [.ref q0, .int 0, .null, .null, .null, .null, .int 0])), (q0, .inl (c0, 32, .inl (fun _ => 0))), (q1, .inl (c1, 32, .inl (fun _ => 0)))] H := hP
  have hD : va_D A [(h0, .inr (1, [.ref q0, .int 0, .null, .null, .null, .null, .int 0])), (q0, .inl (c0, 32, .inl (fun _ => 0))), (q1, .inl (c1, 32, .inl (fun _ => 0)))] := hD
  have hK : va_K D vwCl [(c0, .int), (c1, .boolean)] s := hK
  refine W.widen (k := 2) (n := 64) (Nat.le_of_ble_eq_true rfl) (Nat.le_of_ble_eq_true rfl) ?_
  refine va_putF (D := D) (ci := 1) (v := .ref q1) (ty := (.array .boolean)) (C := RX1) (T := TX1) (N := 7) hx hb hts in_X1 tyX1 tyX1_ok nmX1 hown hK hP hD hS 0 rfl rfl 2 (by decide) (hts _ q197) (fun _ h9 => h9) rfl hin rfl (by decide +kernel) rfl rfl (Nat.le_of_ble_eq_true rfl) dX1_init_17 (fun H locs hP hD hS => ?_)
  have hP : va_P D vwCl [(h0, .inr (1, [.ref q0, .int 0, .ref q1, .null, .null, .null, .int 0])), (q0, .inl (c0, 32, .inl (fun _ => 0))), (q1, .inl (c1, 32, .inl (fun _ => 0)))] H := hP
  have hD : va_D A [(h0, .inr (1, [.ref q0, .int 0, .ref q1, .null, .null, .null, .int 0])), (q0, .inl (c0, 32, .inl (fun _ => 0))), (q1, .inl (c1, 32, .inl (fun _ => 0)))] := hD
  refine lv_aload_n hx hb dX1_init_20 rfl (lv_at hl 0 rfl) ?_
  refine lv_bipush (v := 32) hx hb dX1_init_21 (by decide) ?_
  refine va_newa (atype := .int) (ty := .int) (a0 := (32, .inl (fun _ => 0))) hx hb (hts _ q73) rfl hK hP hD hS hA (fun cA => rfl) (by decide) (by decide) (Nat.le_of_ble_eq_true rfl) (Nat.le_of_ble_eq_true rfl) (Nat.le_of_ble_eq_true rfl) dX1_init_23 (fun q2 c2 H hK hP hD hS => ?_)
  have hP : va_P D vwCl [(h0, .inr (1, [.ref q0, .int 0, .ref q1, .null, .null, .null, .int 0])), (q0, .inl (c0, 32, .inl (fun _ => 0))), (q1, .inl (c1, 32, .inl (fun _ => 0))), (q2, .inl (c2, 32, .inl (fun _ => 0)))] H := hP
  have hD : va_D A [(h0, .inr (1, [.ref q0, .int 0, .ref q1, .null, .null, .null, .int 0])), (q0, .inl (c0, 32, .inl (fun _ => 0))), (q1, .inl (c1, 32, .inl (fun _ => 0))), (q2, .inl (c2, 32, .inl (fun _ => 0)))] := hD
  have hK : va_K D vwCl [(c0, .int), (c1, .boolean), (c2, .int)] s := hK
  refine W.widen (k := 3) (n := 96) (Nat.le_of_ble_eq_true rfl) (Nat.le_of_ble_eq_true rfl) ?_
  refine va_putF (D := D) (ci := 1) (v := .ref q2) (ty := (.array .int)) (C := RX1) (T := TX1) (N := 7) hx hb hts in_X1 tyX1 tyX1_ok nmX1 hown hK hP hD hS 0 rfl rfl 3 (by decide) (hts _ q198) (fun _ h9 => h9) rfl hin rfl (by decide +kernel) rfl rfl (Nat.le_of_ble_eq_true rfl) dX1_init_25 (fun H locs hP hD hS => ?_)
  have hP : va_P D vwCl [(h0, .inr (1, [.ref q0, .int 0, .ref q1, .ref q2, .null, .null, .int 0])), (q0, .inl (c0, 32, .inl (fun _ => 0))), (q1, .inl (c1, 32, .inl (fun _ => 0))), (q2, .inl (c2, 32, .inl (fun _ => 0)))] H := hP
  have hD : va_D A [(h0, .inr (1, [.ref q0, .int 0, .ref q1, .ref q2, .null, .null, .int 0])), (q0, .inl (c0, 32, .inl (fun _ => 0))), (q1, .inl (c1, 32, .inl (fun _ => 0))), (q2, .inl (c2, 32, .inl (fun _ => 0)))] := hD
  refine lv_aload_n hx hb dX1_init_28 rfl (lv_at hl 0 rfl) ?_
  refine lv_bipush (v := 32) hx hb dX1_init_29 (by decide) ?_
  refine va_newa (atype := .int) (ty := .int) (a0 := (32, .inl (fun _ => 0))) hx hb (hts _ q73) rfl hK hP hD hS hA (fun cA => rfl) (by decide) (by decide) (Nat.le_of_ble_eq_true rfl) (Nat.le_of_ble_eq_true rfl) (Nat.le_of_ble_eq_true rfl) dX1_init_31 (fun q3 c3 H hK hP hD hS => ?_)
  have hP : va_P D vwCl [(h0, .inr (1, [.ref q0, .int 0, .ref q1, .ref q2, .null, .null, .int 0])), (q0, .inl (c0, 32, .inl (fun _ => 0))), (q1, .inl (c1, 32, .inl (fun _ => 0))), (q2, .inl (c2, 32, .inl (fun _ => 0))), (q3, .inl (c3, 32, .inl (fun _ => 0)))] H := hP
  have hD : va_D A [(h0, .inr (1, [.ref q0, .int 0, .ref q1, .ref q2, .null, .null, .int 0])), (q0, .inl (c0, 32, .inl (fun _ => 0))), (q1, .inl (c1, 32, .inl (fun _ => 0))), (q2, .inl (c2, 32, .inl (fun _ => 0))), (q3, .inl (c3, 32, .inl (fun _ => 0)))] := hD
  have hK : va_K D vwCl [(c0, .int), (c1, .boolean), (c2, .int), (c3, .int)] s := hK
  refine W.widen (k := 4) (n := 128) (Nat.le_of_ble_eq_true rfl) (Nat.le_of_ble_eq_true rfl) ?_
  refine va_putF (D := D) (ci := 1) (v := .ref q3) (ty := (.array .int)) (C := RX1) (T := TX1) (N := 7) hx hb hts in_X1 tyX1 tyX1_ok nmX1 hown hK hP hD hS 0 rfl rfl 4 (by decide) (hts _ q199) (fun _ h9 => h9) rfl hin rfl (by decide +kernel) rfl rfl (Nat.le_of_ble_eq_true rfl) dX1_init_33 (fun H locs hP hD hS => ?_)
  have hP : va_P D vwCl [(h0, .inr (1, [.ref q0, .int 0, .ref q1, .ref q2, .ref q3, .null, .int 0])), (q0, .inl (c0, 32, .inl (fun _ => 0))), (q1, .inl (c1, 32, .inl (fun _ => 0))), (q2, .inl (c2, 32, .inl (fun _ => 0))), (q3, .inl (c3, 32, .inl (fun _ => 0)))] H := hP
  have hD : va_D A [(h0, .inr (1, [.ref q0, .int 0, .ref q1, .ref q2, .ref q3, .null, .int 0])), (q0, .inl (c0, 32, .inl (fun _ => 0))), (q1, .inl (c1, 32, .inl (fun _ => 0))), (q2, .inl (c2, 32, .inl (fun _ => 0))), (q3, .inl (c3, 32, .inl (fun _ => 0)))] := hD
  refine lv_aload_n hx hb dX1_init_36 rfl (lv_at hl 0 rfl) ?_
  refine lv_bipush (v := 32) hx hb dX1_init_37 (by decide) ?_
  refine va_newa (atype := .boolean) (ty := .boolean) (a0 := (32, .inl (fun _ => 0))) hx hb (hts _ q74) rfl hK hP hD hS hA (fun cA => rfl) (by decide) (by decide) (Nat.le_of_ble_eq_true rfl) (Nat.le_of_ble_eq_true rfl) (Nat.le_of_ble_eq_true rfl) dX1_init_39 (fun q4 c4 H hK hP hD hS => ?_)
  have hP : va_P D vwCl [(h0, .inr (1, [.ref q0, .int 0, .ref q1, .ref q2, .ref q3, .null, .int 0])), (q0, .inl (c0, 32, .inl (fun _ => 0))), (q1, .inl (c1, 32, .inl (fun _ => 0))), (q2, .inl (c2, 32, .inl (fun _ => 0))), (q3, .inl (c3, 32, .inl (fun _ => 0))), (q4, .inl (c4, 32, .inl (fun _ => 0)))] H := hP
  have hD : va_D A [(h0, .inr (1, [.ref q0, .int 0, .ref q1, .ref q2, .ref q3, .null, .int 0])), (q0, .inl (c0, 32, .inl (fun _ => 0))), (q1, .inl (c1, 32, .inl (fun _ => 0))), (q2, .inl (c2, 32, .inl (fun _ => 0))), (q3, .inl (c3, 32, .inl (fun _ => 0))), (q4, .inl (c4, 32, .inl (fun _ => 0)))] := hD
  have hK : va_K D vwCl [(c0, .int), (c1, .boolean), (c2, .int), (c3, .int), (c4, .boolean)] s := hK
  refine W.widen (k := 5) (n := 160) (Nat.le_of_ble_eq_true rfl) (Nat.le_of_ble_eq_true rfl) ?_
  refine va_putF (D := D) (ci := 1) (v := .ref q4) (ty := (.array .boolean)) (C := RX1) (T := TX1) (N := 7) hx hb hts in_X1 tyX1 tyX1_ok nmX1 hown hK hP hD hS 0 rfl rfl 5 (by decide) (hts _ q200) (fun _ h9 => h9) rfl hin rfl (by decide +kernel) rfl rfl (Nat.le_of_ble_eq_true rfl) dX1_init_41 (fun H locs hP hD hS => ?_)
  have hP : va_P D vwCl [(h0, .inr (1, [.ref q0, .int 0, .ref q1, .ref q2, .ref q3, .ref q4, .int 0])), (q0, .inl (c0, 32, .inl (fun _ => 0))), (q1, .inl (c1, 32, .inl (fun _ => 0))), (q2, .inl (c2, 32, .inl (fun _ => 0))), (q3, .inl (c3, 32, .inl (fun _ => 0))), (q4, .inl (c4, 32, .inl (fun _ => 0)))] H := hP
  have hD : va_D A [(h0, .inr (1, [.ref q0, .int 0, .ref q1, .ref q2, .ref q3, .ref q4, .int 0])), (q0, .inl (c0, 32, .inl (fun _ => 0))), (q1, .inl (c1, 32, .inl (fun _ => 0))), (q2, .inl (c2, 32, .inl (fun _ => 0))), (q3, .inl (c3, 32, .inl (fun _ => 0))), (q4, .inl (c4, 32, .inl (fun _ => 0)))] := hD
  exact W.vret hx hb hr (fun t ht hW => ⟨⟨(fun k => if k = 0 then h0 else if k = 1 then q0 else if k = 2 then q1 else if k = 3 then q2 else if k = 4 then q3 else if k = 5 then q4 else 0, fun k => if k = 1 then c0 else if k = 2 then c1 else if k = 3 then c2 else if k = 4 then c3 else if k = 5 then c4 else c0), rfl, rfl, by rw [ht]; exact hP, va_K.moved hW.alike hK, hD⟩, hS.F ht⟩) hS.2.2 dX1_init_44
end
section
/-! THE CLAIM OUT OF ONE WALK OF THE LAW'S BODY. Your part is whole_start (and what it stands on); all else here is the same for every law, but numbers. -/
def R_law : String := "SelectiveUndoLaw"
def lw_P (b : Addr) (xs : List Int32) (args : Array Value) (s : State) : Prop := args = #[.ref b] ∧ s.IntsAt b xs ∧ xs.length ≤ 192 ∧ (Jvm.Cond.and given_1 narrow_1).before args s = true
def lw_Q (_ : Array Value) (s : State) (o : Outcome) (t : State) : Prop := o = .returned (some (.int 1)) ∧ Framed s o t [] 600000 7290000
def lw_Z (below : List Frame) (a : Array Value) (s : State) : State → Prop := fun t => ∃ o, t.status = .running ∧ Ended t below o ∧ lw_Q a s o t
/-- the law's own end, with 1 on the stack, nothing written that was there before, its room as the claim has it -/
theorem lw_ret {p : Program} {l : Launch} {e : Env} {s : State} {m : MethodId} {below : List Frame} {meth : Method} {c : Code} {b : Nat} (hx : p.tables.exec = Jvm.exec) (hb : c.code = code) (hr : meth.sig.returnType = ret) (hlocks : meth.locks = false) {pc : Nat} {H : Heap} {ls : Array Slot} (hdg : decode code pc = .ok (.ireturn, 1)) : W p l e room_1 s m #[Value.ref b] below meth c H [] 600000 7290000 (lw_Z below #[Value.ref b] s) (F0 m pc ls [.int 1]) := by
  intro T hT X
  obtain ⟨fs, hret, hrun, hended, hW, hframe⟩ := X.leave (v := some (.int 1)) (hlocks := hlocks) (fun h => by rw [hr] at h; cases h)
  have hmeth' : T.vm.method? m = some meth := X.method'
  refine ⟨T.setFrames fs, ?_, .returned (some (.int 1)), hrun, hended, rfl, ⟨_, rfl⟩, hW, hframe⟩
  jvm_step X.here [X.here.top, hx, hb, hdg, hmeth', hr, ret, narrow_b1]
  (try refine ⟨rfl, ?_⟩); (try refine ⟨rfl, ?_⟩)
  first | (intro acts; rw [hret _ acts rfl rfl rfl]) | rw [hret _ _ rfl rfl rfl]
  exact Steps.refl _
/-- what holds at the law's entry: the machine, the code, the tables' words (any of lw_tbl by 'hts w (by decide +kernel)'), the script of L ints xs at the cell b, what the Statement gives of the start (any of its parts by flat_of_before) -/
def lw_At (p : Program) (s : State) (m : MethodId) (meth : Method) (c : Code) (b L : Nat) (xs : Nat → Int32) : Prop :=
  p.tables.exec = Jvm.exec ∧ c.code = code ∧ meth.sig.returnType = ret ∧ c.maxLocals = 4 ∧ s.vm.findClass R_law = some m.cls ∧ (∀ w ∈ lw_tbl, w.before #[Value.ref b] s = true) ∧ va_X b L xs s s.heap ∧ b < s.heap.size ∧ meth.locks = false ∧ (Jvm.Cond.and given_1 narrow_1).before #[Value.ref b] s = true
def PL (D : va_G) (A : Nat → Prop) (a : Nat → Nat) (b : Nat → ClassId) (S : SS) (V : LL) (a' : Nat → Nat) (b' : Nat → ClassId) (M : SS) (H0 H : Heap) (locs : List Loc) : Prop := va_P D vwCl (wA a b S V ++ wB a' b' M Z0) H ∧ va_D A (wA a b S V ++ wB a' b' M Z0) ∧ va_S A H0 H locs
section LAW
variable {p : Program} {l : Launch} {e : Env} {R : Room} {s : State} {m : MethodId} {args : Array Value} {below : List Frame} {meth : Method} {c : Code} {H : Heap} {locs : List Loc} {cells slots : Nat} {Q : State → Prop}
variable {cc : ByteArray} {pc nL : Nat} {ls : Array Slot} {rest st : List Value} {D : va_G} {A : Nat → Prop} {a a' : Nat → Nat} {b b' : Nat → ClassId} {S M : SS} {V V' : LL}
theorem kA_i {y : MethodName} {cy : ByteArray} {nY idx : Nat} {ret : FieldType} {rm : Room} {As : List Value} {o : Int32 × SS × LL} (C : CX p s m c args cc nL "SelectiveUndoLaw" A D (tA b ++ tB b')) (P : PL D A a b S V a' b' M s.heap H locs) (n : Nat) (hM : MAi l D a b y cy nY ret rm As S V o) (hw : GoodIn lw_all (wsV "SelectiveUndoLaw" idx RX0 y (ws_ y cy nY (some ret)))) (hrc : rm.cells = 0) (hrs : rm.slots = 0)
    (hd : y.cls = RX0 ∧ y.cls ≠ "java/lang/invoke/MethodHandle" ∧ y.cls ≠ "java/lang/invoke/VarHandle" ∧ (parseMethodDescriptor y.desc).map (fun d => d.parameters.length) = some n) (hR : rm.frames + 1 ≤ R.frames ∧ 8 + (nY + 11) + rm.locals ≤ R.locals) (hn : As.length = n) (hls : ls.size = nL) (hst : st = As.reverse ++ .ref (a 0) :: rest) (hro : (rest.map fun v => v.category).sum ≤ 8) (hdg : decode cc pc = .ok (.invokevirtual idx, 3)) (hcs : cells + 0 ≤ R.cells ∧ slots + 0 ≤ R.slots)
    (kk : ∀ (H1 : Heap) (locs1 : List Loc), PL D A a b o.2.1 o.2.2 a' b' M s.heap H1 locs1 → W p l e R s m args below meth c H1 locs1 cells slots Q (F0 m (pc + 3) ls (.int o.1 :: rest))) : W p l e R s m args below meth c H locs cells slots Q (F0 m pc ls st) := by
  subst hst
  obtain ⟨hP, hD, hS⟩ := P
  have hPc := hP.sub (ws' := wA a b S V) [0, 1, 2, 3, 4, 5, 6, 7, 8, 9, 10, 11] rfl
  have hDc := hD.sub (ws' := wA a b S V) [0, 1, 2, 3, 4, 5, 6, 7, 8, 9, 10, 11] (by decide) rfl
  have hKc := C.2.2.2.2.2.1.sub (tys' := tA b) [0, 1, 2, 3, 4, 5, 6, 7, 8, 9, 10] rfl
  have hFc := va_free (wc := wA a b S V) hD hS C.2.2.2.2.2.2 [0, 1, 2, 3, 4, 5, 6, 7, 8, 9, 10, 11] rfl
  refine va_calli (va_runV (As := As) (rest := rest) ⟨C.1, C.2.1, C.2.2.2.2.1, C.2.2.1, C.2.2.2.1⟩ (hM H.size) (cwV n C.2.2.2.1 hw rfl hrc hrs hd hR) ⟨fun a9 U g mk q => ?_, ?_, fun U hU hW => ?_⟩ rfl hn hls rfl (lv_room hro) hdg hcs) hS (fun q _ h => hFc q h) hFc (fun r9 u t H1 locs1 ht hvm hw hB hz hk hS => ?_)
  · obtain ⟨q0, q1, qP, qK, qD⟩ := q
    exact ⟨q0, q1, qP, va_K.moved (u := U) (U := U.calling g mk a9) (Vm.Alike.refl U.vm) qK, qD⟩
  · exact va_recv hKc hPc (ci := 0) (q0 := 0) (q := (RX0, TX0, 15)) rfl rfl
  · exact ⟨rfl, by rw [hU], by rw [hU]; exact hPc, va_K.moved hW.alike hKc, hDc.weaken (fun _ _ _ _ => trivial)⟩
  · obtain ⟨hP1, hK1, hD1⟩ := hB
    rw [ht] at hP1
    have hw : r9 = o.1 := hw
    subst hw
    obtain ⟨hP, hD⟩ := va_join (wr := wB a' b' M Z0) (w1 := wA a b o.2.1 o.2.2) hP hD [0, 1, 2, 3, 4, 5, 6, 7, 8, 9, 10, 11] [12, 13, 14, 15, 16, 17] rfl rfl (by decide) (by decide) hk hFc hP1 hD1
    exact kk H1 locs1 ⟨hP.sub [6, 7, 8, 9, 10, 11, 12, 13, 14, 15, 16, 17, 0, 1, 2, 3, 4, 5] rfl, hD.sub [6, 7, 8, 9, 10, 11, 12, 13, 14, 15, 16, 17, 0, 1, 2, 3, 4, 5] (by decide) rfl, hS⟩
theorem kB_i {y : MethodName} {cy : ByteArray} {nY idx : Nat} {ret : FieldType} {rm : Room} {As : List Value} {o : Int32 × SS × LL} (C : CX p s m c args cc nL "SelectiveUndoLaw" A D (tA b ++ tB b')) (P : PL D A a b S V a' b' M s.heap H locs) (n : Nat) (hM : MBi l D a' b' y cy nY ret rm As M Z0 o) (hw : GoodIn lw_all (wsV "SelectiveUndoLaw" idx RX1 y (ws_ y cy nY (some ret)))) (hrc : rm.cells = 0) (hrs : rm.slots = 0)
    (hd : y.cls = RX1 ∧ y.cls ≠ "java/lang/invoke/MethodHandle" ∧ y.cls ≠ "java/lang/invoke/VarHandle" ∧ (parseMethodDescriptor y.desc).map (fun d => d.parameters.length) = some n) (hR : rm.frames + 1 ≤ R.frames ∧ 8 + (nY + 11) + rm.locals ≤ R.locals) (hn : As.length = n) (hls : ls.size = nL) (hst : st = As.reverse ++ .ref (a' 0) :: rest) (hro : (rest.map fun v => v.category).sum ≤ 8) (hdg : decode cc pc = .ok (.invokevirtual idx, 3)) (hcs : cells + 0 ≤ R.cells ∧ slots + 0 ≤ R.slots)
    (kk : ∀ (H1 : Heap) (locs1 : List Loc), PL D A a b S V a' b' o.2.1 s.heap H1 locs1 → W p l e R s m args below meth c H1 locs1 cells slots Q (F0 m (pc + 3) ls (.int o.1 :: rest))) : W p l e R s m args below meth c H locs cells slots Q (F0 m pc ls st) := by
  subst hst
  obtain ⟨hP, hD, hS⟩ := P
  have hPc := hP.sub (ws' := wB a' b' M Z0) [12, 13, 14, 15, 16, 17] rfl
  have hDc := hD.sub (ws' := wB a' b' M Z0) [12, 13, 14, 15, 16, 17] (by decide) rfl
  have hKc := C.2.2.2.2.2.1.sub (tys' := tB b') [11, 12, 13, 14, 15] rfl
  have hFc := va_free (wc := wB a' b' M Z0) hD hS C.2.2.2.2.2.2 [12, 13, 14, 15, 16, 17] rfl
  refine va_calli (va_runV (As := As) (rest := rest) ⟨C.1, C.2.1, C.2.2.2.2.1, C.2.2.1, C.2.2.2.1⟩ (hM H.size) (cwV n C.2.2.2.1 hw rfl hrc hrs hd hR) ⟨fun a9 U g mk q => ?_, ?_, fun U hU hW => ?_⟩ rfl hn hls rfl (lv_room hro) hdg hcs) hS (fun q _ h => hFc q h) hFc (fun r9 u t H1 locs1 ht hvm hw hB hz hk hS => ?_)
  · obtain ⟨q0, q1, qP, qK, qD⟩ := q
    exact ⟨q0, q1, qP, va_K.moved (u := U) (U := U.calling g mk a9) (Vm.Alike.refl U.vm) qK, qD⟩
  · exact va_recv hKc hPc (ci := 1) (q0 := 0) (q := (RX1, TX1, 7)) rfl rfl
  · exact ⟨rfl, by rw [hU], by rw [hU]; exact hPc, va_K.moved hW.alike hKc, hDc.weaken (fun _ _ _ _ => trivial)⟩
  · obtain ⟨hP1, hK1, hD1⟩ := hB
    rw [ht] at hP1
    have hw : r9 = o.1 := hw
    subst hw
    obtain ⟨hP, hD⟩ := va_join (wr := wA a b S V) (w1 := wB a' b' o.2.1 o.2.2) hP hD [12, 13, 14, 15, 16, 17] [0, 1, 2, 3, 4, 5, 6, 7, 8, 9, 10, 11] rfl rfl (by decide) (by decide) hk hFc hP1 hD1
    exact kk H1 locs1 ⟨hP, hD, hS⟩
end LAW
def Agree (I : SS → LL → SS → Prop) (oa ob : Int32 × SS × LL) : Prop := oa.1 = ob.1 ∧ I oa.2.1 oa.2.2 ob.2.1
/-- what an invariant must give for the law: the ranges, and that every call answers alike and keeps it -/
def LawOK (I : SS → LL → SS → Prop) : Prop := ∀ (S : SS) (V : LL) (M : SS), I S V M → RG S ∧ RZ M ∧ ix (M 0 1) ≤ ix (M 0 6) ∧ ¬ tlF S < 0
  ∧ (∀ (x0 x1 : Int32), Agree I (tyO S V x0 x1) (tzO M Z0 x0 x1))
  ∧ (∀ (x0 x1 : Int32), Agree I (erO S V x0 x1) (ezO M Z0 x0 x1))
  ∧ (∀ (x0 x1 : Int32), Agree I (ptO S V x0 x1) (pzO M Z0 x0 x1))
  ∧ (Agree I (unO S V (ix (S 0 10))) (uzO M Z0 (ix (M 0 6))))
  ∧ (Agree I (rdO S V (ix (S 0 10)) 0) (rzO M Z0 (ix (M 0 6)) 0))
  ∧ (∀ (x0 x1 : Int32), Agree I (flO S V x0 x1) (fzO M Z0 x0 x1))
  ∧ (Agree I ((S 0 10, S, V)) ((M 0 6, M, Z0)))
  ∧ (∀ (x0 : Int32), Agree I ((ioF S x0, S, V)) ((izF M x0, M, Z0)))
  ∧ (Agree I ((tlF S, S, V)) ((leF M, M, Z0)))
  ∧ (∀ (x0 : Int32), Agree I ((ltF S x0, S, V)) ((lzF M x0, M, Z0)))
  ∧ (∀ (x0 : Int32), Agree I ((ogF S x0, S, V)) ((caF M x0, M, Z0)))
  ∧ (∀ (x0 : Int32), Agree I ((whF S x0, S, V)) ((wzL 32 M x0 0, M, Z0)))
  ∧ (∀ (x0 : Int32), Agree I ((cvF S V x0, S, V)) ((czF M x0, M, Z0)))
  ∧ (∀ (x0 : Int32), Agree I ((cyF S x0, S, V)) ((cqF M x0, M, Z0)))
  ∧ (∀ (x0 : Int32), Agree I ((efF S V x0, S, V)) ((ezF M x0, ezT M x0, Z0)))
  ∧ (Agree I ((dgF S, S, V)) ((dzF M, M, Z0)))
end
section
set_option maxHeartbeats 4000000 in
set_option maxRecDepth 100000 in
theorem lawc_0 {p : Program} {l : Launch} {e : Env} {s : State} {m : MethodId} {below : List Frame} {meth : Method} {c : Code} {h0 L : Nat} {xs : Nat → Int32} {D : va_G} {A : Nat → Prop} {a a' : Nat → Nat} {b b' : Nat → ClassId} (I : SS → LL → SS → Prop) (hI : LawOK I) (hL : L ≤ 192) (hAe : ∀ q, A q ↔ s.heap.size ≤ q) (C : CX p s m c #[Value.ref h0] cL_law 4 "SelectiveUndoLaw" A D (tA b ++ tB b')) (hr : meth.sig.returnType = ret) (hlocks : meth.locks = false) (hX : va_X h0 L xs s s.heap) (hbl : h0 < s.heap.size) (hbA : ¬ A h0) (k : Nat) (S : SS) (V : LL) (M : SS) (hIS : I S V M) (hi1 : vp_in (nI k + 1) L) (hi2 : vp_in (nI k + 2) L) (H : Heap) (locs : List Loc) (ls : Array Slot) (P : PL D A a b S V a' b' M s.heap H locs) (hl : lv_has ls 4 [(0, .ref h0), (1, .ref (a 0)), (2, .ref (a' 0)), (3, .int (nI k))])
    (kk : ∀ (S : SS) (V : LL) (M : SS) (H : Heap) (locs : List Loc) (ls : Array Slot), I S V M → PL D A a b S V a' b' M s.heap H locs → lv_has ls 4 [(0, .ref h0), (1, .ref (a 0)), (2, .ref (a' 0)), (3, .int (nI k))] → W p l e room_1 s m #[Value.ref h0] below meth c H locs 18 670 (lw_Z below #[Value.ref h0] s) (F0 m 470 ls [])) : W p l e room_1 s m #[Value.ref h0] below meth c H locs 18 670 (lw_Z below #[Value.ref h0] s) (F0 m 112 ls []) := by
  have hx := C.1
  have hb := C.2.1
  have hall := hI S V M hIS
  obtain ⟨rg, rz, hli, htl, g0, g1, g2, g3, g4, g5, g6, g7, g8, g9, g10, g11, g12, g13, g14, g15⟩ := hall
  have hag : Agree I (tyO S V (xs (ix (nI k + 1))) (xs (ix (nI k + 2)))) (tzO M Z0 (xs (ix (nI k + 1))) (xs (ix (nI k + 2)))) := g0 _ _
  refine lv_aload_n hx hb dL_law_112 rfl (lv_at hl 1 rfl) ?_
  refine lv_aload_n hx hb dL_law_113 rfl (lv_at hl 0 rfl) ?_
  refine lv_iload_n hx hb dL_law_114 rfl (lv_at hl 3 rfl) ?_
  refine lv_iconst (v := 1) hx hb dL_law_115 (by decide) ?_
  refine lv_iadd hx hb dL_law_116 ?_
  refine va_sld hx hb hX hbl hbA P.2.2 hi1 dL_law_117 ?_
  refine lv_aload_n hx hb dL_law_118 rfl (lv_at hl 0 rfl) ?_
  refine lv_iload_n hx hb dL_law_119 rfl (lv_at hl 3 rfl) ?_
  refine lv_iconst (v := 2) hx hb dL_law_120 (by decide) ?_
  refine lv_iadd hx hb dL_law_121 ?_
  refine va_sld hx hb hX hbl hbA P.2.2 hi2 dL_law_122 ?_
  refine kA_i (rest := []) C P 2 (mA_type (S := S) (V := V) (q := xs (ix (nI k + 1))) (ch := xs (ix (nI k + 2))) l D a b rg) (lw_V q76 q77 q78 q17 q79) rfl rfl (by decide +kernel) ⟨Nat.le_of_ble_eq_true rfl, Nat.le_of_ble_eq_true rfl⟩ rfl hl.1 rfl (Nat.le_of_ble_eq_true rfl) dL_law_123 ⟨Nat.le_of_ble_eq_true rfl, Nat.le_of_ble_eq_true rfl⟩ (fun H locs P => ?_)
  refine lv_aload_n hx hb dL_law_126 rfl (lv_at hl 2 rfl) ?_
  refine lv_aload_n hx hb dL_law_127 rfl (lv_at hl 0 rfl) ?_
  refine lv_iload_n hx hb dL_law_128 rfl (lv_at hl 3 rfl) ?_
  refine lv_iconst (v := 1) hx hb dL_law_129 (by decide) ?_
  refine lv_iadd hx hb dL_law_130 ?_
  refine va_sld hx hb hX hbl hbA P.2.2 hi1 dL_law_131 ?_
  refine lv_aload_n hx hb dL_law_132 rfl (lv_at hl 0 rfl) ?_
  refine lv_iload_n hx hb dL_law_133 rfl (lv_at hl 3 rfl) ?_
  refine lv_iconst (v := 2) hx hb dL_law_134 (by decide) ?_
  refine lv_iadd hx hb dL_law_135 ?_
  refine va_sld hx hb hX hbl hbA P.2.2 hi2 dL_law_136 ?_
  refine kB_i (rest := [(.int (tyO S V (xs (ix (nI k + 1))) (xs (ix (nI k + 2)))).1)]) C P 2 (mB_type (S := M) (V := Z0) (q := xs (ix (nI k + 1))) (ch := xs (ix (nI k + 2))) l D a' b' rz hli) (lw_V q217 q218 q219 q18 q220) rfl rfl (by decide +kernel) ⟨Nat.le_of_ble_eq_true rfl, Nat.le_of_ble_eq_true rfl⟩ rfl hl.1 rfl (Nat.le_of_ble_eq_true rfl) dL_law_137 ⟨Nat.le_of_ble_eq_true rfl, Nat.le_of_ble_eq_true rfl⟩ (fun H locs P => ?_)
  refine lv_icmp_eq (tgt := 470) hx hb dL_law_140 (by decide) (fun c1 => ?_) (fun c1 => absurd hag.1 c1)
  exact kk _ _ _ _ _ _ hag.2 P hl
set_option maxHeartbeats 4000000 in
set_option maxRecDepth 100000 in
theorem lawc_1 {p : Program} {l : Launch} {e : Env} {s : State} {m : MethodId} {below : List Frame} {meth : Method} {c : Code} {h0 L : Nat} {xs : Nat → Int32} {D : va_G} {A : Nat → Prop} {a a' : Nat → Nat} {b b' : Nat → ClassId} (I : SS → LL → SS → Prop) (hI : LawOK I) (hL : L ≤ 192) (hAe : ∀ q, A q ↔ s.heap.size ≤ q) (C : CX p s m c #[Value.ref h0] cL_law 4 "SelectiveUndoLaw" A D (tA b ++ tB b')) (hr : meth.sig.returnType = ret) (hlocks : meth.locks = false) (hX : va_X h0 L xs s s.heap) (hbl : h0 < s.heap.size) (hbA : ¬ A h0) (k : Nat) (S : SS) (V : LL) (M : SS) (hIS : I S V M) (hi1 : vp_in (nI k + 1) L) (hi2 : vp_in (nI k + 2) L) (H : Heap) (locs : List Loc) (ls : Array Slot) (P : PL D A a b S V a' b' M s.heap H locs) (hl : lv_has ls 4 [(0, .ref h0), (1, .ref (a 0)), (2, .ref (a' 0)), (3, .int (nI k))])
    (kk : ∀ (S : SS) (V : LL) (M : SS) (H : Heap) (locs : List Loc) (ls : Array Slot), I S V M → PL D A a b S V a' b' M s.heap H locs → lv_has ls 4 [(0, .ref h0), (1, .ref (a 0)), (2, .ref (a' 0)), (3, .int (nI k))] → W p l e room_1 s m #[Value.ref h0] below meth c H locs 18 670 (lw_Z below #[Value.ref h0] s) (F0 m 470 ls [])) : W p l e room_1 s m #[Value.ref h0] below meth c H locs 18 670 (lw_Z below #[Value.ref h0] s) (F0 m 145 ls []) := by
  have hx := C.1
  have hb := C.2.1
  have hall := hI S V M hIS
  obtain ⟨rg, rz, hli, htl, g0, g1, g2, g3, g4, g5, g6, g7, g8, g9, g10, g11, g12, g13, g14, g15⟩ := hall
  have hag : Agree I (erO S V (xs (ix (nI k + 1))) (xs (ix (nI k + 2)))) (ezO M Z0 (xs (ix (nI k + 1))) (xs (ix (nI k + 2)))) := g1 _ _
  refine lv_aload_n hx hb dL_law_145 rfl (lv_at hl 1 rfl) ?_
  refine lv_aload_n hx hb dL_law_146 rfl (lv_at hl 0 rfl) ?_
  refine lv_iload_n hx hb dL_law_147 rfl (lv_at hl 3 rfl) ?_
  refine lv_iconst (v := 1) hx hb dL_law_148 (by decide) ?_
  refine lv_iadd hx hb dL_law_149 ?_
  refine va_sld hx hb hX hbl hbA P.2.2 hi1 dL_law_150 ?_
  refine lv_aload_n hx hb dL_law_151 rfl (lv_at hl 0 rfl) ?_
  refine lv_iload_n hx hb dL_law_152 rfl (lv_at hl 3 rfl) ?_
  refine lv_iconst (v := 2) hx hb dL_law_153 (by decide) ?_
  refine lv_iadd hx hb dL_law_154 ?_
  refine va_sld hx hb hX hbl hbA P.2.2 hi2 dL_law_155 ?_
  refine kA_i (rest := []) C P 2 (mA_erase (S := S) (V := V) (i := xs (ix (nI k + 1))) (j := xs (ix (nI k + 2))) l D a b rg) (lw_V q113 q114 q115 q17 q116) rfl rfl (by decide +kernel) ⟨Nat.le_of_ble_eq_true rfl, Nat.le_of_ble_eq_true rfl⟩ rfl hl.1 rfl (Nat.le_of_ble_eq_true rfl) dL_law_156 ⟨Nat.le_of_ble_eq_true rfl, Nat.le_of_ble_eq_true rfl⟩ (fun H locs P => ?_)
  refine lv_aload_n hx hb dL_law_159 rfl (lv_at hl 2 rfl) ?_
  refine lv_aload_n hx hb dL_law_160 rfl (lv_at hl 0 rfl) ?_
  refine lv_iload_n hx hb dL_law_161 rfl (lv_at hl 3 rfl) ?_
  refine lv_iconst (v := 1) hx hb dL_law_162 (by decide) ?_
  refine lv_iadd hx hb dL_law_163 ?_
  refine va_sld hx hb hX hbl hbA P.2.2 hi1 dL_law_164 ?_
  refine lv_aload_n hx hb dL_law_165 rfl (lv_at hl 0 rfl) ?_
  refine lv_iload_n hx hb dL_law_166 rfl (lv_at hl 3 rfl) ?_
  refine lv_iconst (v := 2) hx hb dL_law_167 (by decide) ?_
  refine lv_iadd hx hb dL_law_168 ?_
  refine va_sld hx hb hX hbl hbA P.2.2 hi2 dL_law_169 ?_
  refine kB_i (rest := [(.int (erO S V (xs (ix (nI k + 1))) (xs (ix (nI k + 2)))).1)]) C P 2 (mB_erase (S := M) (V := Z0) (i := xs (ix (nI k + 1))) (j := xs (ix (nI k + 2))) l D a' b' rz) (lw_V q237 q238 q239 q18 q240) rfl rfl (by decide +kernel) ⟨Nat.le_of_ble_eq_true rfl, Nat.le_of_ble_eq_true rfl⟩ rfl hl.1 rfl (Nat.le_of_ble_eq_true rfl) dL_law_170 ⟨Nat.le_of_ble_eq_true rfl, Nat.le_of_ble_eq_true rfl⟩ (fun H locs P => ?_)
  refine lv_icmp_eq (tgt := 470) hx hb dL_law_173 (by decide) (fun c1 => ?_) (fun c1 => absurd hag.1 c1)
  exact kk _ _ _ _ _ _ hag.2 P hl
set_option maxHeartbeats 4000000 in
set_option maxRecDepth 100000 in
theorem lawc_2 {p : Program} {l : Launch} {e : Env} {s : State} {m : MethodId} {below : List Frame} {meth : Method} {c : Code} {h0 L : Nat} {xs : Nat → Int32} {D : va_G} {A : Nat → Prop} {a a' : Nat → Nat} {b b' : Nat → ClassId} (I : SS → LL → SS → Prop) (hI : LawOK I) (hL : L ≤ 192) (hAe : ∀ q, A q ↔ s.heap.size ≤ q) (C : CX p s m c #[Value.ref h0] cL_law 4 "SelectiveUndoLaw" A D (tA b ++ tB b')) (hr : meth.sig.returnType = ret) (hlocks : meth.locks = false) (hX : va_X h0 L xs s s.heap) (hbl : h0 < s.heap.size) (hbA : ¬ A h0) (k : Nat) (S : SS) (V : LL) (M : SS) (hIS : I S V M) (hi1 : vp_in (nI k + 1) L) (hi2 : vp_in (nI k + 2) L) (H : Heap) (locs : List Loc) (ls : Array Slot) (P : PL D A a b S V a' b' M s.heap H locs) (hl : lv_has ls 4 [(0, .ref h0), (1, .ref (a 0)), (2, .ref (a' 0)), (3, .int (nI k))])
    (kk : ∀ (S : SS) (V : LL) (M : SS) (H : Heap) (locs : List Loc) (ls : Array Slot), I S V M → PL D A a b S V a' b' M s.heap H locs → lv_has ls 4 [(0, .ref h0), (1, .ref (a 0)), (2, .ref (a' 0)), (3, .int (nI k))] → W p l e room_1 s m #[Value.ref h0] below meth c H locs 18 670 (lw_Z below #[Value.ref h0] s) (F0 m 470 ls [])) : W p l e room_1 s m #[Value.ref h0] below meth c H locs 18 670 (lw_Z below #[Value.ref h0] s) (F0 m 178 ls []) := by
  have hx := C.1
  have hb := C.2.1
  have hall := hI S V M hIS
  obtain ⟨rg, rz, hli, htl, g0, g1, g2, g3, g4, g5, g6, g7, g8, g9, g10, g11, g12, g13, g14, g15⟩ := hall
  have hag : Agree I (ptO S V (xs (ix (nI k + 1))) (xs (ix (nI k + 2)))) (pzO M Z0 (xs (ix (nI k + 1))) (xs (ix (nI k + 2)))) := g2 _ _
  refine lv_aload_n hx hb dL_law_178 rfl (lv_at hl 1 rfl) ?_
  refine lv_aload_n hx hb dL_law_179 rfl (lv_at hl 0 rfl) ?_
  refine lv_iload_n hx hb dL_law_180 rfl (lv_at hl 3 rfl) ?_
  refine lv_iconst (v := 1) hx hb dL_law_181 (by decide) ?_
  refine lv_iadd hx hb dL_law_182 ?_
  refine va_sld hx hb hX hbl hbA P.2.2 hi1 dL_law_183 ?_
  refine lv_aload_n hx hb dL_law_184 rfl (lv_at hl 0 rfl) ?_
  refine lv_iload_n hx hb dL_law_185 rfl (lv_at hl 3 rfl) ?_
  refine lv_iconst (v := 2) hx hb dL_law_186 (by decide) ?_
  refine lv_iadd hx hb dL_law_187 ?_
  refine va_sld hx hb hX hbl hbA P.2.2 hi2 dL_law_188 ?_
  refine kA_i (rest := []) C P 2 (mA_put (S := S) (V := V) (k := xs (ix (nI k + 1))) (z := xs (ix (nI k + 2))) l D a b rg) (lw_V q121 q122 q123 q17 q124) rfl rfl (by decide +kernel) ⟨Nat.le_of_ble_eq_true rfl, Nat.le_of_ble_eq_true rfl⟩ rfl hl.1 rfl (Nat.le_of_ble_eq_true rfl) dL_law_189 ⟨Nat.le_of_ble_eq_true rfl, Nat.le_of_ble_eq_true rfl⟩ (fun H locs P => ?_)
  refine lv_aload_n hx hb dL_law_192 rfl (lv_at hl 2 rfl) ?_
  refine lv_aload_n hx hb dL_law_193 rfl (lv_at hl 0 rfl) ?_
  refine lv_iload_n hx hb dL_law_194 rfl (lv_at hl 3 rfl) ?_
  refine lv_iconst (v := 1) hx hb dL_law_195 (by decide) ?_
  refine lv_iadd hx hb dL_law_196 ?_
  refine va_sld hx hb hX hbl hbA P.2.2 hi1 dL_law_197 ?_
  refine lv_aload_n hx hb dL_law_198 rfl (lv_at hl 0 rfl) ?_
  refine lv_iload_n hx hb dL_law_199 rfl (lv_at hl 3 rfl) ?_
  refine lv_iconst (v := 2) hx hb dL_law_200 (by decide) ?_
  refine lv_iadd hx hb dL_law_201 ?_
  refine va_sld hx hb hX hbl hbA P.2.2 hi2 dL_law_202 ?_
  refine kB_i (rest := [(.int (ptO S V (xs (ix (nI k + 1))) (xs (ix (nI k + 2)))).1)]) C P 2 (mB_put (S := M) (V := Z0) (k := xs (ix (nI k + 1))) (z := xs (ix (nI k + 2))) l D a' b' rz) (lw_V q241 q242 q243 q18 q244) rfl rfl (by decide +kernel) ⟨Nat.le_of_ble_eq_true rfl, Nat.le_of_ble_eq_true rfl⟩ rfl hl.1 rfl (Nat.le_of_ble_eq_true rfl) dL_law_203 ⟨Nat.le_of_ble_eq_true rfl, Nat.le_of_ble_eq_true rfl⟩ (fun H locs P => ?_)
  refine lv_icmp_eq (tgt := 470) hx hb dL_law_206 (by decide) (fun c1 => ?_) (fun c1 => absurd hag.1 c1)
  exact kk _ _ _ _ _ _ hag.2 P hl
set_option maxHeartbeats 4000000 in
set_option maxRecDepth 100000 in
theorem lawc_3 {p : Program} {l : Launch} {e : Env} {s : State} {m : MethodId} {below : List Frame} {meth : Method} {c : Code} {h0 L : Nat} {xs : Nat → Int32} {D : va_G} {A : Nat → Prop} {a a' : Nat → Nat} {b b' : Nat → ClassId} (I : SS → LL → SS → Prop) (hI : LawOK I) (hL : L ≤ 192) (hAe : ∀ q, A q ↔ s.heap.size ≤ q) (C : CX p s m c #[Value.ref h0] cL_law 4 "SelectiveUndoLaw" A D (tA b ++ tB b')) (hr : meth.sig.returnType = ret) (hlocks : meth.locks = false) (hX : va_X h0 L xs s s.heap) (hbl : h0 < s.heap.size) (hbA : ¬ A h0) (k : Nat) (S : SS) (V : LL) (M : SS) (hIS : I S V M) (hi1 : vp_in (nI k + 1) L) (hi2 : vp_in (nI k + 2) L) (H : Heap) (locs : List Loc) (ls : Array Slot) (P : PL D A a b S V a' b' M s.heap H locs) (hl : lv_has ls 4 [(0, .ref h0), (1, .ref (a 0)), (2, .ref (a' 0)), (3, .int (nI k))])
    (kk : ∀ (S : SS) (V : LL) (M : SS) (H : Heap) (locs : List Loc) (ls : Array Slot), I S V M → PL D A a b S V a' b' M s.heap H locs → lv_has ls 4 [(0, .ref h0), (1, .ref (a 0)), (2, .ref (a' 0)), (3, .int (nI k))] → W p l e room_1 s m #[Value.ref h0] below meth c H locs 18 670 (lw_Z below #[Value.ref h0] s) (F0 m 470 ls [])) : W p l e room_1 s m #[Value.ref h0] below meth c H locs 18 670 (lw_Z below #[Value.ref h0] s) (F0 m 211 ls []) := by
  have hx := C.1
  have hb := C.2.1
  have hall := hI S V M hIS
  obtain ⟨rg, rz, hli, htl, g0, g1, g2, g3, g4, g5, g6, g7, g8, g9, g10, g11, g12, g13, g14, g15⟩ := hall
  have hag : Agree I (unO S V (ix (S 0 10))) (uzO M Z0 (ix (M 0 6))) := g3
  refine lv_aload_n hx hb dL_law_211 rfl (lv_at hl 1 rfl) ?_
  refine kA_i (rest := []) C P 0 (mA_undo (S := S) (V := V)  l D a b rg) (lw_V q133 q134 q135 q17 q136) rfl rfl (by decide +kernel) ⟨Nat.le_of_ble_eq_true rfl, Nat.le_of_ble_eq_true rfl⟩ rfl hl.1 rfl (Nat.le_of_ble_eq_true rfl) dL_law_212 ⟨Nat.le_of_ble_eq_true rfl, Nat.le_of_ble_eq_true rfl⟩ (fun H locs P => ?_)
  refine lv_aload_n hx hb dL_law_215 rfl (lv_at hl 2 rfl) ?_
  refine kB_i (rest := [(.int (unO S V (ix (S 0 10))).1)]) C P 0 (mB_undo (S := M) (V := Z0)  l D a' b' rz) (lw_V q249 q250 q251 q18 q252) rfl rfl (by decide +kernel) ⟨Nat.le_of_ble_eq_true rfl, Nat.le_of_ble_eq_true rfl⟩ rfl hl.1 rfl (Nat.le_of_ble_eq_true rfl) dL_law_216 ⟨Nat.le_of_ble_eq_true rfl, Nat.le_of_ble_eq_true rfl⟩ (fun H locs P => ?_)
  refine lv_icmp_eq (tgt := 470) hx hb dL_law_219 (by decide) (fun c1 => ?_) (fun c1 => absurd hag.1 c1)
  exact kk _ _ _ _ _ _ hag.2 P hl
set_option maxHeartbeats 4000000 in
set_option maxRecDepth 100000 in
theorem lawc_4 {p : Program} {l : Launch} {e : Env} {s : State} {m : MethodId} {below : List Frame} {meth : Method} {c : Code} {h0 L : Nat} {xs : Nat → Int32} {D : va_G} {A : Nat → Prop} {a a' : Nat → Nat} {b b' : Nat → ClassId} (I : SS → LL → SS → Prop) (hI : LawOK I) (hL : L ≤ 192) (hAe : ∀ q, A q ↔ s.heap.size ≤ q) (C : CX p s m c #[Value.ref h0] cL_law 4 "SelectiveUndoLaw" A D (tA b ++ tB b')) (hr : meth.sig.returnType = ret) (hlocks : meth.locks = false) (hX : va_X h0 L xs s s.heap) (hbl : h0 < s.heap.size) (hbA : ¬ A h0) (k : Nat) (S : SS) (V : LL) (M : SS) (hIS : I S V M) (hi1 : vp_in (nI k + 1) L) (hi2 : vp_in (nI k + 2) L) (H : Heap) (locs : List Loc) (ls : Array Slot) (P : PL D A a b S V a' b' M s.heap H locs) (hl : lv_has ls 4 [(0, .ref h0), (1, .ref (a 0)), (2, .ref (a' 0)), (3, .int (nI k))])
    (kk : ∀ (S : SS) (V : LL) (M : SS) (H : Heap) (locs : List Loc) (ls : Array Slot), I S V M → PL D A a b S V a' b' M s.heap H locs → lv_has ls 4 [(0, .ref h0), (1, .ref (a 0)), (2, .ref (a' 0)), (3, .int (nI k))] → W p l e room_1 s m #[Value.ref h0] below meth c H locs 18 670 (lw_Z below #[Value.ref h0] s) (F0 m 470 ls [])) : W p l e room_1 s m #[Value.ref h0] below meth c H locs 18 670 (lw_Z below #[Value.ref h0] s) (F0 m 224 ls []) := by
  have hx := C.1
  have hb := C.2.1
  have hall := hI S V M hIS
  obtain ⟨rg, rz, hli, htl, g0, g1, g2, g3, g4, g5, g6, g7, g8, g9, g10, g11, g12, g13, g14, g15⟩ := hall
  have hag : Agree I (rdO S V (ix (S 0 10)) 0) (rzO M Z0 (ix (M 0 6)) 0) := g4
  refine lv_aload_n hx hb dL_law_224 rfl (lv_at hl 1 rfl) ?_
  refine kA_i (rest := []) C P 0 (mA_redo (S := S) (V := V)  l D a b rg) (lw_V q137 q138 q139 q17 q140) rfl rfl (by decide +kernel) ⟨Nat.le_of_ble_eq_true rfl, Nat.le_of_ble_eq_true rfl⟩ rfl hl.1 rfl (Nat.le_of_ble_eq_true rfl) dL_law_225 ⟨Nat.le_of_ble_eq_true rfl, Nat.le_of_ble_eq_true rfl⟩ (fun H locs P => ?_)
  refine lv_aload_n hx hb dL_law_228 rfl (lv_at hl 2 rfl) ?_
  refine kB_i (rest := [(.int (rdO S V (ix (S 0 10)) 0).1)]) C P 0 (mB_redo (S := M) (V := Z0)  l D a' b' rz) (lw_V q253 q254 q255 q18 q256) rfl rfl (by decide +kernel) ⟨Nat.le_of_ble_eq_true rfl, Nat.le_of_ble_eq_true rfl⟩ rfl hl.1 rfl (Nat.le_of_ble_eq_true rfl) dL_law_229 ⟨Nat.le_of_ble_eq_true rfl, Nat.le_of_ble_eq_true rfl⟩ (fun H locs P => ?_)
  refine lv_icmp_eq (tgt := 470) hx hb dL_law_232 (by decide) (fun c1 => ?_) (fun c1 => absurd hag.1 c1)
  exact kk _ _ _ _ _ _ hag.2 P hl
set_option maxHeartbeats 4000000 in
set_option maxRecDepth 100000 in
theorem lawc_5 {p : Program} {l : Launch} {e : Env} {s : State} {m : MethodId} {below : List Frame} {meth : Method} {c : Code} {h0 L : Nat} {xs : Nat → Int32} {D : va_G} {A : Nat → Prop} {a a' : Nat → Nat} {b b' : Nat → ClassId} (I : SS → LL → SS → Prop) (hI : LawOK I) (hL : L ≤ 192) (hAe : ∀ q, A q ↔ s.heap.size ≤ q) (C : CX p s m c #[Value.ref h0] cL_law 4 "SelectiveUndoLaw" A D (tA b ++ tB b')) (hr : meth.sig.returnType = ret) (hlocks : meth.locks = false) (hX : va_X h0 L xs s s.heap) (hbl : h0 < s.heap.size) (hbA : ¬ A h0) (k : Nat) (S : SS) (V : LL) (M : SS) (hIS : I S V M) (hi1 : vp_in (nI k + 1) L) (hi2 : vp_in (nI k + 2) L) (H : Heap) (locs : List Loc) (ls : Array Slot) (P : PL D A a b S V a' b' M s.heap H locs) (hl : lv_has ls 4 [(0, .ref h0), (1, .ref (a 0)), (2, .ref (a' 0)), (3, .int (nI k))])
    (kk : ∀ (S : SS) (V : LL) (M : SS) (H : Heap) (locs : List Loc) (ls : Array Slot), I S V M → PL D A a b S V a' b' M s.heap H locs → lv_has ls 4 [(0, .ref h0), (1, .ref (a 0)), (2, .ref (a' 0)), (3, .int (nI k))] → W p l e room_1 s m #[Value.ref h0] below meth c H locs 18 670 (lw_Z below #[Value.ref h0] s) (F0 m 470 ls [])) : W p l e room_1 s m #[Value.ref h0] below meth c H locs 18 670 (lw_Z below #[Value.ref h0] s) (F0 m 237 ls []) := by
  have hx := C.1
  have hb := C.2.1
  have hall := hI S V M hIS
  obtain ⟨rg, rz, hli, htl, g0, g1, g2, g3, g4, g5, g6, g7, g8, g9, g10, g11, g12, g13, g14, g15⟩ := hall
  have hag : Agree I (flO S V (xs (ix (nI k + 1))) (xs (ix (nI k + 2)))) (fzO M Z0 (xs (ix (nI k + 1))) (xs (ix (nI k + 2)))) := g5 _ _
  refine lv_aload_n hx hb dL_law_237 rfl (lv_at hl 1 rfl) ?_
  refine lv_aload_n hx hb dL_law_238 rfl (lv_at hl 0 rfl) ?_
  refine lv_iload_n hx hb dL_law_239 rfl (lv_at hl 3 rfl) ?_
  refine lv_iconst (v := 1) hx hb dL_law_240 (by decide) ?_
  refine lv_iadd hx hb dL_law_241 ?_
  refine va_sld hx hb hX hbl hbA P.2.2 hi1 dL_law_242 ?_
  refine lv_aload_n hx hb dL_law_243 rfl (lv_at hl 0 rfl) ?_
  refine lv_iload_n hx hb dL_law_244 rfl (lv_at hl 3 rfl) ?_
  refine lv_iconst (v := 2) hx hb dL_law_245 (by decide) ?_
  refine lv_iadd hx hb dL_law_246 ?_
  refine va_sld hx hb hX hbl hbA P.2.2 hi2 dL_law_247 ?_
  refine kA_i (rest := []) C P 2 (mA_flip (S := S) (V := V) (i := xs (ix (nI k + 1))) (j := xs (ix (nI k + 2))) l D a b rg) (lw_V q141 q142 q143 q17 q144) rfl rfl (by decide +kernel) ⟨Nat.le_of_ble_eq_true rfl, Nat.le_of_ble_eq_true rfl⟩ rfl hl.1 rfl (Nat.le_of_ble_eq_true rfl) dL_law_248 ⟨Nat.le_of_ble_eq_true rfl, Nat.le_of_ble_eq_true rfl⟩ (fun H locs P => ?_)
  refine lv_aload_n hx hb dL_law_251 rfl (lv_at hl 2 rfl) ?_
  refine lv_aload_n hx hb dL_law_252 rfl (lv_at hl 0 rfl) ?_
  refine lv_iload_n hx hb dL_law_253 rfl (lv_at hl 3 rfl) ?_
  refine lv_iconst (v := 1) hx hb dL_law_254 (by decide) ?_
  refine lv_iadd hx hb dL_law_255 ?_
  refine va_sld hx hb hX hbl hbA P.2.2 hi1 dL_law_256 ?_
  refine lv_aload_n hx hb dL_law_257 rfl (lv_at hl 0 rfl) ?_
  refine lv_iload_n hx hb dL_law_258 rfl (lv_at hl 3 rfl) ?_
  refine lv_iconst (v := 2) hx hb dL_law_259 (by decide) ?_
  refine lv_iadd hx hb dL_law_260 ?_
  refine va_sld hx hb hX hbl hbA P.2.2 hi2 dL_law_261 ?_
  refine kB_i (rest := [(.int (flO S V (xs (ix (nI k + 1))) (xs (ix (nI k + 2)))).1)]) C P 2 (mB_flip (S := M) (V := Z0) (i := xs (ix (nI k + 1))) (j := xs (ix (nI k + 2))) l D a' b' rz) (lw_V q257 q258 q259 q18 q260) rfl rfl (by decide +kernel) ⟨Nat.le_of_ble_eq_true rfl, Nat.le_of_ble_eq_true rfl⟩ rfl hl.1 rfl (Nat.le_of_ble_eq_true rfl) dL_law_262 ⟨Nat.le_of_ble_eq_true rfl, Nat.le_of_ble_eq_true rfl⟩ (fun H locs P => ?_)
  refine lv_icmp_eq (tgt := 470) hx hb dL_law_265 (by decide) (fun c1 => ?_) (fun c1 => absurd hag.1 c1)
  exact kk _ _ _ _ _ _ hag.2 P hl
set_option maxHeartbeats 4000000 in
set_option maxRecDepth 100000 in
theorem lawc_6 {p : Program} {l : Launch} {e : Env} {s : State} {m : MethodId} {below : List Frame} {meth : Method} {c : Code} {h0 L : Nat} {xs : Nat → Int32} {D : va_G} {A : Nat → Prop} {a a' : Nat → Nat} {b b' : Nat → ClassId} (I : SS → LL → SS → Prop) (hI : LawOK I) (hL : L ≤ 192) (hAe : ∀ q, A q ↔ s.heap.size ≤ q) (C : CX p s m c #[Value.ref h0] cL_law 4 "SelectiveUndoLaw" A D (tA b ++ tB b')) (hr : meth.sig.returnType = ret) (hlocks : meth.locks = false) (hX : va_X h0 L xs s s.heap) (hbl : h0 < s.heap.size) (hbA : ¬ A h0) (k : Nat) (S : SS) (V : LL) (M : SS) (hIS : I S V M) (hi1 : vp_in (nI k + 1) L) (hi2 : vp_in (nI k + 2) L) (H : Heap) (locs : List Loc) (ls : Array Slot) (P : PL D A a b S V a' b' M s.heap H locs) (hl : lv_has ls 4 [(0, .ref h0), (1, .ref (a 0)), (2, .ref (a' 0)), (3, .int (nI k))])
    (kk : ∀ (S : SS) (V : LL) (M : SS) (H : Heap) (locs : List Loc) (ls : Array Slot), I S V M → PL D A a b S V a' b' M s.heap H locs → lv_has ls 4 [(0, .ref h0), (1, .ref (a 0)), (2, .ref (a' 0)), (3, .int (nI k))] → W p l e room_1 s m #[Value.ref h0] below meth c H locs 18 670 (lw_Z below #[Value.ref h0] s) (F0 m 470 ls [])) : W p l e room_1 s m #[Value.ref h0] below meth c H locs 18 670 (lw_Z below #[Value.ref h0] s) (F0 m 270 ls []) := by
  have hx := C.1
  have hb := C.2.1
  have hall := hI S V M hIS
  obtain ⟨rg, rz, hli, htl, g0, g1, g2, g3, g4, g5, g6, g7, g8, g9, g10, g11, g12, g13, g14, g15⟩ := hall
  have hag : Agree I ((S 0 10, S, V)) ((M 0 6, M, Z0)) := g6
  refine lv_aload_n hx hb dL_law_270 rfl (lv_at hl 1 rfl) ?_
  refine kA_i (rest := []) C P 0 (mA_changes (S := S) (V := V)  l D a b ) (lw_V q145 q146 q147 q17 q148) rfl rfl (by decide +kernel) ⟨Nat.le_of_ble_eq_true rfl, Nat.le_of_ble_eq_true rfl⟩ rfl hl.1 rfl (Nat.le_of_ble_eq_true rfl) dL_law_271 ⟨Nat.le_of_ble_eq_true rfl, Nat.le_of_ble_eq_true rfl⟩ (fun H locs P => ?_)
  refine lv_aload_n hx hb dL_law_274 rfl (lv_at hl 2 rfl) ?_
  refine kB_i (rest := [(.int ((S 0 10, S, V)).1)]) C P 0 (mB_changes (S := M) (V := Z0)  l D a' b' ) (lw_V q261 q262 q263 q18 q264) rfl rfl (by decide +kernel) ⟨Nat.le_of_ble_eq_true rfl, Nat.le_of_ble_eq_true rfl⟩ rfl hl.1 rfl (Nat.le_of_ble_eq_true rfl) dL_law_275 ⟨Nat.le_of_ble_eq_true rfl, Nat.le_of_ble_eq_true rfl⟩ (fun H locs P => ?_)
  refine lv_icmp_eq (tgt := 470) hx hb dL_law_278 (by decide) (fun c1 => ?_) (fun c1 => absurd hag.1 c1)
  exact kk _ _ _ _ _ _ hag.2 P hl
set_option maxHeartbeats 4000000 in
set_option maxRecDepth 100000 in
theorem lawc_7 {p : Program} {l : Launch} {e : Env} {s : State} {m : MethodId} {below : List Frame} {meth : Method} {c : Code} {h0 L : Nat} {xs : Nat → Int32} {D : va_G} {A : Nat → Prop} {a a' : Nat → Nat} {b b' : Nat → ClassId} (I : SS → LL → SS → Prop) (hI : LawOK I) (hL : L ≤ 192) (hAe : ∀ q, A q ↔ s.heap.size ≤ q) (C : CX p s m c #[Value.ref h0] cL_law 4 "SelectiveUndoLaw" A D (tA b ++ tB b')) (hr : meth.sig.returnType = ret) (hlocks : meth.locks = false) (hX : va_X h0 L xs s s.heap) (hbl : h0 < s.heap.size) (hbA : ¬ A h0) (k : Nat) (S : SS) (V : LL) (M : SS) (hIS : I S V M) (hi1 : vp_in (nI k + 1) L) (hi2 : vp_in (nI k + 2) L) (H : Heap) (locs : List Loc) (ls : Array Slot) (P : PL D A a b S V a' b' M s.heap H locs) (hl : lv_has ls 4 [(0, .ref h0), (1, .ref (a 0)), (2, .ref (a' 0)), (3, .int (nI k))])
    (kk : ∀ (S : SS) (V : LL) (M : SS) (H : Heap) (locs : List Loc) (ls : Array Slot), I S V M → PL D A a b S V a' b' M s.heap H locs → lv_has ls 4 [(0, .ref h0), (1, .ref (a 0)), (2, .ref (a' 0)), (3, .int (nI k))] → W p l e room_1 s m #[Value.ref h0] below meth c H locs 18 670 (lw_Z below #[Value.ref h0] s) (F0 m 470 ls [])) : W p l e room_1 s m #[Value.ref h0] below meth c H locs 18 670 (lw_Z below #[Value.ref h0] s) (F0 m 283 ls []) := by
  have hx := C.1
  have hb := C.2.1
  have hall := hI S V M hIS
  obtain ⟨rg, rz, hli, htl, g0, g1, g2, g3, g4, g5, g6, g7, g8, g9, g10, g11, g12, g13, g14, g15⟩ := hall
  have hag : Agree I ((ioF S (xs (ix (nI k + 1))), S, V)) ((izF M (xs (ix (nI k + 1))), M, Z0)) := g7 _
  refine lv_aload_n hx hb dL_law_283 rfl (lv_at hl 1 rfl) ?_
  refine lv_aload_n hx hb dL_law_284 rfl (lv_at hl 0 rfl) ?_
  refine lv_iload_n hx hb dL_law_285 rfl (lv_at hl 3 rfl) ?_
  refine lv_iconst (v := 1) hx hb dL_law_286 (by decide) ?_
  refine lv_iadd hx hb dL_law_287 ?_
  refine va_sld hx hb hX hbl hbA P.2.2 hi1 dL_law_288 ?_
  refine kA_i (rest := []) C P 1 (mA_isOn (S := S) (V := V) (k := xs (ix (nI k + 1))) l D a b rg) (lw_V q149 q150 q151 q17 q152) rfl rfl (by decide +kernel) ⟨Nat.le_of_ble_eq_true rfl, Nat.le_of_ble_eq_true rfl⟩ rfl hl.1 rfl (Nat.le_of_ble_eq_true rfl) dL_law_289 ⟨Nat.le_of_ble_eq_true rfl, Nat.le_of_ble_eq_true rfl⟩ (fun H locs P => ?_)
  refine lv_aload_n hx hb dL_law_292 rfl (lv_at hl 2 rfl) ?_
  refine lv_aload_n hx hb dL_law_293 rfl (lv_at hl 0 rfl) ?_
  refine lv_iload_n hx hb dL_law_294 rfl (lv_at hl 3 rfl) ?_
  refine lv_iconst (v := 1) hx hb dL_law_295 (by decide) ?_
  refine lv_iadd hx hb dL_law_296 ?_
  refine va_sld hx hb hX hbl hbA P.2.2 hi1 dL_law_297 ?_
  refine kB_i (rest := [(.int ((ioF S (xs (ix (nI k + 1))), S, V)).1)]) C P 1 (mB_isOn (S := M) (V := Z0) (k := xs (ix (nI k + 1))) l D a' b' rz) (lw_V q265 q266 q267 q18 q268) rfl rfl (by decide +kernel) ⟨Nat.le_of_ble_eq_true rfl, Nat.le_of_ble_eq_true rfl⟩ rfl hl.1 rfl (Nat.le_of_ble_eq_true rfl) dL_law_298 ⟨Nat.le_of_ble_eq_true rfl, Nat.le_of_ble_eq_true rfl⟩ (fun H locs P => ?_)
  refine lv_icmp_eq (tgt := 470) hx hb dL_law_301 (by decide) (fun c1 => ?_) (fun c1 => absurd hag.1 c1)
  exact kk _ _ _ _ _ _ hag.2 P hl
set_option maxHeartbeats 4000000 in
set_option maxRecDepth 100000 in
theorem lawc_8 {p : Program} {l : Launch} {e : Env} {s : State} {m : MethodId} {below : List Frame} {meth : Method} {c : Code} {h0 L : Nat} {xs : Nat → Int32} {D : va_G} {A : Nat → Prop} {a a' : Nat → Nat} {b b' : Nat → ClassId} (I : SS → LL → SS → Prop) (hI : LawOK I) (hL : L ≤ 192) (hAe : ∀ q, A q ↔ s.heap.size ≤ q) (C : CX p s m c #[Value.ref h0] cL_law 4 "SelectiveUndoLaw" A D (tA b ++ tB b')) (hr : meth.sig.returnType = ret) (hlocks : meth.locks = false) (hX : va_X h0 L xs s s.heap) (hbl : h0 < s.heap.size) (hbA : ¬ A h0) (k : Nat) (S : SS) (V : LL) (M : SS) (hIS : I S V M) (hi1 : vp_in (nI k + 1) L) (hi2 : vp_in (nI k + 2) L) (H : Heap) (locs : List Loc) (ls : Array Slot) (P : PL D A a b S V a' b' M s.heap H locs) (hl : lv_has ls 4 [(0, .ref h0), (1, .ref (a 0)), (2, .ref (a' 0)), (3, .int (nI k))])
    (kk : ∀ (S : SS) (V : LL) (M : SS) (H : Heap) (locs : List Loc) (ls : Array Slot), I S V M → PL D A a b S V a' b' M s.heap H locs → lv_has ls 4 [(0, .ref h0), (1, .ref (a 0)), (2, .ref (a' 0)), (3, .int (nI k))] → W p l e room_1 s m #[Value.ref h0] below meth c H locs 18 670 (lw_Z below #[Value.ref h0] s) (F0 m 470 ls [])) : W p l e room_1 s m #[Value.ref h0] below meth c H locs 18 670 (lw_Z below #[Value.ref h0] s) (F0 m 306 ls []) := by
  have hx := C.1
  have hb := C.2.1
  have hall := hI S V M hIS
  obtain ⟨rg, rz, hli, htl, g0, g1, g2, g3, g4, g5, g6, g7, g8, g9, g10, g11, g12, g13, g14, g15⟩ := hall
  have hag : Agree I ((tlF S, S, V)) ((leF M, M, Z0)) := g8
  refine lv_aload_n hx hb dL_law_306 rfl (lv_at hl 1 rfl) ?_
  refine kA_i (rest := []) C P 0 (mA_length (S := S) (V := V)  l D a b rg) (lw_V q153 q154 q155 q17 q156) rfl rfl (by decide +kernel) ⟨Nat.le_of_ble_eq_true rfl, Nat.le_of_ble_eq_true rfl⟩ rfl hl.1 rfl (Nat.le_of_ble_eq_true rfl) dL_law_307 ⟨Nat.le_of_ble_eq_true rfl, Nat.le_of_ble_eq_true rfl⟩ (fun H locs P => ?_)
  refine lv_aload_n hx hb dL_law_310 rfl (lv_at hl 2 rfl) ?_
  refine kB_i (rest := [(.int ((tlF S, S, V)).1)]) C P 0 (mB_length (S := M) (V := Z0)  l D a' b' rz) (lw_V q269 q222 q223 q18 q224) rfl rfl (by decide +kernel) ⟨Nat.le_of_ble_eq_true rfl, Nat.le_of_ble_eq_true rfl⟩ rfl hl.1 rfl (Nat.le_of_ble_eq_true rfl) dL_law_311 ⟨Nat.le_of_ble_eq_true rfl, Nat.le_of_ble_eq_true rfl⟩ (fun H locs P => ?_)
  refine lv_icmp_eq (tgt := 470) hx hb dL_law_314 (by decide) (fun c1 => ?_) (fun c1 => absurd hag.1 c1)
  exact kk _ _ _ _ _ _ hag.2 P hl
set_option maxHeartbeats 4000000 in
set_option maxRecDepth 100000 in
theorem lawc_9 {p : Program} {l : Launch} {e : Env} {s : State} {m : MethodId} {below : List Frame} {meth : Method} {c : Code} {h0 L : Nat} {xs : Nat → Int32} {D : va_G} {A : Nat → Prop} {a a' : Nat → Nat} {b b' : Nat → ClassId} (I : SS → LL → SS → Prop) (hI : LawOK I) (hL : L ≤ 192) (hAe : ∀ q, A q ↔ s.heap.size ≤ q) (C : CX p s m c #[Value.ref h0] cL_law 4 "SelectiveUndoLaw" A D (tA b ++ tB b')) (hr : meth.sig.returnType = ret) (hlocks : meth.locks = false) (hX : va_X h0 L xs s s.heap) (hbl : h0 < s.heap.size) (hbA : ¬ A h0) (k : Nat) (S : SS) (V : LL) (M : SS) (hIS : I S V M) (hi1 : vp_in (nI k + 1) L) (hi2 : vp_in (nI k + 2) L) (H : Heap) (locs : List Loc) (ls : Array Slot) (P : PL D A a b S V a' b' M s.heap H locs) (hl : lv_has ls 4 [(0, .ref h0), (1, .ref (a 0)), (2, .ref (a' 0)), (3, .int (nI k))])
    (kk : ∀ (S : SS) (V : LL) (M : SS) (H : Heap) (locs : List Loc) (ls : Array Slot), I S V M → PL D A a b S V a' b' M s.heap H locs → lv_has ls 4 [(0, .ref h0), (1, .ref (a 0)), (2, .ref (a' 0)), (3, .int (nI k))] → W p l e room_1 s m #[Value.ref h0] below meth c H locs 18 670 (lw_Z below #[Value.ref h0] s) (F0 m 470 ls [])) : W p l e room_1 s m #[Value.ref h0] below meth c H locs 18 670 (lw_Z below #[Value.ref h0] s) (F0 m 319 ls []) := by
  have hx := C.1
  have hb := C.2.1
  have hall := hI S V M hIS
  obtain ⟨rg, rz, hli, htl, g0, g1, g2, g3, g4, g5, g6, g7, g8, g9, g10, g11, g12, g13, g14, g15⟩ := hall
  have hag : Agree I ((ltF S (xs (ix (nI k + 1))), S, V)) ((lzF M (xs (ix (nI k + 1))), M, Z0)) := g9 _
  refine lv_aload_n hx hb dL_law_319 rfl (lv_at hl 1 rfl) ?_
  refine lv_aload_n hx hb dL_law_320 rfl (lv_at hl 0 rfl) ?_
  refine lv_iload_n hx hb dL_law_321 rfl (lv_at hl 3 rfl) ?_
  refine lv_iconst (v := 1) hx hb dL_law_322 (by decide) ?_
  refine lv_iadd hx hb dL_law_323 ?_
  refine va_sld hx hb hX hbl hbA P.2.2 hi1 dL_law_324 ?_
  refine kA_i (rest := []) C P 1 (mA_letter (S := S) (V := V) (k := xs (ix (nI k + 1))) l D a b rg) (lw_V q157 q158 q159 q17 q160) rfl rfl (by decide +kernel) ⟨Nat.le_of_ble_eq_true rfl, Nat.le_of_ble_eq_true rfl⟩ rfl hl.1 rfl (Nat.le_of_ble_eq_true rfl) dL_law_325 ⟨Nat.le_of_ble_eq_true rfl, Nat.le_of_ble_eq_true rfl⟩ (fun H locs P => ?_)
  refine lv_aload_n hx hb dL_law_328 rfl (lv_at hl 2 rfl) ?_
  refine lv_aload_n hx hb dL_law_329 rfl (lv_at hl 0 rfl) ?_
  refine lv_iload_n hx hb dL_law_330 rfl (lv_at hl 3 rfl) ?_
  refine lv_iconst (v := 1) hx hb dL_law_331 (by decide) ?_
  refine lv_iadd hx hb dL_law_332 ?_
  refine va_sld hx hb hX hbl hbA P.2.2 hi1 dL_law_333 ?_
  refine kB_i (rest := [(.int ((ltF S (xs (ix (nI k + 1))), S, V)).1)]) C P 1 (mB_letter (S := M) (V := Z0) (k := xs (ix (nI k + 1))) l D a' b' rz) (lw_V q270 q271 q272 q18 q273) rfl rfl (by decide +kernel) ⟨Nat.le_of_ble_eq_true rfl, Nat.le_of_ble_eq_true rfl⟩ rfl hl.1 rfl (Nat.le_of_ble_eq_true rfl) dL_law_334 ⟨Nat.le_of_ble_eq_true rfl, Nat.le_of_ble_eq_true rfl⟩ (fun H locs P => ?_)
  refine lv_icmp_eq (tgt := 470) hx hb dL_law_337 (by decide) (fun c1 => ?_) (fun c1 => absurd hag.1 c1)
  exact kk _ _ _ _ _ _ hag.2 P hl
set_option maxHeartbeats 4000000 in
set_option maxRecDepth 100000 in
theorem lawc_10 {p : Program} {l : Launch} {e : Env} {s : State} {m : MethodId} {below : List Frame} {meth : Method} {c : Code} {h0 L : Nat} {xs : Nat → Int32} {D : va_G} {A : Nat → Prop} {a a' : Nat → Nat} {b b' : Nat → ClassId} (I : SS → LL → SS → Prop) (hI : LawOK I) (hL : L ≤ 192) (hAe : ∀ q, A q ↔ s.heap.size ≤ q) (C : CX p s m c #[Value.ref h0] cL_law 4 "SelectiveUndoLaw" A D (tA b ++ tB b')) (hr : meth.sig.returnType = ret) (hlocks : meth.locks = false) (hX : va_X h0 L xs s s.heap) (hbl : h0 < s.heap.size) (hbA : ¬ A h0) (k : Nat) (S : SS) (V : LL) (M : SS) (hIS : I S V M) (hi1 : vp_in (nI k + 1) L) (hi2 : vp_in (nI k + 2) L) (H : Heap) (locs : List Loc) (ls : Array Slot) (P : PL D A a b S V a' b' M s.heap H locs) (hl : lv_has ls 4 [(0, .ref h0), (1, .ref (a 0)), (2, .ref (a' 0)), (3, .int (nI k))])
    (kk : ∀ (S : SS) (V : LL) (M : SS) (H : Heap) (locs : List Loc) (ls : Array Slot), I S V M → PL D A a b S V a' b' M s.heap H locs → lv_has ls 4 [(0, .ref h0), (1, .ref (a 0)), (2, .ref (a' 0)), (3, .int (nI k))] → W p l e room_1 s m #[Value.ref h0] below meth c H locs 18 670 (lw_Z below #[Value.ref h0] s) (F0 m 470 ls [])) : W p l e room_1 s m #[Value.ref h0] below meth c H locs 18 670 (lw_Z below #[Value.ref h0] s) (F0 m 342 ls []) := by
  have hx := C.1
  have hb := C.2.1
  have hall := hI S V M hIS
  obtain ⟨rg, rz, hli, htl, g0, g1, g2, g3, g4, g5, g6, g7, g8, g9, g10, g11, g12, g13, g14, g15⟩ := hall
  have hag : Agree I ((ogF S (xs (ix (nI k + 1))), S, V)) ((caF M (xs (ix (nI k + 1))), M, Z0)) := g10 _
  refine lv_aload_n hx hb dL_law_342 rfl (lv_at hl 1 rfl) ?_
  refine lv_aload_n hx hb dL_law_343 rfl (lv_at hl 0 rfl) ?_
  refine lv_iload_n hx hb dL_law_344 rfl (lv_at hl 3 rfl) ?_
  refine lv_iconst (v := 1) hx hb dL_law_345 (by decide) ?_
  refine lv_iadd hx hb dL_law_346 ?_
  refine va_sld hx hb hX hbl hbA P.2.2 hi1 dL_law_347 ?_
  refine kA_i (rest := []) C P 1 (mA_origin (S := S) (V := V) (k := xs (ix (nI k + 1))) l D a b rg) (lw_V q161 q162 q163 q17 q164) rfl rfl (by decide +kernel) ⟨Nat.le_of_ble_eq_true rfl, Nat.le_of_ble_eq_true rfl⟩ rfl hl.1 rfl (Nat.le_of_ble_eq_true rfl) dL_law_348 ⟨Nat.le_of_ble_eq_true rfl, Nat.le_of_ble_eq_true rfl⟩ (fun H locs P => ?_)
  refine lv_aload_n hx hb dL_law_351 rfl (lv_at hl 2 rfl) ?_
  refine lv_aload_n hx hb dL_law_352 rfl (lv_at hl 0 rfl) ?_
  refine lv_iload_n hx hb dL_law_353 rfl (lv_at hl 3 rfl) ?_
  refine lv_iconst (v := 1) hx hb dL_law_354 (by decide) ?_
  refine lv_iadd hx hb dL_law_355 ?_
  refine va_sld hx hb hX hbl hbA P.2.2 hi1 dL_law_356 ?_
  refine kB_i (rest := [(.int ((ogF S (xs (ix (nI k + 1))), S, V)).1)]) C P 1 (mB_origin (S := M) (V := Z0) (k := xs (ix (nI k + 1))) l D a' b' rz) (lw_V q274 q275 q276 q18 q277) rfl rfl (by decide +kernel) ⟨Nat.le_of_ble_eq_true rfl, Nat.le_of_ble_eq_true rfl⟩ rfl hl.1 rfl (Nat.le_of_ble_eq_true rfl) dL_law_357 ⟨Nat.le_of_ble_eq_true rfl, Nat.le_of_ble_eq_true rfl⟩ (fun H locs P => ?_)
  refine lv_icmp_eq (tgt := 470) hx hb dL_law_360 (by decide) (fun c1 => ?_) (fun c1 => absurd hag.1 c1)
  exact kk _ _ _ _ _ _ hag.2 P hl
set_option maxHeartbeats 4000000 in
set_option maxRecDepth 100000 in
theorem lawc_11 {p : Program} {l : Launch} {e : Env} {s : State} {m : MethodId} {below : List Frame} {meth : Method} {c : Code} {h0 L : Nat} {xs : Nat → Int32} {D : va_G} {A : Nat → Prop} {a a' : Nat → Nat} {b b' : Nat → ClassId} (I : SS → LL → SS → Prop) (hI : LawOK I) (hL : L ≤ 192) (hAe : ∀ q, A q ↔ s.heap.size ≤ q) (C : CX p s m c #[Value.ref h0] cL_law 4 "SelectiveUndoLaw" A D (tA b ++ tB b')) (hr : meth.sig.returnType = ret) (hlocks : meth.locks = false) (hX : va_X h0 L xs s s.heap) (hbl : h0 < s.heap.size) (hbA : ¬ A h0) (k : Nat) (S : SS) (V : LL) (M : SS) (hIS : I S V M) (hi1 : vp_in (nI k + 1) L) (hi2 : vp_in (nI k + 2) L) (H : Heap) (locs : List Loc) (ls : Array Slot) (P : PL D A a b S V a' b' M s.heap H locs) (hl : lv_has ls 4 [(0, .ref h0), (1, .ref (a 0)), (2, .ref (a' 0)), (3, .int (nI k))])
    (kk : ∀ (S : SS) (V : LL) (M : SS) (H : Heap) (locs : List Loc) (ls : Array Slot), I S V M → PL D A a b S V a' b' M s.heap H locs → lv_has ls 4 [(0, .ref h0), (1, .ref (a 0)), (2, .ref (a' 0)), (3, .int (nI k))] → W p l e room_1 s m #[Value.ref h0] below meth c H locs 18 670 (lw_Z below #[Value.ref h0] s) (F0 m 470 ls [])) : W p l e room_1 s m #[Value.ref h0] below meth c H locs 18 670 (lw_Z below #[Value.ref h0] s) (F0 m 365 ls []) := by
  have hx := C.1
  have hb := C.2.1
  have hall := hI S V M hIS
  obtain ⟨rg, rz, hli, htl, g0, g1, g2, g3, g4, g5, g6, g7, g8, g9, g10, g11, g12, g13, g14, g15⟩ := hall
  have hag : Agree I ((whF S (xs (ix (nI k + 1))), S, V)) ((wzL 32 M (xs (ix (nI k + 1))) 0, M, Z0)) := g11 _
  refine lv_aload_n hx hb dL_law_365 rfl (lv_at hl 1 rfl) ?_
  refine lv_aload_n hx hb dL_law_366 rfl (lv_at hl 0 rfl) ?_
  refine lv_iload_n hx hb dL_law_367 rfl (lv_at hl 3 rfl) ?_
  refine lv_iconst (v := 1) hx hb dL_law_368 (by decide) ?_
  refine lv_iadd hx hb dL_law_369 ?_
  refine va_sld hx hb hX hbl hbA P.2.2 hi1 dL_law_370 ?_
  refine kA_i (rest := []) C P 1 (mA_where (S := S) (V := V) (k := xs (ix (nI k + 1))) l D a b rg) (lw_V q165 q166 q167 q17 q168) rfl rfl (by decide +kernel) ⟨Nat.le_of_ble_eq_true rfl, Nat.le_of_ble_eq_true rfl⟩ rfl hl.1 rfl (Nat.le_of_ble_eq_true rfl) dL_law_371 ⟨Nat.le_of_ble_eq_true rfl, Nat.le_of_ble_eq_true rfl⟩ (fun H locs P => ?_)
  refine lv_aload_n hx hb dL_law_374 rfl (lv_at hl 2 rfl) ?_
  refine lv_aload_n hx hb dL_law_375 rfl (lv_at hl 0 rfl) ?_
  refine lv_iload_n hx hb dL_law_376 rfl (lv_at hl 3 rfl) ?_
  refine lv_iconst (v := 1) hx hb dL_law_377 (by decide) ?_
  refine lv_iadd hx hb dL_law_378 ?_
  refine va_sld hx hb hX hbl hbA P.2.2 hi1 dL_law_379 ?_
  refine kB_i (rest := [(.int ((whF S (xs (ix (nI k + 1))), S, V)).1)]) C P 1 (mB_where (S := M) (V := Z0) (k := xs (ix (nI k + 1))) l D a' b' rz) (lw_V q278 q279 q280 q18 q281) rfl rfl (by decide +kernel) ⟨Nat.le_of_ble_eq_true rfl, Nat.le_of_ble_eq_true rfl⟩ rfl hl.1 rfl (Nat.le_of_ble_eq_true rfl) dL_law_380 ⟨Nat.le_of_ble_eq_true rfl, Nat.le_of_ble_eq_true rfl⟩ (fun H locs P => ?_)
  refine lv_icmp_eq (tgt := 470) hx hb dL_law_383 (by decide) (fun c1 => ?_) (fun c1 => absurd hag.1 c1)
  exact kk _ _ _ _ _ _ hag.2 P hl
set_option maxHeartbeats 4000000 in
set_option maxRecDepth 100000 in
theorem lawc_12 {p : Program} {l : Launch} {e : Env} {s : State} {m : MethodId} {below : List Frame} {meth : Method} {c : Code} {h0 L : Nat} {xs : Nat → Int32} {D : va_G} {A : Nat → Prop} {a a' : Nat → Nat} {b b' : Nat → ClassId} (I : SS → LL → SS → Prop) (hI : LawOK I) (hL : L ≤ 192) (hAe : ∀ q, A q ↔ s.heap.size ≤ q) (C : CX p s m c #[Value.ref h0] cL_law 4 "SelectiveUndoLaw" A D (tA b ++ tB b')) (hr : meth.sig.returnType = ret) (hlocks : meth.locks = false) (hX : va_X h0 L xs s s.heap) (hbl : h0 < s.heap.size) (hbA : ¬ A h0) (k : Nat) (S : SS) (V : LL) (M : SS) (hIS : I S V M) (hi1 : vp_in (nI k + 1) L) (hi2 : vp_in (nI k + 2) L) (H : Heap) (locs : List Loc) (ls : Array Slot) (P : PL D A a b S V a' b' M s.heap H locs) (hl : lv_has ls 4 [(0, .ref h0), (1, .ref (a 0)), (2, .ref (a' 0)), (3, .int (nI k))])
    (kk : ∀ (S : SS) (V : LL) (M : SS) (H : Heap) (locs : List Loc) (ls : Array Slot), I S V M → PL D A a b S V a' b' M s.heap H locs → lv_has ls 4 [(0, .ref h0), (1, .ref (a 0)), (2, .ref (a' 0)), (3, .int (nI k))] → W p l e room_1 s m #[Value.ref h0] below meth c H locs 18 670 (lw_Z below #[Value.ref h0] s) (F0 m 470 ls [])) : W p l e room_1 s m #[Value.ref h0] below meth c H locs 18 670 (lw_Z below #[Value.ref h0] s) (F0 m 388 ls []) := by
  have hx := C.1
  have hb := C.2.1
  have hall := hI S V M hIS
  obtain ⟨rg, rz, hli, htl, g0, g1, g2, g3, g4, g5, g6, g7, g8, g9, g10, g11, g12, g13, g14, g15⟩ := hall
  have hag : Agree I ((cvF S V (xs (ix (nI k + 1))), S, V)) ((czF M (xs (ix (nI k + 1))), M, Z0)) := g12 _
  refine lv_aload_n hx hb dL_law_388 rfl (lv_at hl 1 rfl) ?_
  refine lv_aload_n hx hb dL_law_389 rfl (lv_at hl 0 rfl) ?_
  refine lv_iload_n hx hb dL_law_390 rfl (lv_at hl 3 rfl) ?_
  refine lv_iconst (v := 1) hx hb dL_law_391 (by decide) ?_
  refine lv_iadd hx hb dL_law_392 ?_
  refine va_sld hx hb hX hbl hbA P.2.2 hi1 dL_law_393 ?_
  refine kA_i (rest := []) C P 1 (mA_covers (S := S) (V := V) (k := xs (ix (nI k + 1))) l D a b rg) (lw_V q173 q174 q175 q17 q176) rfl rfl (by decide +kernel) ⟨Nat.le_of_ble_eq_true rfl, Nat.le_of_ble_eq_true rfl⟩ rfl hl.1 rfl (Nat.le_of_ble_eq_true rfl) dL_law_394 ⟨Nat.le_of_ble_eq_true rfl, Nat.le_of_ble_eq_true rfl⟩ (fun H locs P => ?_)
  refine lv_aload_n hx hb dL_law_397 rfl (lv_at hl 2 rfl) ?_
  refine lv_aload_n hx hb dL_law_398 rfl (lv_at hl 0 rfl) ?_
  refine lv_iload_n hx hb dL_law_399 rfl (lv_at hl 3 rfl) ?_
  refine lv_iconst (v := 1) hx hb dL_law_400 (by decide) ?_
  refine lv_iadd hx hb dL_law_401 ?_
  refine va_sld hx hb hX hbl hbA P.2.2 hi1 dL_law_402 ?_
  refine kB_i (rest := [(.int ((cvF S V (xs (ix (nI k + 1))), S, V)).1)]) C P 1 (mB_covers (S := M) (V := Z0) (k := xs (ix (nI k + 1))) l D a' b' rz) (lw_V q282 q283 q284 q18 q285) rfl rfl (by decide +kernel) ⟨Nat.le_of_ble_eq_true rfl, Nat.le_of_ble_eq_true rfl⟩ rfl hl.1 rfl (Nat.le_of_ble_eq_true rfl) dL_law_403 ⟨Nat.le_of_ble_eq_true rfl, Nat.le_of_ble_eq_true rfl⟩ (fun H locs P => ?_)
  refine lv_icmp_eq (tgt := 470) hx hb dL_law_406 (by decide) (fun c1 => ?_) (fun c1 => absurd hag.1 c1)
  exact kk _ _ _ _ _ _ hag.2 P hl
set_option maxHeartbeats 4000000 in
set_option maxRecDepth 100000 in
theorem lawc_13 {p : Program} {l : Launch} {e : Env} {s : State} {m : MethodId} {below : List Frame} {meth : Method} {c : Code} {h0 L : Nat} {xs : Nat → Int32} {D : va_G} {A : Nat → Prop} {a a' : Nat → Nat} {b b' : Nat → ClassId} (I : SS → LL → SS → Prop) (hI : LawOK I) (hL : L ≤ 192) (hAe : ∀ q, A q ↔ s.heap.size ≤ q) (C : CX p s m c #[Value.ref h0] cL_law 4 "SelectiveUndoLaw" A D (tA b ++ tB b')) (hr : meth.sig.returnType = ret) (hlocks : meth.locks = false) (hX : va_X h0 L xs s s.heap) (hbl : h0 < s.heap.size) (hbA : ¬ A h0) (k : Nat) (S : SS) (V : LL) (M : SS) (hIS : I S V M) (hi1 : vp_in (nI k + 1) L) (hi2 : vp_in (nI k + 2) L) (H : Heap) (locs : List Loc) (ls : Array Slot) (P : PL D A a b S V a' b' M s.heap H locs) (hl : lv_has ls 4 [(0, .ref h0), (1, .ref (a 0)), (2, .ref (a' 0)), (3, .int (nI k))])
    (kk : ∀ (S : SS) (V : LL) (M : SS) (H : Heap) (locs : List Loc) (ls : Array Slot), I S V M → PL D A a b S V a' b' M s.heap H locs → lv_has ls 4 [(0, .ref h0), (1, .ref (a 0)), (2, .ref (a' 0)), (3, .int (nI k))] → W p l e room_1 s m #[Value.ref h0] below meth c H locs 18 670 (lw_Z below #[Value.ref h0] s) (F0 m 470 ls [])) : W p l e room_1 s m #[Value.ref h0] below meth c H locs 18 670 (lw_Z below #[Value.ref h0] s) (F0 m 411 ls []) := by
  have hx := C.1
  have hb := C.2.1
  have hall := hI S V M hIS
  obtain ⟨rg, rz, hli, htl, g0, g1, g2, g3, g4, g5, g6, g7, g8, g9, g10, g11, g12, g13, g14, g15⟩ := hall
  have hag : Agree I ((cyF S (xs (ix (nI k + 1))), S, V)) ((cqF M (xs (ix (nI k + 1))), M, Z0)) := g13 _
  refine lv_aload_n hx hb dL_law_411 rfl (lv_at hl 1 rfl) ?_
  refine lv_aload_n hx hb dL_law_412 rfl (lv_at hl 0 rfl) ?_
  refine lv_iload_n hx hb dL_law_413 rfl (lv_at hl 3 rfl) ?_
  refine lv_iconst (v := 1) hx hb dL_law_414 (by decide) ?_
  refine lv_iadd hx hb dL_law_415 ?_
  refine va_sld hx hb hX hbl hbA P.2.2 hi1 dL_law_416 ?_
  refine kA_i (rest := []) C P 1 (mA_coveredBy (S := S) (V := V) (k := xs (ix (nI k + 1))) l D a b rg) (lw_V q177 q178 q179 q17 q180) rfl rfl (by decide +kernel) ⟨Nat.le_of_ble_eq_true rfl, Nat.le_of_ble_eq_true rfl⟩ rfl hl.1 rfl (Nat.le_of_ble_eq_true rfl) dL_law_417 ⟨Nat.le_of_ble_eq_true rfl, Nat.le_of_ble_eq_true rfl⟩ (fun H locs P => ?_)
  refine lv_aload_n hx hb dL_law_420 rfl (lv_at hl 2 rfl) ?_
  refine lv_aload_n hx hb dL_law_421 rfl (lv_at hl 0 rfl) ?_
  refine lv_iload_n hx hb dL_law_422 rfl (lv_at hl 3 rfl) ?_
  refine lv_iconst (v := 1) hx hb dL_law_423 (by decide) ?_
  refine lv_iadd hx hb dL_law_424 ?_
  refine va_sld hx hb hX hbl hbA P.2.2 hi1 dL_law_425 ?_
  refine kB_i (rest := [(.int ((cyF S (xs (ix (nI k + 1))), S, V)).1)]) C P 1 (mB_coveredBy (S := M) (V := Z0) (k := xs (ix (nI k + 1))) l D a' b' rz) (lw_V q286 q287 q288 q18 q289) rfl rfl (by decide +kernel) ⟨Nat.le_of_ble_eq_true rfl, Nat.le_of_ble_eq_true rfl⟩ rfl hl.1 rfl (Nat.le_of_ble_eq_true rfl) dL_law_426 ⟨Nat.le_of_ble_eq_true rfl, Nat.le_of_ble_eq_true rfl⟩ (fun H locs P => ?_)
  refine lv_icmp_eq (tgt := 470) hx hb dL_law_429 (by decide) (fun c1 => ?_) (fun c1 => absurd hag.1 c1)
  exact kk _ _ _ _ _ _ hag.2 P hl
set_option maxHeartbeats 4000000 in
set_option maxRecDepth 100000 in
theorem lawc_14 {p : Program} {l : Launch} {e : Env} {s : State} {m : MethodId} {below : List Frame} {meth : Method} {c : Code} {h0 L : Nat} {xs : Nat → Int32} {D : va_G} {A : Nat → Prop} {a a' : Nat → Nat} {b b' : Nat → ClassId} (I : SS → LL → SS → Prop) (hI : LawOK I) (hL : L ≤ 192) (hAe : ∀ q, A q ↔ s.heap.size ≤ q) (C : CX p s m c #[Value.ref h0] cL_law 4 "SelectiveUndoLaw" A D (tA b ++ tB b')) (hr : meth.sig.returnType = ret) (hlocks : meth.locks = false) (hX : va_X h0 L xs s s.heap) (hbl : h0 < s.heap.size) (hbA : ¬ A h0) (k : Nat) (S : SS) (V : LL) (M : SS) (hIS : I S V M) (hi1 : vp_in (nI k + 1) L) (hi2 : vp_in (nI k + 2) L) (H : Heap) (locs : List Loc) (ls : Array Slot) (P : PL D A a b S V a' b' M s.heap H locs) (hl : lv_has ls 4 [(0, .ref h0), (1, .ref (a 0)), (2, .ref (a' 0)), (3, .int (nI k))])
    (kk : ∀ (S : SS) (V : LL) (M : SS) (H : Heap) (locs : List Loc) (ls : Array Slot), I S V M → PL D A a b S V a' b' M s.heap H locs → lv_has ls 4 [(0, .ref h0), (1, .ref (a 0)), (2, .ref (a' 0)), (3, .int (nI k))] → W p l e room_1 s m #[Value.ref h0] below meth c H locs 18 670 (lw_Z below #[Value.ref h0] s) (F0 m 470 ls [])) : W p l e room_1 s m #[Value.ref h0] below meth c H locs 18 670 (lw_Z below #[Value.ref h0] s) (F0 m 434 ls []) := by
  have hx := C.1
  have hb := C.2.1
  have hall := hI S V M hIS
  obtain ⟨rg, rz, hli, htl, g0, g1, g2, g3, g4, g5, g6, g7, g8, g9, g10, g11, g12, g13, g14, g15⟩ := hall
  have hag : Agree I ((efF S V (xs (ix (nI k + 1))), S, V)) ((ezF M (xs (ix (nI k + 1))), ezT M (xs (ix (nI k + 1))), Z0)) := g14 _
  refine lv_aload_n hx hb dL_law_434 rfl (lv_at hl 1 rfl) ?_
  refine lv_aload_n hx hb dL_law_435 rfl (lv_at hl 0 rfl) ?_
  refine lv_iload_n hx hb dL_law_436 rfl (lv_at hl 3 rfl) ?_
  refine lv_iconst (v := 1) hx hb dL_law_437 (by decide) ?_
  refine lv_iadd hx hb dL_law_438 ?_
  refine va_sld hx hb hX hbl hbA P.2.2 hi1 dL_law_439 ?_
  refine kA_i (rest := []) C P 1 (mA_effect (S := S) (V := V) (k := xs (ix (nI k + 1))) l D a b rg) (lw_V q181 q182 q183 q17 q184) rfl rfl (by decide +kernel) ⟨Nat.le_of_ble_eq_true rfl, Nat.le_of_ble_eq_true rfl⟩ rfl hl.1 rfl (Nat.le_of_ble_eq_true rfl) dL_law_440 ⟨Nat.le_of_ble_eq_true rfl, Nat.le_of_ble_eq_true rfl⟩ (fun H locs P => ?_)
  refine lv_aload_n hx hb dL_law_443 rfl (lv_at hl 2 rfl) ?_
  refine lv_aload_n hx hb dL_law_444 rfl (lv_at hl 0 rfl) ?_
  refine lv_iload_n hx hb dL_law_445 rfl (lv_at hl 3 rfl) ?_
  refine lv_iconst (v := 1) hx hb dL_law_446 (by decide) ?_
  refine lv_iadd hx hb dL_law_447 ?_
  refine va_sld hx hb hX hbl hbA P.2.2 hi1 dL_law_448 ?_
  refine kB_i (rest := [(.int ((efF S V (xs (ix (nI k + 1))), S, V)).1)]) C P 1 (mB_effect (S := M) (V := Z0) (k := xs (ix (nI k + 1))) l D a' b' rz) (lw_V q290 q291 q292 q18 q293) rfl rfl (by decide +kernel) ⟨Nat.le_of_ble_eq_true rfl, Nat.le_of_ble_eq_true rfl⟩ rfl hl.1 rfl (Nat.le_of_ble_eq_true rfl) dL_law_449 ⟨Nat.le_of_ble_eq_true rfl, Nat.le_of_ble_eq_true rfl⟩ (fun H locs P => ?_)
  refine lv_icmp_eq (tgt := 470) hx hb dL_law_452 (by decide) (fun c1 => ?_) (fun c1 => absurd hag.1 c1)
  exact kk _ _ _ _ _ _ hag.2 P hl
set_option maxHeartbeats 4000000 in
set_option maxRecDepth 100000 in
theorem lawc_15 {p : Program} {l : Launch} {e : Env} {s : State} {m : MethodId} {below : List Frame} {meth : Method} {c : Code} {h0 L : Nat} {xs : Nat → Int32} {D : va_G} {A : Nat → Prop} {a a' : Nat → Nat} {b b' : Nat → ClassId} (I : SS → LL → SS → Prop) (hI : LawOK I) (hL : L ≤ 192) (hAe : ∀ q, A q ↔ s.heap.size ≤ q) (C : CX p s m c #[Value.ref h0] cL_law 4 "SelectiveUndoLaw" A D (tA b ++ tB b')) (hr : meth.sig.returnType = ret) (hlocks : meth.locks = false) (hX : va_X h0 L xs s s.heap) (hbl : h0 < s.heap.size) (hbA : ¬ A h0) (k : Nat) (S : SS) (V : LL) (M : SS) (hIS : I S V M) (hi1 : vp_in (nI k + 1) L) (hi2 : vp_in (nI k + 2) L) (H : Heap) (locs : List Loc) (ls : Array Slot) (P : PL D A a b S V a' b' M s.heap H locs) (hl : lv_has ls 4 [(0, .ref h0), (1, .ref (a 0)), (2, .ref (a' 0)), (3, .int (nI k))])
    (kk : ∀ (S : SS) (V : LL) (M : SS) (H : Heap) (locs : List Loc) (ls : Array Slot), I S V M → PL D A a b S V a' b' M s.heap H locs → lv_has ls 4 [(0, .ref h0), (1, .ref (a 0)), (2, .ref (a' 0)), (3, .int (nI k))] → W p l e room_1 s m #[Value.ref h0] below meth c H locs 18 670 (lw_Z below #[Value.ref h0] s) (F0 m 470 ls [])) : W p l e room_1 s m #[Value.ref h0] below meth c H locs 18 670 (lw_Z below #[Value.ref h0] s) (F0 m 457 ls []) := by
  have hx := C.1
  have hb := C.2.1
  have hall := hI S V M hIS
  obtain ⟨rg, rz, hli, htl, g0, g1, g2, g3, g4, g5, g6, g7, g8, g9, g10, g11, g12, g13, g14, g15⟩ := hall
  have hag : Agree I ((dgF S, S, V)) ((dzF M, M, Z0)) := g15
  refine lv_aload_n hx hb dL_law_457 rfl (lv_at hl 1 rfl) ?_
  refine kA_i (rest := []) C P 0 (mA_digest (S := S) (V := V)  l D a b rg htl) (lw_V q185 q186 q187 q17 q188) rfl rfl (by decide +kernel) ⟨Nat.le_of_ble_eq_true rfl, Nat.le_of_ble_eq_true rfl⟩ rfl hl.1 rfl (Nat.le_of_ble_eq_true rfl) dL_law_458 ⟨Nat.le_of_ble_eq_true rfl, Nat.le_of_ble_eq_true rfl⟩ (fun H locs P => ?_)
  refine lv_aload_n hx hb dL_law_461 rfl (lv_at hl 2 rfl) ?_
  refine kB_i (rest := [(.int ((dgF S, S, V)).1)]) C P 0 (mB_digest (S := M) (V := Z0)  l D a' b' rz) (lw_V q294 q295 q296 q18 q297) rfl rfl (by decide +kernel) ⟨Nat.le_of_ble_eq_true rfl, Nat.le_of_ble_eq_true rfl⟩ rfl hl.1 rfl (Nat.le_of_ble_eq_true rfl) dL_law_462 ⟨Nat.le_of_ble_eq_true rfl, Nat.le_of_ble_eq_true rfl⟩ (fun H locs P => ?_)
  refine lv_icmp_eq (tgt := 470) hx hb dL_law_465 (by decide) (fun c1 => ?_) (fun c1 => absurd hag.1 c1)
  exact kk _ _ _ _ _ _ hag.2 P hl
end
section
set_option maxHeartbeats 4000000 in
set_option maxRecDepth 100000 in
theorem law_loop {p : Program} {l : Launch} {e : Env} {s : State} {m : MethodId} {below : List Frame} {meth : Method} {c : Code} {h0 L : Nat} {xs : Nat → Int32} {D : va_G} {A : Nat → Prop} {a a' : Nat → Nat} {b b' : Nat → ClassId} (I : SS → LL → SS → Prop) (hI : LawOK I) (hL : L ≤ 192) (hAe : ∀ q, A q ↔ s.heap.size ≤ q) (C : CX p s m c #[Value.ref h0] cL_law 4 "SelectiveUndoLaw" A D (tA b ++ tB b')) (hr : meth.sig.returnType = ret) (hlocks : meth.locks = false) (hX : va_X h0 L xs s s.heap) (hbl : h0 < s.heap.size) (hbA : ¬ A h0) :
    ∀ (n k : Nat) (S : SS) (V : LL) (M : SS) (H : Heap) (locs : List Loc) (ls : Array Slot), L < k + n → k ≤ 200 → I S V M → PL D A a b S V a' b' M s.heap H locs → lv_has ls 4 [(0, .ref h0), (1, .ref (a 0)), (2, .ref (a' 0)), (3, .int (nI k))] → W p l e room_1 s m #[Value.ref h0] below meth c H locs 18 670 (lw_Z below #[Value.ref h0] s) (F0 m 18 ls []) := by
  have hx := C.1
  have hb := C.2.1
  intro n
  induction n with
  | zero =>
    intro k S V M H locs ls h1 h2 hIS P hl
    refine lv_iload_n hx hb dL_law_18 rfl (lv_at hl 3 rfl) ?_
    refine lv_aload_n hx hb dL_law_19 rfl (lv_at hl 0 rfl) ?_
    refine va_slen hx hb hX hbl hbA P.2.2 dL_law_20 ?_
    refine lv_iconst (v := nI 3) hx hb dL_law_21 (by decide) ?_
    refine lv_isub hx hb dL_law_22 ?_
    refine lv_icmp_gt (tgt := 476) hx hb dL_law_23 (by decide) (fun c1 => ?_) (fun c1 => ?_)
    · refine lv_iconst (v := 1) hx hb dL_law_476 (by decide) ?_
      refine va_forget (fun q hq => (hAe _).mp (P.2.2.2.2 q hq)) ?_
      refine W.widen (k := 600000) (n := 7290000) (by decide) (by decide) ?_
      exact lw_ret hx hb hr hlocks dL_law_477
    · exfalso
      refine c1 (Int32.lt_iff_toInt_lt.mpr ?_)
      rw [show Int32.ofNat L = nI L from rfl, pk_sub_toInt (by omega) (by omega), nI_toInt (by omega)]
      omega
  | succ n ih =>
    intro k S V M H locs ls h1 h2 hIS P hl
    refine lv_iload_n hx hb dL_law_18 rfl (lv_at hl 3 rfl) ?_
    refine lv_aload_n hx hb dL_law_19 rfl (lv_at hl 0 rfl) ?_
    refine va_slen hx hb hX hbl hbA P.2.2 dL_law_20 ?_
    refine lv_iconst (v := nI 3) hx hb dL_law_21 (by decide) ?_
    refine lv_isub hx hb dL_law_22 ?_
    refine lv_icmp_gt (tgt := 476) hx hb dL_law_23 (by decide) (fun c1 => ?_) (fun c1 => ?_)
    · refine lv_iconst (v := 1) hx hb dL_law_476 (by decide) ?_
      refine va_forget (fun q hq => (hAe _).mp (P.2.2.2.2 q hq)) ?_
      refine W.widen (k := 600000) (n := 7290000) (by decide) (by decide) ?_
      exact lw_ret hx hb hr hlocks dL_law_477
    · have hkL : k + 3 ≤ L := by
        rcases Nat.lt_or_ge L (k + 3) with q | q
        · refine absurd (Int32.lt_iff_toInt_lt.mpr ?_) c1
          rw [show Int32.ofNat L = nI L from rfl, pk_sub_toInt (by omega) (by omega), nI_toInt (by omega)]
          omega
        · exact q
      have hi0 : vp_in (nI k) L := vin_n (by omega) (by omega)
      have hi1 : vp_in (nI k + 1) L := by rw [nI_1]; exact vin_n (by omega) (by omega)
      have hi2 : vp_in (nI k + 2) L := by rw [show (2 : Int32) = nI 2 from rfl, nI_add]; exact vin_n (by omega) (by omega)
      have kk : ∀ (S : SS) (V : LL) (M : SS) (H : Heap) (locs : List Loc) (ls : Array Slot), I S V M → PL D A a b S V a' b' M s.heap H locs → lv_has ls 4 [(0, .ref h0), (1, .ref (a 0)), (2, .ref (a' 0)), (3, .int (nI k))] → W p l e room_1 s m #[Value.ref h0] below meth c H locs 18 670 (lw_Z below #[Value.ref h0] s) (F0 m 470 ls []) := by
        intro S V M H locs ls hIS P hl
        refine lv_iinc (v := nI (k + 3)) (lv' := [(3, .int (nI (k + 3))), (0, .ref h0), (1, .ref (a 0)), (2, .ref (a' 0))]) hx hb dL_law_470 hl (k := 3) rfl (nI_add k 3) (by decide) rfl (fun ls hl => ?_)
        refine lv_goto (tgt := 18) hx hb dL_law_473 (by decide) ?_
        exact ih (k + 3) S V M H locs ls (by omega) (by omega) hIS P (lv_sub hl [1, 2, 3, 0] rfl)
      refine lv_aload_n hx hb dL_law_26 rfl (lv_at hl 0 rfl) ?_
      refine lv_iload_n hx hb dL_law_27 rfl (lv_at hl 3 rfl) ?_
      refine va_sld hx hb hX hbl hbA P.2.2 hi0 dL_law_28 ?_
      refine lv_bipush (v := 15) hx hb dL_law_29 (by decide) ?_
      refine lv_iand hx hb dL_law_31 ?_
      obtain ⟨j, hj, ej⟩ := pk_andE (xs (ix (nI k))) (m := 15) 4 (by decide)
      rw [show (xs (nI k).toNatClampNeg &&& 15) = nI j from ej]
      match j, hj with
      | 0, _ =>
        refine lv_tableIn (off := 80) (tgt := 112) hx hb dL_law_32 (by decide) (by decide) (by decide) (by decide) ?_
        exact lawc_0 I hI hL hAe C hr hlocks hX hbl hbA k S V M hIS hi1 hi2 H locs ls P hl kk
      | 1, _ =>
        refine lv_tableIn (off := 113) (tgt := 145) hx hb dL_law_32 (by decide) (by decide) (by decide) (by decide) ?_
        exact lawc_1 I hI hL hAe C hr hlocks hX hbl hbA k S V M hIS hi1 hi2 H locs ls P hl kk
      | 2, _ =>
        refine lv_tableIn (off := 146) (tgt := 178) hx hb dL_law_32 (by decide) (by decide) (by decide) (by decide) ?_
        exact lawc_2 I hI hL hAe C hr hlocks hX hbl hbA k S V M hIS hi1 hi2 H locs ls P hl kk
      | 3, _ =>
        refine lv_tableIn (off := 179) (tgt := 211) hx hb dL_law_32 (by decide) (by decide) (by decide) (by decide) ?_
        exact lawc_3 I hI hL hAe C hr hlocks hX hbl hbA k S V M hIS hi1 hi2 H locs ls P hl kk
      | 4, _ =>
        refine lv_tableIn (off := 192) (tgt := 224) hx hb dL_law_32 (by decide) (by decide) (by decide) (by decide) ?_
        exact lawc_4 I hI hL hAe C hr hlocks hX hbl hbA k S V M hIS hi1 hi2 H locs ls P hl kk
      | 5, _ =>
        refine lv_tableIn (off := 205) (tgt := 237) hx hb dL_law_32 (by decide) (by decide) (by decide) (by decide) ?_
        exact lawc_5 I hI hL hAe C hr hlocks hX hbl hbA k S V M hIS hi1 hi2 H locs ls P hl kk
      | 6, _ =>
        refine lv_tableIn (off := 238) (tgt := 270) hx hb dL_law_32 (by decide) (by decide) (by decide) (by decide) ?_
        exact lawc_6 I hI hL hAe C hr hlocks hX hbl hbA k S V M hIS hi1 hi2 H locs ls P hl kk
      | 7, _ =>
        refine lv_tableIn (off := 251) (tgt := 283) hx hb dL_law_32 (by decide) (by decide) (by decide) (by decide) ?_
        exact lawc_7 I hI hL hAe C hr hlocks hX hbl hbA k S V M hIS hi1 hi2 H locs ls P hl kk
      | 8, _ =>
        refine lv_tableIn (off := 274) (tgt := 306) hx hb dL_law_32 (by decide) (by decide) (by decide) (by decide) ?_
        exact lawc_8 I hI hL hAe C hr hlocks hX hbl hbA k S V M hIS hi1 hi2 H locs ls P hl kk
      | 9, _ =>
        refine lv_tableIn (off := 287) (tgt := 319) hx hb dL_law_32 (by decide) (by decide) (by decide) (by decide) ?_
        exact lawc_9 I hI hL hAe C hr hlocks hX hbl hbA k S V M hIS hi1 hi2 H locs ls P hl kk
      | 10, _ =>
        refine lv_tableIn (off := 310) (tgt := 342) hx hb dL_law_32 (by decide) (by decide) (by decide) (by decide) ?_
        exact lawc_10 I hI hL hAe C hr hlocks hX hbl hbA k S V M hIS hi1 hi2 H locs ls P hl kk
      | 11, _ =>
        refine lv_tableIn (off := 333) (tgt := 365) hx hb dL_law_32 (by decide) (by decide) (by decide) (by decide) ?_
        exact lawc_11 I hI hL hAe C hr hlocks hX hbl hbA k S V M hIS hi1 hi2 H locs ls P hl kk
      | 12, _ =>
        refine lv_tableIn (off := 356) (tgt := 388) hx hb dL_law_32 (by decide) (by decide) (by decide) (by decide) ?_
        exact lawc_12 I hI hL hAe C hr hlocks hX hbl hbA k S V M hIS hi1 hi2 H locs ls P hl kk
      | 13, _ =>
        refine lv_tableIn (off := 379) (tgt := 411) hx hb dL_law_32 (by decide) (by decide) (by decide) (by decide) ?_
        exact lawc_13 I hI hL hAe C hr hlocks hX hbl hbA k S V M hIS hi1 hi2 H locs ls P hl kk
      | 14, _ =>
        refine lv_tableIn (off := 402) (tgt := 434) hx hb dL_law_32 (by decide) (by decide) (by decide) (by decide) ?_
        exact lawc_14 I hI hL hAe C hr hlocks hX hbl hbA k S V M hIS hi1 hi2 H locs ls P hl kk
      | 15, _ =>
        refine lv_tableIn (off := 425) (tgt := 457) hx hb dL_law_32 (by decide) (by decide) (by decide) (by decide) ?_
        exact lawc_15 I hI hL hAe C hr hlocks hX hbl hbA k S V M hIS hi1 hi2 H locs ls P hl kk
      | j + 16, hj => exact absurd hj (by omega)
set_option maxHeartbeats 4000000 in
set_option maxRecDepth 100000 in
/-- from the entry, for every script of at most 192 ints, the law comes to its end with true -/
theorem whole_open (I : SS → LL → SS → Prop) (hI : LawOK I) (hI0 : I S0 Z0 M0) {p : Program} {e : Env} {s : State} {m : MethodId} {below : List Frame} {meth : Method} {c : Code} (l : Launch) {b L : Nat} {xs : Nat → Int32} (hL : L ≤ 192) (C0 : lw_At p s m meth c b L xs) : W p l e room_1 s m #[Value.ref b] below meth c s.heap [] 0 0 (lw_Z below #[Value.ref b] s) (entryFrame m ([Value.ref b] : List Value).toArray 4) := by
  obtain ⟨hx, hb, hr, hml, hown, hts0, hX, hbl, hlocks, hgv⟩ := id C0
  have hts : ∀ w ∈ lw_all, w.before #[Value.ref b] s = true := fun w h => hts0 w (lw_all_tbl h)
  have hA : ∀ q : Nat, s.heap.size ≤ q → (fun q : Nat => s.heap.size ≤ q) q := fun _ h => h
  have hbA : ¬ (fun q : Nat => s.heap.size ≤ q) b := Nat.not_le.mpr hbl
  obtain ⟨c0, iS0, hKn0⟩ := u_known (C := RX0) (T := TX0) (N := 15) (n := 15) hts in_X0 (hts _ q20)
  obtain ⟨c1, iS1, hKn1⟩ := u_known (C := RX1) (T := TX1) (N := 7) (n := 7) hts in_X1 (hts _ q190)
  obtain ⟨D, hKc⟩ : ∃ D : va_G, ∀ (k : Nat) (q : vw_C), vwCl[k]? = some q → u_Kn s q.1 q.2.1 q.2.2 (D.1 k) (D.2 k) := by
    refine ⟨(fun k => if k = 0 then c0 else c1, fun k => if k = 0 then iS0 else iS1), ?_⟩
    intro k q hq
    match k, hq with
    | 0, hq => cases hq; exact hKn0
    | 1, hq => cases hq; exact hKn1
    | k + 2, hq => simp [vwCl] at hq
  have hS : va_S (fun q : Nat => s.heap.size ≤ q) s.heap s.heap [] := va_S.rf
  have hK : va_K D vwCl [] s := ⟨hKc, fun k q h => by simp at h⟩
  have hP : va_P D vwCl [] s.heap := fun k q h => by simp at h
  have hD : va_D (fun q : Nat => s.heap.size ≤ q) [] := ⟨fun i j p q h => by simp at h, fun k q h => by simp at h⟩
  have hl := lv_entry ([.ref b]) (n := 4) (Nat.le_of_ble_eq_true rfl)
  rw [lg_entry_eq]
  generalize (lg_sl ([.ref b]) ++ List.replicate (4 - (lg_sl ([.ref b])).length) Slot.unset).toArray = ls at hl ⊢
  have hl : lv_has ls 4 [(0, .ref b)] := hl
  refine va_new (ci := 0) (fs := [.int 0, .int 0, .null, .null, .null, .null, .null, .null, .null, .null, .int 0, .null, .null, .null, .int 0]) (C := RX0) (T := TX0) (N := 15) hx hb hts in_X0 tyX0 tyX0_ok hown (hts _ q19) (hts _ q20) (hts _ q17) hK hP hD hS hA rfl (fun j hj => by rcases (show j = 0 ∨ j = 1 ∨ j = 2 ∨ j = 3 ∨ j = 4 ∨ j = 5 ∨ j = 6 ∨ j = 7 ∨ j = 8 ∨ j = 9 ∨ j = 10 ∨ j = 11 ∨ j = 12 ∨ j = 13 ∨ j = 14 by omega) with rfl | rfl | rfl | rfl | rfl | rfl | rfl | rfl | rfl | rfl | rfl | rfl | rfl | rfl | rfl <;> rfl) (Nat.le_of_ble_eq_true rfl) (Nat.le_of_ble_eq_true rfl) dL_law_0 (fun qa H hP hD hS => ?_)
  have hP : va_P D vwCl [(qa, .inr (0, [.int 0, .int 0, .null, .null, .null, .null, .null, .null, .null, .null, .int 0, .null, .null, .null, .int 0]))] H := hP
  have hD : va_D (fun q : Nat => s.heap.size ≤ q) [(qa, .inr (0, [.int 0, .int 0, .null, .null, .null, .null, .null, .null, .null, .null, .int 0, .null, .null, .null, .int 0]))] := hD
  refine W.widen (k := 1) (n := 15) (Nat.le_of_ble_eq_true rfl) (Nat.le_of_ble_eq_true rfl) ?_
  refine lv_dup hx hb dL_law_3 rfl ?_
  have hFc := va_free (wc := [(qa, .inr (0, [.int 0, .int 0, .null, .null, .null, .null, .null, .null, .null, .null, .int 0, .null, .null, .null, .int 0]))]) hD hS hA [0] rfl
  refine va_callv (va_runI (As := []) (rest := [.ref qa]) ⟨hx, hb, hml, hown, hts⟩ (mA_init l D qa H.size) (cwI 0 hts (lw_meth q23) rfl rfl rfl (hts _ q17) (hts _ q21) (hts _ q22) rfl (by decide +kernel) ⟨Nat.le_of_ble_eq_true rfl, Nat.le_of_ble_eq_true rfl⟩) ⟨fun a U g mk q => by obtain ⟨q0, q1, qP, qK, qD⟩ := q; exact ⟨q0, q1, qP, va_K.moved (u := U) (U := U.calling g mk a) (Vm.Alike.refl U.vm) qK, qD⟩, fun U hU hW => ⟨rfl, by rw [hU], by rw [hU]; exact hP, va_K.moved hW.alike hK, hD.weaken (fun _ _ _ _ => trivial)⟩⟩ rfl rfl hl.1 rfl (lv_room (Nat.le_of_ble_eq_true rfl)) dL_law_4 ⟨Nat.le_of_ble_eq_true rfl, Nat.le_of_ble_eq_true rfl⟩) hS (fun q _ h => hFc q h) hFc (fun u t H1 locs ht hvm hw1 hB hz1 hk1 hS => ?_)
  obtain ⟨a1, b1⟩ := u
  have hw1 : a1 0 = qa := hw1
  subst hw1
  obtain ⟨hP1, hK1, hD1⟩ := hB
  rw [ht] at hP1
  have hK1 := va_K.moved hvm.symm hK1
  obtain ⟨hP, hD⟩ := va_join (wr := []) (w1 := wA a1 b1 S0 Z0) hP hD [0] [] rfl rfl (by decide) (by decide) hk1 hFc hP1 hD1
  have hK : va_K D vwCl (tA b1) s := hK1
  generalize H1 = H at hP hS ⊢
  have hP : va_P D vwCl (wA a1 b1 S0 Z0) H := hP
  have hD : va_D (fun q : Nat => s.heap.size ≤ q) (wA a1 b1 S0 Z0) := hD
  refine W.widen (k := 12) (n := 503) (Nat.le_of_ble_eq_true rfl) (Nat.le_of_ble_eq_true rfl) ?_
  refine lv_astore_n (lv' := [(1, .ref (a1 0)), (0, .ref b)]) hx hb dL_law_7 rfl hl (by decide) rfl (fun ls hl => ?_)
  refine va_new (ci := 1) (fs := [.null, .int 0, .null, .null, .null, .null, .int 0]) (C := RX1) (T := TX1) (N := 7) hx hb hts in_X1 tyX1 tyX1_ok hown (hts _ q189) (hts _ q190) (hts _ q18) hK hP hD hS hA rfl (fun j hj => by rcases (show j = 0 ∨ j = 1 ∨ j = 2 ∨ j = 3 ∨ j = 4 ∨ j = 5 ∨ j = 6 by omega) with rfl | rfl | rfl | rfl | rfl | rfl | rfl <;> rfl) (Nat.le_of_ble_eq_true rfl) (Nat.le_of_ble_eq_true rfl) dL_law_8 (fun qb H hP hD hS => ?_)
  have hP : va_P D vwCl (wA a1 b1 S0 Z0 ++ [(qb, .inr (1, [.null, .int 0, .null, .null, .null, .null, .int 0]))]) H := hP
  have hD : va_D (fun q : Nat => s.heap.size ≤ q) (wA a1 b1 S0 Z0 ++ [(qb, .inr (1, [.null, .int 0, .null, .null, .null, .null, .int 0]))]) := hD
  refine W.widen (k := 13) (n := 510) (Nat.le_of_ble_eq_true rfl) (Nat.le_of_ble_eq_true rfl) ?_
  refine lv_dup hx hb dL_law_11 rfl ?_
  have hPc := hP.sub (ws' := [(qb, .inr (1, [.null, .int 0, .null, .null, .null, .null, .int 0]))]) [12] rfl
  have hDc := hD.sub (ws' := [(qb, .inr (1, [.null, .int 0, .null, .null, .null, .null, .int 0]))]) [12] (by decide) rfl
  have hKc := hK.sub (tys' := []) [] rfl
  have hFc := va_free (wc := [(qb, .inr (1, [.null, .int 0, .null, .null, .null, .null, .int 0]))]) hD hS hA [12] rfl
  refine va_callv (va_runI (As := []) (rest := [.ref qb]) ⟨hx, hb, hml, hown, hts⟩ (mB_init l D qb H.size) (cwI 0 hts (lw_meth q193) rfl rfl rfl (hts _ q18) (hts _ q191) (hts _ q192) rfl (by decide +kernel) ⟨Nat.le_of_ble_eq_true rfl, Nat.le_of_ble_eq_true rfl⟩) ⟨fun a U g mk q => by obtain ⟨q0, q1, qP, qK, qD⟩ := q; exact ⟨q0, q1, qP, va_K.moved (u := U) (U := U.calling g mk a) (Vm.Alike.refl U.vm) qK, qD⟩, fun U hU hW => ⟨rfl, by rw [hU], by rw [hU]; exact hPc, va_K.moved hW.alike hKc, hDc.weaken (fun _ _ _ _ => trivial)⟩⟩ rfl rfl hl.1 rfl (lv_room (Nat.le_of_ble_eq_true rfl)) dL_law_12 ⟨Nat.le_of_ble_eq_true rfl, Nat.le_of_ble_eq_true rfl⟩) hS (fun q _ h => hFc q h) hFc (fun u t H1 locs ht hvm hw1 hB hz1 hk1 hS => ?_)
  obtain ⟨a2, b2⟩ := u
  have hw1 : a2 0 = qb := hw1
  subst hw1
  obtain ⟨hP1, hK1, hD1⟩ := hB
  rw [ht] at hP1
  have hK1 := va_K.moved hvm.symm hK1
  obtain ⟨hP, hD⟩ := va_join (wr := wA a1 b1 S0 Z0) (w1 := wB a2 b2 M0 Z0) hP hD [12] [0, 1, 2, 3, 4, 5, 6, 7, 8, 9, 10, 11] rfl rfl (by decide) (by decide) hk1 hFc hP1 hD1
  have hK : va_K D vwCl (tA b1 ++ tB b2) s := hK.app hK1
  generalize H1 = H at hP hS ⊢
  refine W.widen (k := 18) (n := 670) (Nat.le_of_ble_eq_true rfl) (Nat.le_of_ble_eq_true rfl) ?_
  refine lv_astore_n (lv' := [(2, .ref (a2 0)), (1, .ref (a1 0)), (0, .ref b)]) hx hb dL_law_15 rfl hl (by decide) rfl (fun ls hl => ?_)
  refine lv_iconst (v := nI 0) hx hb dL_law_16 (by decide) ?_
  refine lv_istore_n (lv' := [(3, .int (nI 0)), (2, .ref (a2 0)), (1, .ref (a1 0)), (0, .ref b)]) hx hb dL_law_17 rfl hl (by decide) rfl (fun ls hl => ?_)
  exact law_loop I hI hL (fun q => Iff.rfl) ⟨hx, hb, hown, hts, hml, hK, hA⟩ hr hlocks hX hbl hbA (L + 1) 0 S0 Z0 M0 H locs ls (by omega) (by omega) hI0 ⟨hP, hD, hS⟩ (lv_sub hl [3, 2, 1, 0] rfl)
end
section
/-! the tree by its order: ps place of a node, od node at a place, lo .. hi the places of its subtree -/
def uN (f : Nat → Nat) (k v : Nat) : Nat → Nat := fun j => if j = k then v else f j
theorem uN_s {f : Nat → Nat} {k v : Nat} : uN f k v k = v := by simp [uN]
theorem uN_n {f : Nat → Nat} {k v j : Nat} (h : j ≠ k) : uN f k v j = f j := by simp [uN, h]
def TR (c r : Nat) (lf rt pa ps od lo hi : Nat → Nat) : Prop :=
  (∀ i, i < c → 1 ≤ od i ∧ od i ≤ c ∧ ps (od i) = i) ∧
  (∀ x, 1 ≤ x → x ≤ c → ps x < c ∧ od (ps x) = x ∧ lo x ≤ ps x ∧ ps x < hi x ∧ hi x ≤ c) ∧
  (∀ x, 1 ≤ x → x ≤ c → (lf x = 0 ∧ lo x = ps x) ∨ (1 ≤ lf x ∧ lf x ≤ c ∧ pa (lf x) = x ∧ lo (lf x) = lo x ∧ hi (lf x) = ps x)) ∧
  (∀ x, 1 ≤ x → x ≤ c → (rt x = 0 ∧ hi x = ps x + 1) ∨ (1 ≤ rt x ∧ rt x ≤ c ∧ pa (rt x) = x ∧ lo (rt x) = ps x + 1 ∧ hi (rt x) = hi x)) ∧
  ((c = 0 ∧ r = 0) ∨ (1 ≤ r ∧ r ≤ c ∧ pa r = 0 ∧ lo r = 0 ∧ hi r = c)) ∧
  (∀ x, 1 ≤ x → x ≤ c → (pa x = 0 ∧ x = r) ∨ (1 ≤ pa x ∧ pa x ≤ c ∧ (lf (pa x) = x ∨ rt (pa x) = x)))
theorem TR.inj {c r : Nat} {lf rt pa ps od lo hi : Nat → Nat} (h : TR c r lf rt pa ps od lo hi) {x y : Nat} (hx : 1 ≤ x) (hxc : x ≤ c) (hy : 1 ≤ y) (hyc : y ≤ c) (e : ps x = ps y) : x = y := by
  have h1 := (h.2.1 x hx hxc).2.1
  have h2 := (h.2.1 y hy hyc).2.1
  rw [← h1, ← h2, e]
/-- who lies in y's interval is y, or its parent lies there too -/
theorem TR.up {c r : Nat} {lf rt pa ps od lo hi : Nat → Nat} (h : TR c r lf rt pa ps od lo hi) : ∀ (d y x : Nat), hi y - lo y ≤ d → 1 ≤ y → y ≤ c → 1 ≤ x → x ≤ c → lo y ≤ ps x → ps x < hi y → x = y ∨ (1 ≤ pa x ∧ pa x ≤ c ∧ lo y ≤ ps (pa x) ∧ ps (pa x) < hi y) := by
  intro d
  induction d with
  | zero => intro y x hd hy hyc hx hxc h1 h2; omega
  | succ d ih =>
    intro y x hd hy hyc hx hxc h1 h2
    obtain ⟨-, hb, hl, hr, -, -⟩ := id h
    have hby := hb y hy hyc
    rcases Nat.lt_trichotomy (ps x) (ps y) with q | q | q
    · rcases hl y hy hyc with ⟨e1, e2⟩ | ⟨e1, e2, e3, e4, e5⟩
      · omega
      · rcases ih (lf y) x (by omega) e1 e2 hx hxc (by omega) (by omega) with z | z
        · right
          rw [z, e3]
          omega
        · right; omega
    · exact Or.inl (h.inj hx hxc hy hyc q)
    · rcases hr y hy hyc with ⟨e1, e2⟩ | ⟨e1, e2, e3, e4, e5⟩
      · omega
      · rcases ih (rt y) x (by omega) e1 e2 hx hxc (by omega) (by omega) with z | z
        · right
          rw [z, e3]
          omega
        · right; omega
/-- the parent's interval is larger -/
theorem TR.grow {c r : Nat} {lf rt pa ps od lo hi : Nat → Nat} (h : TR c r lf rt pa ps od lo hi) {x : Nat} (hx : 1 ≤ x) (hxc : x ≤ c) (hp : pa x ≠ 0) : 1 ≤ pa x ∧ pa x ≤ c ∧ hi x - lo x < hi (pa x) - lo (pa x) := by
  obtain ⟨-, hb, hl, hr, -, hpa⟩ := id h
  rcases hpa x hx hxc with ⟨e, -⟩ | ⟨e1, e2, e3⟩
  · exact absurd e hp
  · refine ⟨e1, e2, ?_⟩
    have h1 := hb _ e1 e2
    rcases e3 with z | z
    · rcases hl _ e1 e2 with ⟨w1, w2⟩ | ⟨w1, w2, w3, w4, w5⟩
      · omega
      · rw [z] at w4 w5; omega
    · rcases hr _ e1 e2 with ⟨w1, w2⟩ | ⟨w1, w2, w3, w4, w5⟩
      · omega
      · rw [z] at w4 w5; omega
set_option maxHeartbeats 4000000 in
theorem TR.liftL {c r : Nat} {lf rt pa ps od lo hi : Nat → Nat} (h : TR c r lf rt pa ps od lo hi) {x p g : Nat} (hx : 1 ≤ x) (hxc : x ≤ c) (hp : pa x = p) (hp0 : p ≠ 0) (hg : pa p = g) (hl : lf p = x)
    {lf' rt' pa' lo' hi' : Nat → Nat} {r' : Nat} (er : r' = if g = 0 then x else r)
    (elf : ∀ j, lf' j = if g ≠ 0 ∧ lf g = p ∧ j = g then x else if j = p then rt x else lf j)
    (ert : ∀ j, rt' j = if g ≠ 0 ∧ lf g ≠ p ∧ j = g then x else if j = x then p else rt j)
    (epa : ∀ j, pa' j = if j = x then g else if j = p then x else if j = rt x ∧ rt x ≠ 0 then p else pa j)
    (elo : ∀ j, lo' j = if j = p then ps x + 1 else lo j) (ehi : ∀ j, hi' j = if j = x then hi p else hi j) : TR c r' lf' rt' pa' ps od lo' hi' := by
  obtain ⟨ha, hb, hL, hR, hr, hpa⟩ := id h
  have hpn : 1 ≤ p ∧ p ≤ c := by
    rcases hpa x hx hxc with ⟨e, -⟩ | ⟨e1, e2, -⟩ <;> omega
  have hbx := hb x hx hxc
  have hbp := hb p hpn.1 hpn.2
  have hLp : pa x = p ∧ lo x = lo p ∧ hi x = ps p := by
    rcases hL p hpn.1 hpn.2 with q | q
    · omega
    · rw [hl] at q; omega
  have hxp : x ≠ p := by intro e; subst e; omega
  have hgx : g ≠ x := by
    intro e
    have hc : x = pa p := by omega
    have := h.grow hpn.1 hpn.2 (by omega)
    have := h.grow hx hxc (by omega)
    rw [← hc] at *
    omega
  have hgp : g ≠ p := by
    intro e
    have := h.grow hpn.1 hpn.2 (by omega)
    rw [hg, e] at this
    omega
  have hgn : g = 0 ∨ (1 ≤ g ∧ g ≤ c) := by
    rcases hpa p hpn.1 hpn.2 with ⟨e, -⟩ | ⟨e1, e2, -⟩ <;> omega
  have hRx := hR x hx hxc
  have hRp := hR p hpn.1 hpn.2
  have hLx := hL x hx hxc
  have hLg : g ≠ 0 → (lf g = 0 ∧ lo g = ps g) ∨ (1 ≤ lf g ∧ lf g ≤ c ∧ pa (lf g) = g ∧ lo (lf g) = lo g ∧ hi (lf g) = ps g) := fun q => hL g (by omega) (by omega)
  have hRg : g ≠ 0 → (rt g = 0 ∧ hi g = ps g + 1) ∨ (1 ≤ rt g ∧ rt g ≤ c ∧ pa (rt g) = g ∧ lo (rt g) = ps g + 1 ∧ hi (rt g) = hi g) := fun q => hR g (by omega) (by omega)
  have hpp := hpa p hpn.1 hpn.2
  refine ⟨ha, ?_, ?_, ?_, ?_, ?_⟩
  · intro y h1 h2
    have := hb y h1 h2
    have := elo y
    have := ehi y
    clear h ha hb hL hR hpa elf ert epa elo ehi
    grind (splits := 60)
  · intro y h1 h2
    have := hL y h1 h2
    have := hb y h1 h2
    have := elf y
    have := elo y
    have := epa (lf y)
    have := elo (lf y)
    have := ehi (lf y)
    have := epa (rt x)
    have := elo (rt x)
    have := ehi (rt x)
    have := epa x
    have := elo x
    have := ehi x
    clear h ha hb hL hR hpa elf ert epa elo ehi
    grind (splits := 60)
  · intro y h1 h2
    have := hR y h1 h2
    have := hb y h1 h2
    have := ert y
    have := ehi y
    have := epa (rt y)
    have := elo (rt y)
    have := ehi (rt y)
    have := epa p
    have := elo p
    have := ehi p
    have := epa x
    have := elo x
    have := ehi x
    clear h ha hb hL hR hpa elf ert epa elo ehi
    grind (splits := 60)
  · have := epa r
    have := elo r
    have := ehi r
    have := epa x
    have := elo x
    have := ehi x
    clear h ha hb hL hR hpa elf ert epa elo ehi
    grind (splits := 60)
  · intro y h1 h2
    have := hpa y h1 h2
    have := epa y
    have := elf (pa y)
    have := ert (pa y)
    have := elf g
    have := ert g
    have := elf p
    have := ert x
    clear h ha hb hL hR hpa elf ert epa elo ehi
    grind (splits := 60)
set_option maxHeartbeats 4000000 in
theorem TR.liftR {c r : Nat} {lf rt pa ps od lo hi : Nat → Nat} (h : TR c r lf rt pa ps od lo hi) {x p g : Nat} (hx : 1 ≤ x) (hxc : x ≤ c) (hp : pa x = p) (hp0 : p ≠ 0) (hg : pa p = g) (hl : rt p = x)
    {lf' rt' pa' lo' hi' : Nat → Nat} {r' : Nat} (er : r' = if g = 0 then x else r)
    (elf : ∀ j, lf' j = if g ≠ 0 ∧ lf g = p ∧ j = g then x else if j = x then p else lf j)
    (ert : ∀ j, rt' j = if g ≠ 0 ∧ lf g ≠ p ∧ j = g then x else if j = p then lf x else rt j)
    (epa : ∀ j, pa' j = if j = x then g else if j = p then x else if j = lf x ∧ lf x ≠ 0 then p else pa j)
    (elo : ∀ j, lo' j = if j = x then lo p else lo j) (ehi : ∀ j, hi' j = if j = p then ps x else hi j) : TR c r' lf' rt' pa' ps od lo' hi' := by
  obtain ⟨ha, hb, hL, hR, hr, hpa⟩ := id h
  have hpn : 1 ≤ p ∧ p ≤ c := by
    rcases hpa x hx hxc with ⟨e, -⟩ | ⟨e1, e2, -⟩ <;> omega
  have hbx := hb x hx hxc
  have hbp := hb p hpn.1 hpn.2
  have hLp : pa x = p ∧ lo x = ps p + 1 ∧ hi x = hi p := by
    rcases hR p hpn.1 hpn.2 with q | q
    · omega
    · rw [hl] at q; omega
  have hxp : x ≠ p := by intro e; subst e; omega
  have hgx : g ≠ x := by
    intro e
    have hc : x = pa p := by omega
    have := h.grow hpn.1 hpn.2 (by omega)
    have := h.grow hx hxc (by omega)
    rw [← hc] at *
    omega
  have hgp : g ≠ p := by
    intro e
    have := h.grow hpn.1 hpn.2 (by omega)
    rw [hg, e] at this
    omega
  have hgn : g = 0 ∨ (1 ≤ g ∧ g ≤ c) := by
    rcases hpa p hpn.1 hpn.2 with ⟨e, -⟩ | ⟨e1, e2, -⟩ <;> omega
  have hRx := hR x hx hxc
  have hRp := hR p hpn.1 hpn.2
  have hLx := hL x hx hxc
  have hLpp := hL p hpn.1 hpn.2
  have hLg : g ≠ 0 → (lf g = 0 ∧ lo g = ps g) ∨ (1 ≤ lf g ∧ lf g ≤ c ∧ pa (lf g) = g ∧ lo (lf g) = lo g ∧ hi (lf g) = ps g) := fun q => hL g (by omega) (by omega)
  have hRg : g ≠ 0 → (rt g = 0 ∧ hi g = ps g + 1) ∨ (1 ≤ rt g ∧ rt g ≤ c ∧ pa (rt g) = g ∧ lo (rt g) = ps g + 1 ∧ hi (rt g) = hi g) := fun q => hR g (by omega) (by omega)
  have hpp := hpa p hpn.1 hpn.2
  refine ⟨ha, ?_, ?_, ?_, ?_, ?_⟩
  · intro y h1 h2
    have := hb y h1 h2
    have := elo y
    have := ehi y
    clear h ha hb hL hR hpa elf ert epa elo ehi
    grind (splits := 60)
  · intro y h1 h2
    have := hL y h1 h2
    have := hb y h1 h2
    have := elf y
    have := elo y
    have := epa (lf y)
    have := elo (lf y)
    have := ehi (lf y)
    have := epa p
    have := elo p
    have := ehi p
    have := epa x
    have := elo x
    have := ehi x
    clear h ha hb hL hR hpa elf ert epa elo ehi
    grind (splits := 60)
  · intro y h1 h2
    have := hR y h1 h2
    have := hb y h1 h2
    have := ert y
    have := ehi y
    have := epa (rt y)
    have := elo (rt y)
    have := ehi (rt y)
    have := epa (lf x)
    have := elo (lf x)
    have := ehi (lf x)
    have := epa x
    have := elo x
    have := ehi x
    clear h ha hb hL hR hpa elf ert epa elo ehi
    grind (splits := 60)
  · have := epa r
    have := elo r
    have := ehi r
    have := epa x
    have := elo x
    have := ehi x
    clear h ha hb hL hR hpa elf ert epa elo ehi
    grind (splits := 60)
  · intro y h1 h2
    have := hpa y h1 h2
    have := epa y
    have := elf (pa y)
    have := ert (pa y)
    have := elf g
    have := ert g
    have := elf x
    have := ert p
    clear h ha hb hL hR hpa elf ert epa elo ehi
    grind (splits := 60)

set_option maxHeartbeats 4000000 in
theorem TR.ins {c r : Nat} {lf rt pa ps od lo hi : Nat → Nat} (h : TR c r lf rt pa ps od lo hi) {z q : Nat} (hz : 1 ≤ z) (hzc : z ≤ c) (left : Bool)
    (hq : q = if left then ps z else ps z + 1) (hf : if left then lf z = 0 else rt z = 0) (hlm : lf (c + 1) = 0) (hrm : rt (c + 1) = 0)
    {lf' rt' pa' ps' od' lo' hi' : Nat → Nat}
    (elf : ∀ j, lf' j = if left = true ∧ j = z then c + 1 else lf j)
    (ert : ∀ j, rt' j = if left = false ∧ j = z then c + 1 else rt j)
    (epa : ∀ j, pa' j = if j = c + 1 then z else pa j)
    (eps : ∀ j, ps' j = if j = c + 1 then q else if q ≤ ps j then ps j + 1 else ps j)
    (eod : ∀ i, od' i = if i < q then od i else if i = q then c + 1 else od (i - 1))
    (elo : ∀ j, lo' j = if j = c + 1 then q else if ps z < lo j then lo j + 1 else lo j)
    (ehi : ∀ j, hi' j = if j = c + 1 then q + 1 else if ps z < hi j then hi j + 1 else hi j) : TR (c + 1) r lf' rt' pa' ps' od' lo' hi' := by
  obtain ⟨ha, hb, hL, hR, hr, hpa⟩ := id h
  have hbz := hb z hz hzc
  have hLz := hL z hz hzc
  have hRz := hR z hz hzc
  have hqc : q ≤ c := by cases left <;> simp at hq <;> omega
  have inj : ∀ y, 1 ≤ y → y ≤ c → ps y = ps z → y = z := fun y h1 h2 e => h.inj h1 h2 hz hzc e
  refine ⟨?_, ?_, ?_, ?_, ?_, ?_⟩
  · intro i hi'
    rw [eod]
    split
    · have := ha i (by omega)
      rw [eps, if_neg (by omega), if_neg (by omega)]
      omega
    · split
      · rw [eps, if_pos rfl]; omega
      · have := ha (i - 1) (by omega)
        rw [eps, if_neg (by omega), if_pos (by omega)]
        omega
  · intro y h1 h2
    rw [eps, elo, ehi]
    by_cases hy : y = c + 1
    · rw [if_pos hy, if_pos hy, if_pos hy, eod, if_neg (by omega), if_pos rfl]; omega
    · rw [if_neg hy, if_neg hy, if_neg hy]
      have hby := hb y h1 (by omega)
      cases left <;> simp at hq
      · split
        · rw [eod, if_neg (by omega), if_neg (by omega), show ps y + 1 - 1 = ps y by omega]
          split <;> split <;> omega
        · rw [eod, if_pos (by omega)]
          split <;> split <;> omega
      · split
        · rw [eod, if_neg (by omega), if_neg (by omega), show ps y + 1 - 1 = ps y by omega]
          split <;> split <;> omega
        · rw [eod, if_pos (by omega)]
          split <;> split <;> omega
  · intro y h1 h2
    have e1 := elf y
    have e2 := elo y
    have e3 := eps y
    have e4 := epa (lf y)
    have e5 := elo (lf y)
    have e6 := ehi (lf y)
    have e7 := epa (c + 1)
    have e8 := elo (c + 1)
    have e9 := ehi (c + 1)
    have i1 := inj y h1
    by_cases hy : y = c + 1
    · subst hy
      clear h ha hb hL hR hpa elf ert epa elo ehi eps eod inj
      cases left <;> simp at hq hf e1 <;> grind (splits := 60)
    · have i2 := inj y h1 (by omega)
      have hby := hb y h1 (by omega)
      have hLy := hL y h1 (by omega)
      clear h ha hb hL hR hpa elf ert epa elo ehi eps eod inj
      cases left <;> simp at hq hf e1 <;> grind (splits := 60)
  · intro y h1 h2
    have e1 := ert y
    have e2 := ehi y
    have e3 := eps y
    have e4 := epa (rt y)
    have e5 := elo (rt y)
    have e6 := ehi (rt y)
    have e7 := epa (c + 1)
    have e8 := elo (c + 1)
    have e9 := ehi (c + 1)
    by_cases hy : y = c + 1
    · subst hy
      clear h ha hb hL hR hpa elf ert epa elo ehi eps eod inj
      cases left <;> simp at hq hf e1 <;> grind (splits := 60)
    · have i2 := inj y h1 (by omega)
      have hby := hb y h1 (by omega)
      have hLy := hR y h1 (by omega)
      clear h ha hb hL hR hpa elf ert epa elo ehi eps eod inj
      cases left <;> simp at hq hf e1 <;> grind (splits := 60)
  · right
    have hr' : 1 ≤ r ∧ r ≤ c ∧ pa r = 0 ∧ lo r = 0 ∧ hi r = c := by omega
    rw [epa, elo, ehi, if_neg (by omega), if_neg (by omega), if_neg (by omega), if_neg (by omega), if_pos (by omega)]
    omega
  · intro y h1 h2
    rw [epa]
    by_cases hy : y = c + 1
    · right
      rw [if_pos hy, elf, ert]
      cases left <;> simp <;> omega
    · rw [if_neg hy]
      rcases hpa y h1 (by omega) with q1 | ⟨q1, q2, q3⟩
      · exact Or.inl q1
      · right
        refine ⟨q1, by omega, ?_⟩
        rw [elf, ert]
        cases left <;> simp at hf ⊢ <;> grind
theorem TR.one {lf rt pa ps od lo hi : Nat → Nat} (h1 : lf 1 = 0) (h2 : rt 1 = 0) (h3 : pa 1 = 0) (h4 : ps 1 = 0) (h5 : od 0 = 1) (h6 : lo 1 = 0) (h7 : hi 1 = 1) : TR 1 1 lf rt pa ps od lo hi := by
  refine ⟨?_, ?_, ?_, ?_, ?_, ?_⟩
  · intro i hi'
    have : i = 0 := by omega
    subst this
    rw [h5, h4]; omega
  · intro x q1 q2
    have : x = 1 := by omega
    subst this
    rw [h4]; omega
  · intro x q1 q2
    have : x = 1 := by omega
    subst this; omega
  · intro x q1 q2
    have : x = 1 := by omega
    subst this; omega
  · omega
  · intro x q1 q2
    have : x = 1 := by omega
    subst this; omega
theorem TR.congr {c r : Nat} {lf rt pa ps od lo hi lf' rt' pa' : Nat → Nat} (h : TR c r lf rt pa ps od lo hi) (h1 : ∀ j, j ≤ c → lf' j = lf j) (h2 : ∀ j, j ≤ c → rt' j = rt j) (h3 : ∀ j, j ≤ c → pa' j = pa j) : TR c r lf' rt' pa' ps od lo hi := by
  obtain ⟨ha, hb, hL, hR, hr, hpa⟩ := h
  refine ⟨ha, hb, ?_, ?_, ?_, ?_⟩
  · intro x q1 q2
    rw [h1 x q2]
    rcases hL x q1 q2 with q | q
    · exact Or.inl q
    · rw [h3 _ q.2.1]; exact Or.inr q
  · intro x q1 q2
    rw [h2 x q2]
    rcases hR x q1 q2 with q | q
    · exact Or.inl q
    · rw [h3 _ q.2.1]; exact Or.inr q
  · rcases hr with q | q
    · exact Or.inl q
    · rw [h3 _ q.2.1]; exact Or.inr q
  · intro x q1 q2
    rw [h3 x q2]
    rcases hpa x q1 q2 with q | q
    · exact Or.inl q
    · rw [h1 _ q.2.1, h2 _ q.2.1]; exact Or.inr q
end
section
/-! counting: pre f n is the number of i < n with f i -/
def pre (f : Nat → Bool) : Nat → Nat
  | 0 => 0
  | n + 1 => pre f n + (if f n = true then 1 else 0)
theorem pre_0 {f : Nat → Bool} : pre f 0 = 0 := rfl
theorem pre_s {f : Nat → Bool} {n : Nat} : pre f (n + 1) = pre f n + (if f n = true then 1 else 0) := rfl
theorem pre_mono {f : Nat → Bool} {a b : Nat} (h : a ≤ b) : pre f a ≤ pre f b := by
  induction b with
  | zero => have : a = 0 := by omega
            subst this; exact Nat.le_refl _
  | succ b ih =>
    rcases Nat.lt_or_ge a (b + 1) with q | q
    · have := ih (by omega)
      rw [pre_s]; omega
    · have : a = b + 1 := by omega
      subst this; exact Nat.le_refl _
theorem pre_le {f : Nat → Bool} (n : Nat) : pre f n ≤ n := by
  induction n with
  | zero => exact Nat.le_refl _
  | succ n ih => rw [pre_s]; split <;> omega
theorem pre_lt {f : Nat → Bool} {P b : Nat} (h : P < b) (hf : f P = true) : pre f P < pre f b := by
  have h1 := pre_mono (f := f) (show P + 1 ≤ b by omega)
  rw [pre_s, if_pos hf] at h1
  omega
theorem pre_congr {f g : Nat → Bool} {n : Nat} (h : ∀ i, i < n → f i = g i) : pre f n = pre g n := by
  induction n with
  | zero => rfl
  | succ n ih => rw [pre_s, pre_s, ih (fun i hi => h i (by omega)), h n (by omega)]
/-- over a stretch where they agree, f and g count alike -/
theorem pre_part {f g : Nat → Bool} {a b : Nat} (hab : a ≤ b) (h : ∀ i, a ≤ i → i < b → f i = g i) : pre f b + pre g a = pre g b + pre f a := by
  induction b with
  | zero => have : a = 0 := by omega
            subst this; omega
  | succ b ih =>
    rcases Nat.lt_or_ge a (b + 1) with q | q
    · have := ih (by omega) (fun i h1 h2 => h i h1 (by omega))
      rw [pre_s, pre_s, h b (by omega) (by omega)]; omega
    · have : a = b + 1 := by omega
      subst this; omega
theorem pre_find {f : Nat → Bool} {n q : Nat} (h : q < pre f n) : ∃ P, P < n ∧ f P = true ∧ pre f P = q := by
  induction n with
  | zero => rw [pre_0] at h; omega
  | succ n ih =>
    by_cases h1 : q < pre f n
    · obtain ⟨P, h2, h3⟩ := ih h1
      exact ⟨P, by omega, h3⟩
    · rw [pre_s] at h
      by_cases hf : f n = true
      · rw [if_pos hf] at h
        exact ⟨n, by omega, hf, by omega⟩
      · rw [if_neg hf] at h; omega
theorem pre_uniq {f : Nat → Bool} {P Q : Nat} (hP : f P = true) (hQ : f Q = true) (h : pre f P = pre f Q) : P = Q := by
  rcases Nat.lt_trichotomy P Q with q | q | q
  · have := pre_lt q hP; omega
  · exact q
  · have := pre_lt q hQ; omega
/-- one place more at q -/
theorem pre_ins {f g : Nat → Bool} {q : Nat} (h1 : ∀ i, i < q → g i = f i) (h2 : ∀ i, q ≤ i → g (i + 1) = f i) : ∀ i, (i ≤ q → pre g i = pre f i) ∧ (q ≤ i → pre g (i + 1) = pre f i + (if g q = true then 1 else 0)) := by
  intro i
  have hA : ∀ i, i ≤ q → pre g i = pre f i := fun i hi => pre_congr (fun j hj => h1 j (by omega))
  refine ⟨hA i, ?_⟩
  induction i with
  | zero =>
    intro h
    have : q = 0 := by omega
    subst this
    rfl
  | succ i ih =>
    intro h
    rcases Nat.lt_or_ge i q with z | z
    · have : q = i + 1 := by omega
      subst this
      rw [pre_s, hA _ (Nat.le_refl _)]
    · rw [pre_s, ih z, h2 i z, pre_s]; omega
/-- one place changed -/
theorem pre_one {f g : Nat → Bool} {e n : Nat} (he : e < n) (h : ∀ i, i < n → i ≠ e → g i = f i) : pre g n + (if f e = true then 1 else 0) = pre f n + (if g e = true then 1 else 0) := by
  have h1 := pre_part (f := g) (g := f) (show e + 1 ≤ n by omega) (fun i a b => h i b (by omega))
  have h2 := pre_congr (f := g) (g := f) (n := e) (fun i a => h i (by omega) (by omega))
  rw [pre_s, pre_s] at h1
  omega
theorem pre_zero {f : Nat → Bool} {n : Nat} (h : ∀ i, i < n → f i = false) : pre f n = 0 := by
  induction n with
  | zero => rfl
  | succ n ih => rw [pre_s, ih (fun i hi => h i (by omega)), h n (by omega)]; rfl
theorem pre_eq0 {f : Nat → Bool} {n : Nat} (h : pre f n = 0) : ∀ i, i < n → f i = false := by
  intro i hi
  cases hf : f i with
  | false => rfl
  | true => have := pre_lt hi hf; omega
end
section
/-! the sums shownIn: finding a place, the place of a node, repairing upwards -/
def shB (S : SS) (x : Nat) : Bool := decide (¬ S 11 (ix (S 8 x)) = 0 ∧ S 9 x = 0)
def FS (S : SS) (od : Nat → Nat) : Nat → Bool := fun i => shB S (od i)
def TS (c : Nat) (S : SS) (ps od lo hi : Nat → Nat) : Prop := TR c (ix (S 0 1)) (fun j => ix (S 2 j)) (fun j => ix (S 3 j)) (fun j => ix (S 4 j)) ps od lo hi
section TSA
variable {c : Nat} {S : SS} {ps od lo hi : Nat → Nat}
theorem TS.o (h : TS c S ps od lo hi) : ∀ i, i < c → 1 ≤ od i ∧ od i ≤ c ∧ ps (od i) = i := h.1
theorem TS.b (h : TS c S ps od lo hi) : ∀ x, 1 ≤ x → x ≤ c → ps x < c ∧ od (ps x) = x ∧ lo x ≤ ps x ∧ ps x < hi x ∧ hi x ≤ c := h.2.1
theorem TS.l (h : TS c S ps od lo hi) : ∀ x, 1 ≤ x → x ≤ c → (ix (S 2 x) = 0 ∧ lo x = ps x) ∨ (1 ≤ ix (S 2 x) ∧ ix (S 2 x) ≤ c ∧ ix (S 4 (ix (S 2 x))) = x ∧ lo (ix (S 2 x)) = lo x ∧ hi (ix (S 2 x)) = ps x) := h.2.2.1
theorem TS.r (h : TS c S ps od lo hi) : ∀ x, 1 ≤ x → x ≤ c → (ix (S 3 x) = 0 ∧ hi x = ps x + 1) ∨ (1 ≤ ix (S 3 x) ∧ ix (S 3 x) ≤ c ∧ ix (S 4 (ix (S 3 x))) = x ∧ lo (ix (S 3 x)) = ps x + 1 ∧ hi (ix (S 3 x)) = hi x) := h.2.2.2.1
theorem TS.t (h : TS c S ps od lo hi) : (c = 0 ∧ ix (S 0 1) = 0) ∨ (1 ≤ ix (S 0 1) ∧ ix (S 0 1) ≤ c ∧ ix (S 4 (ix (S 0 1))) = 0 ∧ lo (ix (S 0 1)) = 0 ∧ hi (ix (S 0 1)) = c) := h.2.2.2.2.1
theorem TS.p (h : TS c S ps od lo hi) : ∀ x, 1 ≤ x → x ≤ c → (ix (S 4 x) = 0 ∧ x = ix (S 0 1)) ∨ (1 ≤ ix (S 4 x) ∧ ix (S 4 x) ≤ c ∧ (ix (S 2 (ix (S 4 x))) = x ∨ ix (S 3 (ix (S 4 x))) = x)) := h.2.2.2.2.2
theorem TS.gr (h : TS c S ps od lo hi) {x : Nat} (hx : 1 ≤ x) (hxc : x ≤ c) (hp : ix (S 4 x) ≠ 0) : 1 ≤ ix (S 4 x) ∧ ix (S 4 x) ≤ c ∧ hi x - lo x < hi (ix (S 4 x)) - lo (ix (S 4 x)) := TR.grow h hx hxc hp
theorem TS.up (h : TS c S ps od lo hi) {y x : Nat} (hy : 1 ≤ y) (hyc : y ≤ c) (hx : 1 ≤ x) (hxc : x ≤ c) (h1 : lo y ≤ ps x) (h2 : ps x < hi y) : x = y ∨ (1 ≤ ix (S 4 x) ∧ ix (S 4 x) ≤ c ∧ lo y ≤ ps (ix (S 4 x)) ∧ ps (ix (S 4 x)) < hi y) := TR.up h _ y x (Nat.le_refl _) hy hyc hx hxc h1 h2
end TSA
def sgood (S : SS) (od lo hi : Nat → Nat) (y : Nat) : Prop := S 6 y = nI (pre (FS S od) (hi y) - pre (FS S od) (lo y))
theorem rd2 {S : SS} (h : RG S) {j : Nat} (hj : j < 49) : S 2 j = nI (ix (S 2 j)) := (nI_ix (vin_nn (h.1 j hj))).symm
theorem rd3 {S : SS} (h : RG S) {j : Nat} (hj : j < 49) : S 3 j = nI (ix (S 3 j)) := (nI_ix (vin_nn (h.2.1 j hj))).symm
theorem rd4 {S : SS} (h : RG S) {j : Nat} (hj : j < 49) : S 4 j = nI (ix (S 4 j)) := (nI_ix (vin_nn (h.2.2.1 j hj))).symm
theorem rd8 {S : SS} (h : RG S) {j : Nat} (hj : j < 49) : S 8 j = nI (ix (S 8 j)) := (nI_ix (vin_nn (h.2.2.2.1 j hj))).symm
theorem rd12 {S : SS} (h : RG S) {j : Nat} (hj : j < 32) : S 12 j = nI (ix (S 12 j)) := (nI_ix (vin_nn (h.2.2.2.2.1 j hj))).symm
theorem shI_N {S : SS} {x : Nat} (h1 : 1 ≤ x) (h2 : x < 2 ^ 31) : shI S (nI x) = if shB S x = true then 1 else 0 := by
  unfold shI
  rw [if_neg (nI_ne0 h1 h2), ix_nI h2]
  by_cases q1 : S 11 (ix (S 8 x)) = 0
  · simp [shB, q1]
  · by_cases q2 : S 9 x = 0
    · simp [shB, q1, q2]
    · simp [shB, q1, q2]
theorem b01_if {b : Bool} : b01 (if b = true then 1 else 0) = nI (if b = true then 1 else 0) := by
  cases b <;> decide
theorem left_sum {c : Nat} {S : SS} {ps od lo hi : Nat → Nat} (h : TS c S ps od lo hi) (h0 : S 6 0 = 0) {x : Nat} (hx : 1 ≤ x) (hxc : x ≤ c) (hg : ∀ y, 1 ≤ y → y ≤ c → y = ix (S 2 x) → sgood S od lo hi y) : S 6 (ix (S 2 x)) = nI (pre (FS S od) (ps x) - pre (FS S od) (lo x)) := by
  rcases h.l x hx hxc with ⟨e1, e2⟩ | ⟨e1, e2, e3, e4, e5⟩
  · rw [show ix (S 2 x) = 0 from e1, h0, e2, Nat.sub_self]; rfl
  · have := hg _ e1 e2 rfl
    unfold sgood at this
    rw [this, e4, e5]
theorem right_sum {c : Nat} {S : SS} {ps od lo hi : Nat → Nat} (h : TS c S ps od lo hi) (h0 : S 6 0 = 0) {x : Nat} (hx : 1 ≤ x) (hxc : x ≤ c) (hg : ∀ y, 1 ≤ y → y ≤ c → y = ix (S 3 x) → sgood S od lo hi y) : S 6 (ix (S 3 x)) = nI (pre (FS S od) (hi x) - pre (FS S od) (ps x + 1)) := by
  rcases h.r x hx hxc with ⟨e1, e2⟩ | ⟨e1, e2, e3, e4, e5⟩
  · rw [show ix (S 3 x) = 0 from e1, h0, e2, Nat.sub_self]; rfl
  · have := hg _ e1 e2 rfl
    unfold sgood at this
    rw [this, e4, e5]
set_option maxHeartbeats 1000000 in
theorem naF_ok {c : Nat} {S : SS} {ps od lo hi : Nat → Nat} (h : TS c S ps od lo hi) (rg : RG S) (hc : c ≤ 48) (h0 : S 6 0 = 0) (hg : ∀ y, 1 ≤ y → y ≤ c → sgood S od lo hi y) {P : Nat} (hP : FS S od P = true) :
    ∀ (n x : Nat), 1 ≤ x → x ≤ c → lo x ≤ P → P < hi x → hi x - lo x ≤ n → naF n S (nI x) (nI (pre (FS S od) P - pre (FS S od) (lo x))) = nI (od P) := by
  intro n
  induction n with
  | zero => intro x h1 h2 h3 h4 h5; omega
  | succ n ih =>
    intro x h1 h2 h3 h4 h5
    have hb := h.b x h1 h2
    have hPc : P < c := by omega
    have e1 : S 6 (ix (S 2 (ix (nI x)))) = nI (pre (FS S od) (ps x) - pre (FS S od) (lo x)) := by
      rw [ix_nI (by omega)]; exact left_sum h h0 h1 h2 (fun y q1 q2 _ => hg y q1 q2)
    have m1 := pre_mono (f := FS S od) hb.2.2.1
    have m2 := pre_mono (f := FS S od) h3
    have l1 := pre_le (f := FS S od) P
    have l2 := pre_le (f := FS S od) (ps x)
    rw [naF, e1, shI_N h1 (by omega), b01_if]
    have hF : FS S od (ps x) = shB S x := by rw [FS, hb.2.1]
    rcases Nat.lt_trichotomy P (ps x) with q | q | q
    · have m3 := pre_lt q hP
      rw [if_neg (nI_ge (by omega) (by omega)), ix_nI (by omega), rd2 rg (by omega)]
      rcases h.l x h1 h2 with ⟨w1, w2⟩ | ⟨w1, w2, w3, w4, w5⟩
      · omega
      · have := ih _ w1 w2 (by omega) (by omega) (by omega)
        rw [w4] at this
        exact this
    · subst q
      rw [if_pos (nI_le (Nat.le_refl _) (by omega)), if_pos]
      · rw [hb.2.1]
      · refine ⟨rfl, ?_⟩
        rw [← hF, hP]; decide
    · have m3 := pre_mono (f := FS S od) (show ps x + 1 ≤ P by omega)
      rw [pre_s, hF] at m3
      rw [if_pos (nI_le (by omega) (by omega)), if_neg]
      · rcases h.r x h1 h2 with ⟨w1, w2⟩ | ⟨w1, w2, w3, w4, w5⟩
        · omega
        · have := ih _ w1 w2 (by omega) (by omega) (by omega)
          rw [w4, pre_s, hF] at this
          rw [ix_nI (by omega), rd3 rg (by omega), pk_sub (by omega), pk_sub (by omega)]
          rw [← this]
          congr 2
          omega
      · rintro ⟨q1, q2⟩
        have q3 := (nI_eq (by omega) (by omega)).mp q1
        by_cases hs : shB S x = true
        · rw [if_pos hs] at m3; omega
        · rw [if_neg hs] at q2; exact q2 rfl
theorem node_ok {c : Nat} {S : SS} {ps od lo hi : Nat → Nat} (h : TS c S ps od lo hi) (rg : RG S) (hc : c ≤ 48) (h0 : S 6 0 = 0) (hg : ∀ y, 1 ≤ y → y ≤ c → sgood S od lo hi y) {P : Nat} (hPc : P < c) (hP : FS S od P = true) : nodeF S (nI (pre (FS S od) P)) = nI (od P) := by
  rcases h.t with q | ⟨q1, q2, q3, q4, q5⟩
  · omega
  · have := naF_ok h rg hc h0 hg hP 48 _ q1 q2 (by omega) (by omega) (by omega)
    rw [q4, pre_0, Nat.sub_zero] at this
    rw [nodeF, ← this, nI_ix (vin_nn (rgO rg))]
theorem tl_ok {c : Nat} {S : SS} {ps od lo hi : Nat → Nat} (h : TS c S ps od lo hi) (h0 : S 6 0 = 0) (hg : ∀ y, 1 ≤ y → y ≤ c → sgood S od lo hi y) : tlF S = nI (pre (FS S od) c) := by
  unfold tlF
  rcases h.t with ⟨q1, q2⟩ | ⟨q1, q2, q3, q4, q5⟩
  · rw [q2, h0, q1]; rfl
  · have := hg _ q1 q2
    unfold sgood at this
    rw [this, q4, q5, pre_0, Nat.sub_zero]
set_option maxHeartbeats 1000000 in
theorem poF_ok {c : Nat} {S : SS} {ps od lo hi : Nat → Nat} (h : TS c S ps od lo hi) (rg : RG S) (hc : c ≤ 48) (h0 : S 6 0 = 0) (hg : ∀ y, 1 ≤ y → y ≤ c → sgood S od lo hi y) {P : Nat} (hPc : P < c) :
    ∀ (n z : Nat), 1 ≤ z → z ≤ c → lo z ≤ P → c < n + (hi z - lo z) → poF n S (nI z) (nI (pre (FS S od) P - pre (FS S od) (lo z))) = nI (pre (FS S od) P) := by
  intro n
  induction n with
  | zero =>
    intro z h1 h2 h3 h4
    have hb := h.b z h1 h2
    omega
  | succ n ih =>
    intro z h1 h2 h3 h4
    have hb := h.b z h1 h2
    rw [poF, ix_nI (show z < 2 ^ 31 by omega), rd4 rg (by omega)]
    by_cases hp : ix (S 4 z) = 0
    · rw [hp, if_pos nI_0]
      rcases h.p z h1 h2 with ⟨-, w⟩ | ⟨w, -⟩
      · rcases h.t with q | ⟨q1, q2, q3, q4, q5⟩
        · omega
        · rw [w, q4, pre_0, Nat.sub_zero]
      · omega
    · obtain ⟨g1, g2, g3⟩ := h.gr h1 h2 hp
      have hbp := h.b _ g1 g2
      have g3 : hi z - lo z < hi (ix (S 4 z)) - lo (ix (S 4 z)) := g3
      rw [if_neg (nI_ne0 g1 (by omega)), ix_nI (show ix (S 4 z) < 2 ^ 31 by omega), rd3 rg (by omega)]
      have hLs := left_sum h h0 g1 g2 (fun y q1 q2 _ => hg y q1 q2)
      by_cases hr : ix (S 3 (ix (S 4 z))) = z
      · rw [hr, if_pos rfl, hLs, shI_N g1 (by omega), b01_if]
        rcases h.r _ g1 g2 with ⟨w1, w2⟩ | ⟨w1, w2, w3, w4, w5⟩
        · omega
        · have w4 : lo z = ps (ix (S 4 z)) + 1 := by rw [← w4]; exact congrArg lo hr.symm
          have := ih _ g1 g2 (by omega) (by omega)
          rw [← this, nI_add, nI_add]
          congr 2
          have m1 := pre_mono (f := FS S od) hbp.2.2.1
          have m2 := pre_mono (f := FS S od) h3
          rw [w4, pre_s, FS, hbp.2.1] at m2
          rw [w4, pre_s]
          have hF : FS S od (ps (ix (S 4 z))) = shB S (ix (S 4 z)) := by rw [FS, hbp.2.1]
          rw [hF]
          omega
      · have hne : ¬ nI (ix (S 3 (ix (S 4 z)))) = nI z := fun q => hr ((nI_eq (by have := ix_31 (S 3 (ix (S 4 z))); exact this) (by omega)).mp q)
        rw [if_neg hne]
        rcases h.p z h1 h2 with ⟨w, -⟩ | ⟨w1, w2, w3⟩
        · exact absurd w hp
        · rcases w3 with w | w
          · rcases h.l _ g1 g2 with ⟨v1, v2⟩ | ⟨v1, v2, v3, v4, v5⟩
            · have : ix (S 2 (ix (S 4 z))) = z := w
              omega
            · have v4 : lo z = lo (ix (S 4 z)) := by rw [← v4]; exact congrArg lo w.symm
              have := ih _ g1 g2 (by omega) (by omega)
              rw [v4]
              exact this
          · exact absurd w hr
theorem place_ok {c : Nat} {S : SS} {ps od lo hi : Nat → Nat} (h : TS c S ps od lo hi) (rg : RG S) (hc : c ≤ 47) (h0 : S 6 0 = 0) (hg : ∀ y, 1 ≤ y → y ≤ c → sgood S od lo hi y) {x : Nat} (hx : 1 ≤ x) (hxc : x ≤ c) : placeF S (nI x) = nI (pre (FS S od) (ps x)) := by
  have hb := h.b x hx hxc
  rw [placeF, ix_nI (by omega), left_sum h h0 hx hxc (fun y q1 q2 _ => hg y q1 q2)]
  exact poF_ok h rg (by omega) h0 hg (by omega) 48 x hx hxc hb.2.2.1 (by omega)
theorem FS_pu {n : Nat} {S : SS} {x : Int32} {od : Nat → Nat} : FS (puS n S x) od = FS S od := by
  funext i
  simp [FS, shB, puS_k (show 11 ≠ 6 by decide), puS_k (show 8 ≠ 6 by decide), puS_k (show 9 ≠ 6 by decide)]
theorem TS_pu {n c : Nat} {S : SS} {x : Int32} {ps od lo hi : Nat → Nat} (h : TS c S ps od lo hi) : TS c (puS n S x) ps od lo hi := by
  unfold TS at h ⊢
  rw [puS_k (show 0 ≠ 6 by decide), puS_k (show 2 ≠ 6 by decide), puS_k (show 3 ≠ 6 by decide), puS_k (show 4 ≠ 6 by decide)]
  exact h
theorem plS_s {S : SS} {z : Nat} (hz : z < 2 ^ 31) {y : Nat} : plS S (nI z) 6 y = if y = z then S 6 (ix (S 2 z)) + b01 (shI S (nI z)) + S 6 (ix (S 3 z)) else S 6 y := by
  unfold plS
  rw [ix_nI hz]
  rfl
set_option maxHeartbeats 1000000 in
/-- repairing upwards from z: what is not above z was right before; then all is right -/
theorem puS_ok {c : Nat} {ps od lo hi : Nat → Nat} (hc : c ≤ 48) :
    ∀ (n : Nat) (S : SS) (z : Nat), RG S → TS c S ps od lo hi → S 6 0 = 0 → (z = 0 ∨ (1 ≤ z ∧ z ≤ c ∧ c < n + (hi z - lo z))) → (∀ y, 1 ≤ y → y ≤ c → (z ≠ 0 → ¬ (lo y ≤ ps z ∧ ps z < hi y)) → sgood S od lo hi y) →
      puS n S (nI z) 6 0 = 0 ∧ ∀ y, 1 ≤ y → y ≤ c → sgood (puS n S (nI z)) od lo hi y := by
  intro n
  induction n with
  | zero =>
    intro S z rg h h0 hz hg
    rcases hz with q | ⟨q1, q2, q3⟩
    · exact ⟨h0, fun y h1 h2 => hg y h1 h2 (fun w => absurd q w)⟩
    · have := h.b z q1 q2; omega
  | succ n ih =>
    intro S z rg h h0 hz hg
    rw [puS]
    rcases hz with q | ⟨q1, q2, q3⟩
    · subst q
      rw [if_pos nI_0]
      exact ⟨h0, fun y h1 h2 => hg y h1 h2 (fun w => absurd rfl w)⟩
    · have hb := h.b z q1 q2
      rw [if_neg (nI_ne0 q1 (by omega)), ix_nI (show z < 2 ^ 31 by omega), rd4 rg (by omega)]
      have hFS : FS (plS S (nI z)) od = FS S od := rfl
      have hval : plS S (nI z) 6 z = nI (pre (FS S od) (hi z) - pre (FS S od) (lo z)) := by
        rw [plS_s (by omega), if_pos rfl, shI_N q1 (by omega), b01_if, left_sum h h0 q1 q2 ?_, right_sum h h0 q1 q2 ?_, nI_add, nI_add]
        · congr 1
          have hF : FS S od (ps z) = shB S z := by rw [FS, hb.2.1]
          have m1 := pre_mono (f := FS S od) hb.2.2.1
          have m2 := pre_mono (f := FS S od) (show ps z + 1 ≤ hi z by omega)
          rw [pre_s, hF] at m2 ⊢
          omega
        · intro y y1 y2 ye
          refine hg y y1 y2 (fun _ w => ?_)
          rcases h.r z q1 q2 with ⟨w1, w2⟩ | ⟨w1, w2, w3, w4, w5⟩
          · have : ix (S 3 z) = 0 := w1
            omega
          · rw [← ye] at w4; omega
        · intro y y1 y2 ye
          refine hg y y1 y2 (fun _ w => ?_)
          rcases h.l z q1 q2 with ⟨w1, w2⟩ | ⟨w1, w2, w3, w4, w5⟩
          · have : ix (S 2 z) = 0 := w1
            omega
          · rw [← ye] at w5; omega
      refine ih (plS S (nI z)) (ix (S 4 z)) (RG_pl rg) h ?_ ?_ ?_
      · rw [plS_s (by omega), if_neg (by omega)]; exact h0
      · by_cases hp : ix (S 4 z) = 0
        · exact Or.inl hp
        · obtain ⟨g1, g2, g3⟩ := h.gr q1 q2 hp
          have g3 : hi z - lo z < hi (ix (S 4 z)) - lo (ix (S 4 z)) := g3
          exact Or.inr ⟨g1, g2, by omega⟩
      · intro y y1 y2 hy
        by_cases hyz : y = z
        · subst hyz
          exact hval
        · have : sgood S od lo hi y := by
            refine hg y y1 y2 (fun _ w => ?_)
            rcases h.up y1 y2 q1 q2 w.1 w.2 with v | ⟨v1, v2, v3, v4⟩
            · exact hyz v.symm
            · have v1 : 1 ≤ ix (S 4 z) := v1
              exact hy (by omega) ⟨v3, v4⟩
          unfold sgood at this ⊢
          rw [plS_s (by omega), if_neg hyz, hFS]
          exact this
end
section
/-! a rotation, and rotations up: the order stays, the sums stay right -/
def CT (c : Nat) (S : SS) (ps od lo hi : Nat → Nat) : Prop := TS c S ps od lo hi ∧ S 6 0 = 0 ∧ ∀ y, 1 ≤ y → y ≤ c → sgood S od lo hi y
/-- what hanging and lifting leave alone -/
def KP (c : Nat) (S S' : SS) : Prop := (∀ k, k ≠ 0 → k ≠ 2 → k ≠ 3 → k ≠ 4 → k ≠ 6 → S' k = S k) ∧ (∀ j, j ≠ 1 → S' 0 j = S 0 j) ∧ (∀ j, (j = 0 ∨ c < j) → S' 2 j = S 2 j ∧ S' 3 j = S 3 j ∧ S' 4 j = S 4 j)
theorem KP.rf {c : Nat} {S : SS} : KP c S S := ⟨fun _ _ _ _ _ _ => rfl, fun _ _ => rfl, fun _ _ => ⟨rfl, rfl, rfl⟩⟩
theorem KP.tr {c : Nat} {S T U : SS} (h1 : KP c S T) (h2 : KP c T U) : KP c S U := by
  refine ⟨fun k a b d e f => (h2.1 k a b d e f).trans (h1.1 k a b d e f), fun j hj => (h2.2.1 j hj).trans (h1.2.1 j hj), fun j hj => ?_⟩
  obtain ⟨a1, a2, a3⟩ := h1.2.2 j hj
  obtain ⟨b1, b2, b3⟩ := h2.2.2 j hj
  exact ⟨b1.trans a1, b2.trans a2, b3.trans a3⟩
theorem KP.wk {c d : Nat} {S T : SS} (h : KP c S T) (hd : c ≤ d) : KP d S T := ⟨h.1, h.2.1, fun j hj => h.2.2 j (by omega)⟩
theorem KP_pl {c : Nat} {S : SS} {x : Int32} : KP c S (plS S x) := ⟨fun k _ _ _ _ h => by simp [plS, up2, h], fun _ _ => rfl, fun _ _ => ⟨rfl, rfl, rfl⟩⟩
theorem KP_pu {c n : Nat} {S : SS} {x : Int32} : KP c S (puS n S x) := ⟨fun k _ _ _ _ h => puS_k h, fun _ _ => by rw [puS_k (by decide)], fun _ _ => ⟨by rw [puS_k (by decide)], by rw [puS_k (by decide)], by rw [puS_k (by decide)]⟩⟩
theorem FS_kp {c : Nat} {S S' : SS} (h : KP c S S') {od : Nat → Nat} : FS S' od = FS S od := by
  funext i
  simp [FS, shB, h.1 11 (by decide) (by decide) (by decide) (by decide) (by decide), h.1 8 (by decide) (by decide) (by decide) (by decide) (by decide), h.1 9 (by decide) (by decide) (by decide) (by decide) (by decide)]
theorem pl_fix {c : Nat} {S : SS} {ps od lo hi : Nat → Nat} (hc : c ≤ 48) (h : TS c S ps od lo hi) (h0 : S 6 0 = 0) {z : Nat} (q1 : 1 ≤ z) (q2 : z ≤ c) (hg : ∀ y, 1 ≤ y → y ≤ c → hi y - lo y < hi z - lo z → lo z ≤ ps y → ps y < hi z → sgood S od lo hi y) :
    TS c (plS S (nI z)) ps od lo hi ∧ plS S (nI z) 6 0 = 0 ∧ sgood (plS S (nI z)) od lo hi z ∧ ∀ y, y ≠ z → sgood S od lo hi y → sgood (plS S (nI z)) od lo hi y := by
  have hb := h.b z q1 q2
  refine ⟨h, by rw [plS_s (by omega), if_neg (by omega)]; exact h0, ?_, ?_⟩
  · have hFS : FS (plS S (nI z)) od = FS S od := rfl
    unfold sgood
    rw [hFS, plS_s (by omega), if_pos rfl, shI_N q1 (by omega), b01_if, left_sum h h0 q1 q2 ?_, right_sum h h0 q1 q2 ?_, nI_add, nI_add]
    · congr 1
      have hF : FS S od (ps z) = shB S z := by rw [FS, hb.2.1]
      have m1 := pre_mono (f := FS S od) hb.2.2.1
      have m2 := pre_mono (f := FS S od) (show ps z + 1 ≤ hi z by omega)
      rw [pre_s, hF] at m2 ⊢
      omega
    · intro y y1 y2 ye
      have hby := h.b y y1 y2
      rcases h.r z q1 q2 with ⟨w1, w2⟩ | ⟨w1, w2, w3, w4, w5⟩
      · omega
      · rw [← ye] at w4 w5
        exact hg y y1 y2 (by omega) (by omega) (by omega)
    · intro y y1 y2 ye
      have hby := h.b y y1 y2
      rcases h.l z q1 q2 with ⟨w1, w2⟩ | ⟨w1, w2, w3, w4, w5⟩
      · omega
      · rw [← ye] at w4 w5
        exact hg y y1 y2 (by omega) (by omega) (by omega)
  · intro y hyz this
    unfold sgood at this ⊢
    rw [plS_s (by omega), if_neg hyz]
    exact this
set_option maxHeartbeats 2000000 in
theorem lfB_L {S : SS} {x p g : Nat} (hx : x < 49) (hp : p < 49) (hg : g < 49) (hgx : g ≠ x) (hgp : g ≠ p) (hl : S 2 p = nI x) :
    (∀ j, lfB S (nI x) (nI p) (nI g) 2 j = if g ≠ 0 ∧ S 2 g = nI p ∧ j = g then nI x else if j = p then S 3 x else S 2 j) ∧
    (∀ j, lfB S (nI x) (nI p) (nI g) 3 j = if g ≠ 0 ∧ S 2 g ≠ nI p ∧ j = g then nI x else if j = x then nI p else S 3 j) ∧
    (∀ j, lfB S (nI x) (nI p) (nI g) 4 j = if j = x then nI g else if j = p then nI x else if j = ix (S 3 x) ∧ S 3 x ≠ 0 then nI p else S 4 j) ∧
    lfB S (nI x) (nI p) (nI g) 0 1 = (if g = 0 then nI x else S 0 1) ∧ (∀ j, j ≠ 1 → lfB S (nI x) (nI p) (nI g) 0 j = S 0 j) ∧ (∀ k, k ≠ 0 → k ≠ 2 → k ≠ 3 → k ≠ 4 → lfB S (nI x) (nI p) (nI g) k = S k) := by
  have ex : ix (nI x) = x := ix_nI (by omega)
  have ep : ix (nI p) = p := ix_nI (by omega)
  have eg : ix (nI g) = g := ix_nI (by omega)
  have e0 : (nI g = 0) ↔ g = 0 := nI_eq (b := 0) (by omega) (by omega)
  unfold lfB rbS lfA
  rw [ex, ep, eg, if_pos hl]
  by_cases h3 : S 3 x = 0
  · rw [if_pos h3]
    by_cases h0 : g = 0
    · rw [if_pos (e0.mpr h0)]
      refine ⟨?_, ?_, ?_, ?_, ?_, ?_⟩ <;> intros <;> simp [up2, upd, h0, h3, *] <;> grind
    · rw [if_neg (fun z => h0 (e0.mp z))]
      by_cases h2 : S 2 g = nI p
      · rw [if_pos (by simp [up2, upd, hgp, h2])]
        refine ⟨?_, ?_, ?_, ?_, ?_, ?_⟩ <;> intros <;> simp [up2, upd, h0, h2, h3, *] <;> grind
      · rw [if_neg (by simp [up2, upd, hgp, h2])]
        refine ⟨?_, ?_, ?_, ?_, ?_, ?_⟩ <;> intros <;> simp [up2, upd, h0, h2, h3, *] <;> grind
  · rw [if_neg h3]
    by_cases h0 : g = 0
    · rw [if_pos (e0.mpr h0)]
      refine ⟨?_, ?_, ?_, ?_, ?_, ?_⟩ <;> intros <;> simp [up2, upd, h0, h3, *] <;> grind
    · rw [if_neg (fun z => h0 (e0.mp z))]
      by_cases h2 : S 2 g = nI p
      · rw [if_pos (by simp [up2, upd, hgp, h2])]
        refine ⟨?_, ?_, ?_, ?_, ?_, ?_⟩ <;> intros <;> simp [up2, upd, h0, h2, h3, *] <;> grind
      · rw [if_neg (by simp [up2, upd, hgp, h2])]
        refine ⟨?_, ?_, ?_, ?_, ?_, ?_⟩ <;> intros <;> simp [up2, upd, h0, h2, h3, *] <;> grind
set_option maxHeartbeats 2000000 in
theorem lfB_R {S : SS} {x p g : Nat} (hx : x < 49) (hp : p < 49) (hg : g < 49) (hgx : g ≠ x) (hgp : g ≠ p) (hl : ¬ S 2 p = nI x) :
    (∀ j, lfB S (nI x) (nI p) (nI g) 2 j = if g ≠ 0 ∧ S 2 g = nI p ∧ j = g then nI x else if j = x then nI p else S 2 j) ∧
    (∀ j, lfB S (nI x) (nI p) (nI g) 3 j = if g ≠ 0 ∧ S 2 g ≠ nI p ∧ j = g then nI x else if j = p then S 2 x else S 3 j) ∧
    (∀ j, lfB S (nI x) (nI p) (nI g) 4 j = if j = x then nI g else if j = p then nI x else if j = ix (S 2 x) ∧ S 2 x ≠ 0 then nI p else S 4 j) ∧
    lfB S (nI x) (nI p) (nI g) 0 1 = (if g = 0 then nI x else S 0 1) ∧ (∀ j, j ≠ 1 → lfB S (nI x) (nI p) (nI g) 0 j = S 0 j) ∧ (∀ k, k ≠ 0 → k ≠ 2 → k ≠ 3 → k ≠ 4 → lfB S (nI x) (nI p) (nI g) k = S k) := by
  have ex : ix (nI x) = x := ix_nI (by omega)
  have ep : ix (nI p) = p := ix_nI (by omega)
  have eg : ix (nI g) = g := ix_nI (by omega)
  have e0 : (nI g = 0) ↔ g = 0 := nI_eq (b := 0) (by omega) (by omega)
  unfold lfB rbS lfA
  rw [ex, ep, eg, if_neg hl]
  by_cases h3 : S 2 x = 0
  · rw [if_pos h3]
    by_cases h0 : g = 0
    · rw [if_pos (e0.mpr h0)]
      refine ⟨?_, ?_, ?_, ?_, ?_, ?_⟩ <;> intros <;> simp [up2, upd, h0, h3, *] <;> grind
    · rw [if_neg (fun z => h0 (e0.mp z))]
      by_cases h2 : S 2 g = nI p
      · rw [if_pos (by simp [up2, upd, hgx, h2])]
        refine ⟨?_, ?_, ?_, ?_, ?_, ?_⟩ <;> intros <;> simp [up2, upd, h0, h2, h3, *] <;> grind
      · rw [if_neg (by simp [up2, upd, hgx, h2])]
        refine ⟨?_, ?_, ?_, ?_, ?_, ?_⟩ <;> intros <;> simp [up2, upd, h0, h2, h3, *] <;> grind
  · rw [if_neg h3]
    by_cases h0 : g = 0
    · rw [if_pos (e0.mpr h0)]
      refine ⟨?_, ?_, ?_, ?_, ?_, ?_⟩ <;> intros <;> simp [up2, upd, h0, h3, *] <;> grind
    · rw [if_neg (fun z => h0 (e0.mp z))]
      by_cases h2 : S 2 g = nI p
      · rw [if_pos (by simp [up2, upd, hgx, h2])]
        refine ⟨?_, ?_, ?_, ?_, ?_, ?_⟩ <;> intros <;> simp [up2, upd, h0, h2, h3, *] <;> grind
      · rw [if_neg (by simp [up2, upd, hgx, h2])]
        refine ⟨?_, ?_, ?_, ?_, ?_, ?_⟩ <;> intros <;> simp [up2, upd, h0, h2, h3, *] <;> grind
set_option maxHeartbeats 2000000 in
/-- lifting a node with a parent -/
theorem lift_ok {c : Nat} {S : SS} {ps od lo hi : Nat → Nat} (hc : c ≤ 48) (rg : RG S) (h : CT c S ps od lo hi) {x : Nat} (hx : 1 ≤ x) (hxc : x ≤ c) (hp0 : ix (S 4 x) ≠ 0) :
    KP c S (lfS S (nI x)) ∧ ∃ lo' hi' : Nat → Nat, CT c (lfS S (nI x)) ps od lo' hi' := by
  obtain ⟨hT, h0, hg⟩ := h
  obtain ⟨p, ep⟩ : ∃ p, p = ix (S 4 x) := ⟨_, rfl⟩
  obtain ⟨g, eg⟩ : ∃ g, g = ix (S 4 p) := ⟨_, rfl⟩
  have gr1 := hT.gr hx hxc hp0
  rw [← ep] at gr1 hp0
  have e4x : S 4 x = nI p := by rw [ep]; exact rd4 rg (by omega)
  have e4p : S 4 p = nI g := by rw [eg]; exact rd4 rg (by omega)
  have hbx := hT.b x hx hxc
  have hbp := hT.b p gr1.1 gr1.2.1
  have hgc : g = 0 ∨ (1 ≤ g ∧ g ≤ c ∧ hi p - lo p < hi g - lo g) := by
    rcases hT.p p gr1.1 gr1.2.1 with ⟨w, -⟩ | ⟨w1, w2, -⟩
    · left; omega
    · right
      have := hT.gr gr1.1 gr1.2.1 (by omega)
      rw [← eg] at this
      exact this
  have hgx : g ≠ x := by
    intro e
    subst e
    omega
  have hpx : ¬ p = x := by
    intro e
    rw [e] at gr1
    omega
  have hgp : g ≠ p := by
    intro e
    subst e
    omega
  have eS : lfS S (nI x) = plS (plS (lfB S (nI x) (nI p) (nI g)) (nI p)) (nI x) := by
    unfold lfS
    rw [ix_nI (show x < 2 ^ 31 by omega), e4x, ix_nI (show p < 2 ^ 31 by omega), e4p]
  obtain ⟨T, eT⟩ : ∃ T, T = lfB S (nI x) (nI p) (nI g) := ⟨_, rfl⟩
  have key : KP c S T ∧ T 6 = S 6 ∧ ∃ lo' hi' : Nat → Nat, TS c T ps od lo' hi' ∧ ix (T 4 p) = x ∧ ∀ y, y ≠ x → y ≠ p → lo' y = lo y ∧ hi' y = hi y := by
    have iff2 : ∀ j, j < 49 → ∀ v, v < 49 → (S 2 j = nI v ↔ ix (S 2 j) = v) := by
      intro j hj v hv
      constructor
      · intro e; rw [e, ix_nI (by omega)]
      · intro e; rw [← e]; exact rd2 rg hj
    by_cases hl : S 2 p = nI x
    · obtain ⟨a2, a3, a4, a0, a0', ak⟩ := lfB_L (S := S) (x := x) (p := p) (g := g) (by omega) (by omega) (by omega) hgx hgp hl
      rw [← eT] at a2 a3 a4 a0 a0' ak
      have hlx : ix (S 2 p) = x := (iff2 p (by omega) x (by omega)).mp hl
      have hR := hT.r x hx hxc
      have hz3 : S 3 x = 0 ↔ ix (S 3 x) = 0 := by
        constructor
        · intro e; rw [e]; rfl
        · intro e; rw [rd3 rg (show x < 49 by omega), e]; rfl
      refine ⟨⟨fun k b1 b2 b3 b4 _ => ak k b1 b2 b3 b4, a0', fun j hj => ?_⟩, ak 6 (by decide) (by decide) (by decide) (by decide), (fun j => if j = p then ps x + 1 else lo j), (fun j => if j = x then hi p else hi j), ?_, ?_, ?_⟩
      · rw [a2, a3, a4]
        refine ⟨?_, ?_, ?_⟩
        · rw [if_neg (by omega), if_neg (by omega)]
        · rw [if_neg (by omega), if_neg (by omega)]
        · rw [if_neg (by omega), if_neg (by omega), if_neg]
          rintro ⟨w1, w2⟩
          have w3 : ¬ ix (S 3 x) = 0 := fun z => w2 (hz3.mpr z)
          omega
      · refine TR.liftL (h := hT) (x := x) (p := p) (g := g) (lo' := fun j => if j = p then ps x + 1 else lo j) (hi' := fun j => if j = x then hi p else hi j) hx hxc ep.symm hp0 eg.symm hlx ?_ ?_ ?_ ?_ (fun _ => rfl) (fun _ => rfl)
        · rw [a0]
          split
          · exact ix_nI (by omega)
          · rfl
        · intro j
          have := iff2 g (by omega) p (by omega)
          show ix (T 2 j) = _
          rw [a2]
          simp only [this]
          split
          · exact ix_nI (by omega)
          · split <;> rfl
        · intro j
          have := iff2 g (by omega) p (by omega)
          show ix (T 3 j) = _
          rw [a3]
          simp only [ne_eq, this]
          split
          · exact ix_nI (by omega)
          · split
            · exact ix_nI (by omega)
            · rfl
        · intro j
          show ix (T 4 j) = _
          rw [a4]
          simp only [ne_eq, hz3]
          split
          · exact ix_nI (by omega)
          · split
            · exact ix_nI (by omega)
            · split
              · exact ix_nI (by omega)
              · rfl
      · rw [a4, if_neg hpx, if_pos rfl, ix_nI (by omega)]
      · intro y y1 y2
        simp [y1, y2]
    · obtain ⟨a2, a3, a4, a0, a0', ak⟩ := lfB_R (S := S) (x := x) (p := p) (g := g) (by omega) (by omega) (by omega) hgx hgp hl
      rw [← eT] at a2 a3 a4 a0 a0' ak
      have hrx : ix (S 3 p) = x := by
        rcases hT.p x hx hxc with ⟨w, -⟩ | ⟨w1, w2, w3⟩
        · omega
        · rw [← ep] at w3
          rcases w3 with w | w
          · exact absurd ((iff2 p (by omega) x (by omega)).mpr w) hl
          · exact w
      have hL := hT.l x hx hxc
      have hz3 : S 2 x = 0 ↔ ix (S 2 x) = 0 := by
        constructor
        · intro e; rw [e]; rfl
        · intro e; rw [rd2 rg (show x < 49 by omega), e]; rfl
      refine ⟨⟨fun k b1 b2 b3 b4 _ => ak k b1 b2 b3 b4, a0', fun j hj => ?_⟩, ak 6 (by decide) (by decide) (by decide) (by decide), (fun j => if j = x then lo p else lo j), (fun j => if j = p then ps x else hi j), ?_, ?_, ?_⟩
      · rw [a2, a3, a4]
        refine ⟨?_, ?_, ?_⟩
        · rw [if_neg (by omega), if_neg (by omega)]
        · rw [if_neg (by omega), if_neg (by omega)]
        · rw [if_neg (by omega), if_neg (by omega), if_neg]
          rintro ⟨w1, w2⟩
          have w3 : ¬ ix (S 2 x) = 0 := fun z => w2 (hz3.mpr z)
          omega
      · refine TR.liftR (h := hT) (x := x) (p := p) (g := g) (lo' := fun j => if j = x then lo p else lo j) (hi' := fun j => if j = p then ps x else hi j) hx hxc ep.symm hp0 eg.symm hrx ?_ ?_ ?_ ?_ (fun _ => rfl) (fun _ => rfl)
        · rw [a0]
          split
          · exact ix_nI (by omega)
          · rfl
        · intro j
          have := iff2 g (by omega) p (by omega)
          show ix (T 2 j) = _
          rw [a2]
          simp only [this]
          split
          · exact ix_nI (by omega)
          · split
            · exact ix_nI (by omega)
            · rfl
        · intro j
          have := iff2 g (by omega) p (by omega)
          show ix (T 3 j) = _
          rw [a3]
          simp only [ne_eq, this]
          split
          · exact ix_nI (by omega)
          · split <;> rfl
        · intro j
          show ix (T 4 j) = _
          rw [a4]
          simp only [ne_eq, hz3]
          split
          · exact ix_nI (by omega)
          · split
            · exact ix_nI (by omega)
            · split
              · exact ix_nI (by omega)
              · rfl
      · rw [a4, if_neg hpx, if_pos rfl, ix_nI (by omega)]
      · intro y y1 y2
        simp [y1, y2]
  obtain ⟨kp, k6, lo', hi', hT', h4p, hsame⟩ := key
  rw [eS, ← eT]
  refine ⟨(kp.tr KP_pl).tr KP_pl, lo', hi', ?_⟩
  have hFT := FS_kp kp (od := od)
  have g1 : ∀ y, 1 ≤ y → y ≤ c → y ≠ x → y ≠ p → sgood T od lo' hi' y := by
    intro y y1 y2 y3 y4
    have := hg y y1 y2
    unfold sgood at this ⊢
    rw [hFT, k6, (hsame y y3 y4).1, (hsame y y3 y4).2]
    exact this
  have gp := hT'.gr gr1.1 gr1.2.1 (by omega)
  rw [h4p] at gp
  obtain ⟨t1, t2, t3, t4⟩ := pl_fix hc hT' (by rw [k6]; exact h0) gr1.1 gr1.2.1 (fun y y1 y2 y3 _ _ => g1 y y1 y2 (by rintro rfl; omega) (by rintro rfl; omega))
  obtain ⟨u1, u2, u3, u4⟩ := pl_fix hc t1 t2 hx hxc (fun y y1 y2 y3 _ _ => by
    by_cases e : y = p
    · rw [e]; exact t3
    · exact t4 y e (g1 y y1 y2 (by rintro rfl; omega) e))
  refine ⟨u1, u2, fun y y1 y2 => ?_⟩
  by_cases e : y = x
  · rw [e]; exact u3
  · refine u4 y e ?_
    by_cases e2 : y = p
    · rw [e2]; exact t3
    · exact t4 y e2 (g1 y y1 y2 e e2)
theorem ln_ok {c : Nat} {ps od : Nat → Nat} (hc : c ≤ 48) {x : Nat} (hx : 1 ≤ x) (hxc : x ≤ c) : ∀ (n : Nat) (S : SS) (lo hi : Nat → Nat), RG S → CT c S ps od lo hi → KP c S (lnS n S (nI x)) ∧ ∃ lo' hi' : Nat → Nat, CT c (lnS n S (nI x)) ps od lo' hi' := by
  intro n
  induction n with
  | zero => intro S lo hi rg h; exact ⟨KP.rf, lo, hi, h⟩
  | succ n ih =>
    intro S lo hi rg h
    rw [lnS]
    split
    · exact ⟨KP.rf, lo, hi, h⟩
    · split
      · exact ⟨KP.rf, lo, hi, h⟩
      · rename_i h1 h2
        have hp0 : ix (S 4 x) ≠ 0 := by
          intro e
          refine h1 ?_
          rw [ix_nI (show x < 2 ^ 31 by omega), rd4 rg (by omega), e]; rfl
        obtain ⟨k1, lo', hi', h3⟩ := lift_ok hc rg h hx hxc hp0
        obtain ⟨k2, lo2, hi2, h4⟩ := ih (lfS S (nI x)) lo' hi' (RG_lf rg (vin_n (by omega) (by decide))) h3
        exact ⟨k1.tr k2, lo2, hi2, h4⟩
end
section
/-! hanging a new node behind x -/
def insO (c q : Nat) (od : Nat → Nat) : Nat → Nat := fun i => if i < q then od i else if i = q then c + 1 else od (i - 1)
theorem lm_ok {c : Nat} {S : SS} {ps od lo hi : Nat → Nat} (hc : c ≤ 48) (rg : RG S) (h : TS c S ps od lo hi) : ∀ (n z : Nat), 1 ≤ z → z ≤ c → hi z - lo z ≤ n → ∃ w, 1 ≤ w ∧ w ≤ c ∧ lmF n S (nI z) = nI w ∧ ix (S 2 w) = 0 ∧ ps w = lo z := by
  intro n
  induction n with
  | zero => intro z h1 h2 h3; have := h.b z h1 h2; omega
  | succ n ih =>
    intro z h1 h2 h3
    have hb := h.b z h1 h2
    rw [lmF, ix_nI (show z < 2 ^ 31 by omega)]
    rcases h.l z h1 h2 with ⟨w1, w2⟩ | ⟨w1, w2, w3, w4, w5⟩
    · refine ⟨z, h1, h2, ?_, w1, w2.symm⟩
      rw [if_pos]
      rw [rd2 rg (by omega), w1]; rfl
    · obtain ⟨w, a1, a2, a3, a4, a5⟩ := ih _ w1 w2 (by omega)
      refine ⟨w, a1, a2, ?_, a4, by omega⟩
      rw [if_neg, rd2 rg (by omega)]
      · exact a3
      · rw [rd2 rg (by omega)]; exact nI_ne0 w1 (by omega)
set_option maxHeartbeats 1000000 in
theorem ins_ok {c : Nat} {S S1 : SS} {ps od lo hi : Nat → Nat} (hc : c + 1 ≤ 47) (rg1 : RG S1) (h : CT c S ps od lo hi) {z q : Nat} (hz : 1 ≤ z) (hzc : z ≤ c) (left : Bool) (hq : q = if left then ps z else ps z + 1) (hf : if left then ix (S 2 z) = 0 else ix (S 3 z) = 0) (hlm : S 2 (c + 1) = 0) (hrm : S 3 (c + 1) = 0)
    (e2 : ∀ j, S1 2 j = if left = true ∧ j = z then nI (c + 1) else S 2 j) (e3 : ∀ j, S1 3 j = if left = false ∧ j = z then nI (c + 1) else S 3 j) (e4 : ∀ j, S1 4 j = if j = c + 1 then nI z else S 4 j) (e0 : S1 0 1 = S 0 1) (e6 : S1 6 = S 6) (e8 : S1 8 = S 8) (e9 : S1 9 = S 9) (e11 : S1 11 = S 11) :
    ∃ ps' lo' hi' : Nat → Nat, CT (c + 1) (puS 48 S1 (nI (c + 1))) ps' (insO c q od) lo' hi' := by
  obtain ⟨hT, h0, hg⟩ := h
  have hbz := hT.b z hz hzc
  have hT1 : TS (c + 1) S1 (fun j => if j = c + 1 then q else if q ≤ ps j then ps j + 1 else ps j) (insO c q od) (fun j => if j = c + 1 then q else if ps z < lo j then lo j + 1 else lo j) (fun j => if j = c + 1 then q + 1 else if ps z < hi j then hi j + 1 else hi j) := by
    unfold TS
    rw [e0]
    refine TR.ins hT hz hzc left hq hf ?_ ?_ ?_ ?_ ?_ (fun _ => rfl) (fun _ => rfl) (fun _ => rfl) (fun _ => rfl)
    · show ix (S 2 (c + 1)) = 0
      rw [hlm]; rfl
    · show ix (S 3 (c + 1)) = 0
      rw [hrm]; rfl
    · intro j
      show ix (S1 2 j) = _
      rw [e2]
      split
      · exact ix_nI (by omega)
      · rfl
    · intro j
      show ix (S1 3 j) = _
      rw [e3]
      split
      · exact ix_nI (by omega)
      · rfl
    · intro j
      show ix (S1 4 j) = _
      rw [e4]
      split
      · exact ix_nI (by omega)
      · rfl
  have hq' : ps z ≤ q ∧ q ≤ ps z + 1 := by cases left <;> simp at hq <;> omega
  have hsh : ∀ y, shB S1 y = shB S y := by intro y; unfold shB; rw [e8, e9, e11]
  have p1 : ∀ i, i < q → FS S1 (insO c q od) i = FS S od i := by
    intro i hi'
    show shB S1 (insO c q od i) = shB S (od i)
    rw [hsh, insO, if_pos hi']
  have p2 : ∀ i, q ≤ i → FS S1 (insO c q od) (i + 1) = FS S od i := by
    intro i hi'
    show shB S1 (insO c q od (i + 1)) = shB S (od i)
    rw [hsh, insO, if_neg (by omega), if_neg (by omega), show i + 1 - 1 = i by omega]
  have pi := pre_ins p1 p2
  obtain ⟨u1, u2⟩ := puS_ok (c := c + 1) (by omega) 48 S1 (c + 1) rg1 hT1 (by rw [e6]; exact h0) (Or.inr ⟨by omega, Nat.le_refl _, by omega⟩) (by
    intro y y1 y2 hy
    have hy := hy (by omega)
    rw [if_pos rfl] at hy
    by_cases e : y = c + 1
    · exfalso
      apply hy
      rw [if_pos e, if_pos e]; omega
    · rw [if_neg e, if_neg e] at hy
      have hby := hT.b y y1 (by omega)
      have hgy := hg y y1 (by omega)
      unfold sgood at hgy ⊢
      rw [e6, hgy]
      show _ = nI (pre (FS S1 (insO c q od)) (if y = c + 1 then q + 1 else if ps z < hi y then hi y + 1 else hi y) - pre (FS S1 (insO c q od)) (if y = c + 1 then q else if ps z < lo y then lo y + 1 else lo y))
      rw [if_neg e, if_neg e]
      by_cases c1 : ps z < hi y
      · rw [if_pos c1] at hy ⊢
        by_cases c2 : ps z < lo y
        · rw [if_pos c2] at hy ⊢
          rw [(pi (hi y)).2 (by omega), (pi (lo y)).2 (by omega)]
          congr 1
          omega
        · rw [if_neg c2] at hy
          exfalso
          apply hy
          omega
      · rw [if_neg c1] at hy ⊢
        rw [if_neg (by omega)] at hy ⊢
        rw [(pi (hi y)).1 (by omega), (pi (lo y)).1 (by omega)])
  exact ⟨_, _, _, TS_pu hT1, u1, u2⟩
theorem z_ix {x : Int32} (h : x = 0) : ix x = 0 := by rw [h]; rfl
set_option maxHeartbeats 1000000 in
theorem hang_ok {c : Nat} {S : SS} {ps od lo hi : Nat → Nat} (hc : c + 1 ≤ 47) (rg : RG S) (h : CT c S ps od lo hi) (z2 : S 2 (c + 1) = 0) (z3 : S 3 (c + 1) = 0) (z4 : S 4 (c + 1) = 0) {x : Nat} (hx : x = 0 ∨ (1 ≤ x ∧ x ≤ c)) :
    KP (c + 1) S (hgS S (nI (c + 1)) (nI x)) ∧ ∃ ps' lo' hi' : Nat → Nat, CT (c + 1) (hgS S (nI (c + 1)) (nI x)) ps' (insO c (if x = 0 then 0 else ps x + 1) od) lo' hi' := by
  have em : ix (nI (c + 1)) = c + 1 := ix_nI (by omega)
  have exx : ix (nI x) = x := ix_nI (by omega)
  have hx0 : nI x = 0 ↔ x = 0 := nI_eq (b := 0) (by omega) (by omega)
  have rg1 : RG (h1S S (nI (c + 1)) (nI x)) := RG_h1 rg (vin_n (by omega) (by decide)) (vin_n (by omega) (by decide))
  have key : KP (c + 1) S (h1S S (nI (c + 1)) (nI x)) ∧ ∃ ps' lo' hi' : Nat → Nat, CT (c + 1) (puS 48 (h1S S (nI (c + 1)) (nI x)) (nI (c + 1))) ps' (insO c (if x = 0 then 0 else ps x + 1) od) lo' hi' := by
    have hk : ∀ w, 1 ≤ w → w ≤ c → ix (S 2 w) = 0 → (if x = 0 then 0 else ps x + 1) = ps w → h1S S (nI (c + 1)) (nI x) = hkS S (nI (c + 1)) (nI w) → KP (c + 1) S (h1S S (nI (c + 1)) (nI x)) ∧ ∃ ps' lo' hi' : Nat → Nat, CT (c + 1) (puS 48 (h1S S (nI (c + 1)) (nI x)) (nI (c + 1))) ps' (insO c (if x = 0 then 0 else ps x + 1) od) lo' hi' := by
      intro w w1 w2 w3 w4 w5
      have ew : ix (nI w) = w := ix_nI (by omega)
      rw [w5] at rg1 ⊢
      refine ⟨⟨?_, ?_, ?_⟩, ?_⟩
      · intro k k0 k2 k3 k4 k6
        simp [hkS, up2, k2, k4]
      · intro j hj
        rfl
      · intro j hj
        simp only [hkS, ew, em]
        refine ⟨?_, rfl, ?_⟩
        · simp [up2, upd]; intro e; omega
        · simp [up2, upd]; intro e; omega
      · refine ins_ok hc rg1 h w1 w2 true (by simpa using w4) (by simpa using w3) z2 z3 ?_ ?_ ?_ rfl rfl rfl rfl rfl
        · intro j; simp [hkS, ew, em, up2, upd]
        · intro j; simp [hkS, ew, em, up2, upd]
        · intro j; simp [hkS, ew, em, up2, upd]
    by_cases hr : S 0 1 = 0
    · have hc0 : c = 0 := by
        rcases h.1.t with ⟨w, -⟩ | ⟨w, -⟩
        · exact w
        · have := z_ix hr; omega
      subst hc0
      have hx : x = 0 := by omega
      subst hx
      have e1 : h1S S (nI (0 + 1)) (nI 0) = up2 S 0 1 (nI 1) := by rw [h1S, if_pos hr]
      rw [e1] at rg1 ⊢
      have hT1 : TS 1 (up2 S 0 1 (nI 1)) (fun _ => 0) (insO 0 0 od) (fun _ => 0) (fun _ => 1) := by
        unfold TS
        rw [show ix (up2 S 0 1 (nI 1) 0 1) = 1 from rfl]
        exact TR.one (z_ix z2) (z_ix z3) (z_ix z4) rfl rfl rfl rfl
      obtain ⟨u1, u2⟩ := puS_ok (c := 1) (by omega) 48 (up2 S 0 1 (nI 1)) 1 rg1 hT1 h.2.1 (Or.inr ⟨by omega, Nat.le_refl _, by omega⟩) (by
        intro y y1 y2 hy
        exfalso
        exact hy (by omega) ⟨Nat.le_refl _, Nat.zero_lt_one⟩)
      refine ⟨⟨?_, ?_, ?_⟩, _, _, _, TS_pu hT1, u1, u2⟩
      · intro k k0 k2 k3 k4 k6; simp [up2, k0]
      · intro j hj; simp [up2, upd, hj]
      · intro j hj; exact ⟨rfl, rfl, rfl⟩
    · have hr1 : 1 ≤ ix (S 0 1) ∧ ix (S 0 1) ≤ c ∧ lo (ix (S 0 1)) = 0 := by
        rcases h.1.t with ⟨-, w⟩ | ⟨w1, w2, -, w4, -⟩
        · exact absurd (by rw [← nI_ix (vin_nn (rgO rg)), w]; rfl) hr
        · exact ⟨w1, w2, w4⟩
      by_cases h0 : x = 0
      · have hb := h.1.b _ hr1.1 hr1.2.1
        obtain ⟨w, w1, w2, w3, w4, w5⟩ := lm_ok (by omega) rg h.1 48 _ hr1.1 hr1.2.1 (by omega)
        rw [nI_ix (vin_nn (rgO rg))] at w3
        refine hk w w1 w2 w4 (by rw [if_pos h0]; omega) ?_
        rw [h1S, if_neg hr, if_pos (hx0.mpr h0), w3]
      · have hxn : 1 ≤ x ∧ x ≤ c := by omega
        have hbx := h.1.b x hxn.1 hxn.2
        rcases h.1.r x hxn.1 hxn.2 with ⟨v1, v2⟩ | ⟨v1, v2, v3, v4, v5⟩
        · have e3 : S 3 x = 0 := by rw [rd3 rg (by omega), v1]; rfl
          have e1 : h1S S (nI (c + 1)) (nI x) = up2 (up2 S 3 x (nI (c + 1))) 4 (c + 1) (nI x) := by
            rw [h1S, if_neg hr, if_neg (fun q => h0 (hx0.mp q)), exx, if_pos e3, em]
          rw [e1] at rg1 ⊢
          refine ⟨⟨?_, ?_, ?_⟩, ?_⟩
          · intro k k0 k2 k3 k4 k6; simp [up2, k3, k4]
          · intro j hj; rfl
          · intro j hj
            refine ⟨rfl, ?_, ?_⟩
            · simp [up2, upd]; intro e; omega
            · simp [up2, upd]; intro e; omega
          · rw [if_neg h0]
            refine ins_ok hc rg1 h hxn.1 hxn.2 false rfl (by simpa using v1) z2 z3 ?_ ?_ ?_ rfl rfl rfl rfl rfl
            · intro j; simp [up2, upd]
            · intro j; simp [up2, upd]
            · intro j; simp [up2, upd]
        · obtain ⟨w, w1, w2, w3, w4, w5⟩ := lm_ok (by omega) rg h.1 48 _ v1 v2 (by have := h.1.b _ v1 v2; omega)
          rw [← rd3 rg (by omega)] at w3
          refine hk w w1 w2 w4 (by rw [if_neg h0]; omega) ?_
          have e3 : ¬ S 3 x = 0 := fun q => by have := z_ix q; omega
          rw [h1S, if_neg hr, if_neg (fun q => h0 (hx0.mp q)), exx, if_neg e3, w3]
  obtain ⟨k1, ps', lo', hi', hC⟩ := key
  obtain ⟨k2, lo2, hi2, hC2⟩ := ln_ok (c := c + 1) (by omega) (x := c + 1) (by omega) (Nat.le_refl _) 48 _ lo' hi' (RG_pu rg1) hC
  exact ⟨(k1.tr KP_pu).tr k2, ps', lo2, hi2, hC2⟩
end
section
/-! the sets of nodes as bits -/
def bV (w : Int64) (i : Nat) : Bool := decide (bitL w (nI i))
def bM (w : Int32) (t : Nat) : Bool := decide (((w >>> (nI t &&& 31)) &&& 1) = 1)
theorem cmp0 {x y : Int64} : lg_cmp x y = 0 ↔ x = y := by
  unfold lg_cmp
  constructor
  · intro h
    split at h
    · exact absurd h (by decide)
    · split at h
      · assumption
      · exact absurd h (by decide)
  · intro h
    subst h
    rw [if_neg (by simp), if_pos rfl]
theorem and1_64 (v : BitVec 64) : (v &&& 1#64 = 1#64) ↔ v.getLsbD 0 = true := by
  rw [BitVec.and_one_eq_setWidth_ofBool_getLsbD]
  cases v.getLsbD 0 <;> decide
theorem and1_32 (v : BitVec 32) : (v &&& 1#32) = if v.getLsbD 0 = true then 1#32 else 0#32 := by
  rw [BitVec.and_one_eq_setWidth_ofBool_getLsbD]
  cases v.getLsbD 0 <;> decide
theorem sh_amt : ∀ k, k < 64 → ((nI k).toInt64.toUInt64 &&& Int64.toUInt64 63) = UInt64.ofNat k := by decide +kernel
theorem bV_lsb {w : Int64} {i : Nat} (hi : i < 64) : bV w i = w.toBitVec.getLsbD i := by
  have e : (w.toUInt64 >>> ((nI i).toInt64.toUInt64 &&& Int64.toUInt64 63)).toInt64.toBitVec = w.toBitVec >>> i := by
    rw [sh_amt i hi]
    apply BitVec.eq_of_toNat_eq
    show (w.toUInt64 >>> UInt64.ofNat i).toNat = _
    rw [UInt64.toNat_shiftRight, UInt64.toNat_ofNat', Nat.mod_eq_of_lt (show i < 2 ^ 64 by omega), Nat.mod_eq_of_lt hi, BitVec.toNat_ushiftRight]
    rfl
  have h : bitL w (nI i) ↔ w.toBitVec.getLsbD i = true := by
    unfold bitL
    rw [cmp0, ← Int64.toBitVec_inj, Int64.toBitVec_and, e]
    have := and1_64 (w.toBitVec >>> i)
    rw [BitVec.getLsbD_ushiftRight, Nat.add_zero] at this
    exact this
  unfold bV
  exact Bool.eq_iff_iff.mpr (decide_eq_true_iff.trans h)
theorem one_shl64 : ∀ j, j < 64 → ((1 : Int64) <<< ((nI j).toInt64 &&& 63)).toBitVec = BitVec.twoPow 64 j := by decide +kernel
theorem bV_or {w : Int64} {i j : Nat} (hi : i < 64) (hj : j < 64) : bV (w ||| ((1 : Int64) <<< ((nI j).toInt64 &&& 63))) i = (bV w i || decide (i = j)) := by
  rw [bV_lsb hi, bV_lsb hi, Int64.toBitVec_or, one_shl64 j hj, BitVec.getLsbD_or, BitVec.getLsbD_twoPow]
  congr 1
  have : (i = j) ↔ (j = i) := ⟨Eq.symm, Eq.symm⟩
  simp [hj, this]
theorem bV_0 {i : Nat} (hi : i < 64) : bV 0 i = false := by
  rw [bV_lsb hi]
  simp
theorem shr_amt : ∀ n, n < 32 → ((nI n &&& 31).toBitVec.smod 32).toNat = n := by decide +kernel
theorem shr_32 {w : Int32} {t : Nat} (ht : t < 32) : ((w >>> (nI t &&& 31)) &&& 1).toBitVec = if w.toBitVec.getLsbD t = true then 1#32 else 0#32 := by
  rw [Int32.toBitVec_and, Int32.toBitVec_shiftRight]
  show (w.toBitVec.sshiftRight ((nI t &&& 31).toBitVec.smod 32).toNat) &&& 1#32 = _
  rw [shr_amt t ht, and1_32, BitVec.getLsbD_sshiftRight]
  simp [ht]
theorem bM_lsb {w : Int32} {t : Nat} (ht : t < 32) : bM w t = w.toBitVec.getLsbD t := by
  unfold bM
  have h : ((w >>> (nI t &&& 31)) &&& 1) = 1 ↔ w.toBitVec.getLsbD t = true := by
    rw [← Int32.toBitVec_inj, shr_32 ht]
    cases w.toBitVec.getLsbD t <;> decide
  exact Bool.eq_iff_iff.mpr (decide_eq_true_iff.trans h)
theorem bM_val {w : Int32} {t : Nat} (ht : t < 32) : ((w >>> (nI t &&& 31)) &&& 1) = nI (if bM w t = true then 1 else 0) := by
  rw [bM_lsb ht, ← Int32.toBitVec_inj, shr_32 ht]
  cases w.toBitVec.getLsbD t <;> rfl
theorem one_shl32 : ∀ j, j < 32 → ((1 : Int32) <<< (nI j &&& 31)).toBitVec = BitVec.twoPow 32 j := by decide +kernel
theorem bM_or {w : Int32} {i j : Nat} (hi : i < 32) (hj : j < 32) : bM (w ||| ((1 : Int32) <<< (nI j &&& 31))) i = (bM w i || decide (i = j)) := by
  rw [bM_lsb hi, bM_lsb hi, Int32.toBitVec_or, one_shl32 j hj, BitVec.getLsbD_or, BitVec.getLsbD_twoPow]
  congr 1
  have : (i = j) ↔ (j = i) := ⟨Eq.symm, Eq.symm⟩
  simp [hj, this]
theorem bM_0 {i : Nat} (hi : i < 32) : bM 0 i = false := by
  rw [bM_lsb hi]
  simp
theorem bL_iff {w : Int64} {i : Nat} : bitL w (nI i) ↔ bV w i = true := by
  unfold bV
  exact (decide_eq_true_iff).symm
theorem nI_p1 {x : Nat} (h : 1 ≤ x) : nI x - 1 = nI (x - 1) := by
  obtain ⟨y, rfl⟩ : ∃ y, x = y + 1 := ⟨x - 1, by omega⟩
  rw [nI_pred]; rfl
theorem bL_iff1 {w : Int64} {x : Nat} (h : 1 ≤ x) : bitL w (nI x - 1) ↔ bV w (x - 1) = true := by
  rw [nI_p1 h]; exact bL_iff
/-- one bit more -/
theorem pre_bit {f g : Nat → Bool} {n e : Nat} (he : e < n) (hf : f e = false) (h : ∀ i, i < n → g i = (f i || decide (i = e))) : pre g n = pre f n + 1 := by
  have := pre_one (f := f) (g := g) he (fun i hi hne => by rw [h i hi]; simp [hne])
  rw [hf, h e he] at this
  simp at this
  omega
end
section
/-! the invariant between the class's state S, V and the reference's state M, and what both read out of it -/
def onB (S : SS) (k : Nat) : Bool := decide (¬ S 11 k = 0)
def IV (S : SS) (V : LL) (M : SS) (c n : Nat) (ps od lo hi : Nat → Nat) : Prop :=
  (c ≤ n ∧ n ≤ 32 ∧ S 0 0 = nI c ∧ S 0 10 = nI n ∧ M 0 1 = nI c ∧ M 0 6 = nI n) ∧
  (RG S ∧ RZ M) ∧
  CT c S ps od lo hi ∧
  (∀ j, c < j → j < 49 → S 2 j = 0 ∧ S 3 j = 0 ∧ S 4 j = 0 ∧ S 9 j = 0) ∧
  (∀ x, 1 ≤ x → x ≤ c → ix (S 8 x) < n ∧ S 12 (ix (S 8 x)) = nI x ∧ M 3 (ix (S 8 x)) = S 7 x) ∧
  (∀ k, k < n → M 5 k = S 11 k ∧ (S 11 k = 0 ∨ S 11 k = 1)) ∧
  (∀ k, k < n → (S 12 k = 0 ∧ M 2 k = 0) ∨ (M 2 k = 1 ∧ 1 ≤ ix (S 12 k) ∧ ix (S 12 k) ≤ c ∧ S 8 (ix (S 12 k)) = nI k ∧ V k = 0 ∧ M 4 k = 0)) ∧
  (∀ i, i < c → M 1 i = S 8 (od i)) ∧
  (∀ k x, k < n → 1 ≤ x → x ≤ c → bM (M 4 k) (ix (S 8 x)) = bV (V k) (x - 1)) ∧
  (∀ k, k < n → (∀ x, c < x → x ≤ 48 → bV (V k) (x - 1) = false) ∧ (∀ t, n ≤ t → t < 32 → bM (M 4 k) t = false)) ∧
  (∀ x, 1 ≤ x → x ≤ c → S 9 x = nI (pre (fun k => onB S k && bV (V k) (x - 1)) n)) ∧
  (∀ k, k < n → pre (bV (V k)) 48 = pre (bM (M 4 k)) 32) ∧
  (∀ f : Nat → Bool, pre (fun i => f (od i)) c = pre (fun j => f (j + 1)) c)
def Inv (S : SS) (V : LL) (M : SS) : Prop := ∃ (c n : Nat) (ps od lo hi : Nat → Nat), IV S V M c n ps od lo hi
theorem coL_ok {M : SS} {n t : Nat} {F : Nat → Bool} (hn : n ≤ 32) (hF : ∀ k, k < n → F k = (decide (¬ M 5 k = 0) && bM (M 4 k) t)) :
    ∀ (d k s : Nat), k + d = n → coL d M (nI t) k (nI s) = nI (s + (pre F n - pre F k)) := by
  intro d
  induction d with
  | zero =>
    intro k s h
    have : k = n := by omega
    subst this
    rw [coL, Nat.sub_self, Nat.add_zero]
  | succ d ih =>
    intro k s h
    have m := pre_mono (f := F) (show k + 1 ≤ n by omega)
    rw [coL, ix_nI (show k < 2 ^ 31 by omega)]
    have hk := hF k (by omega)
    by_cases h5 : M 5 k = 0
    · rw [if_pos h5, ih (k + 1) s (by omega)]
      rw [pre_s] at m ⊢
      simp [h5] at hk
      simp [hk]
    · rw [if_neg h5]
      by_cases hb : ((M 4 k >>> (nI t &&& 31)) &&& 1) = 1
      · rw [if_pos hb, nI_1, ih (k + 1) (s + 1) (by omega)]
        have : F k = true := by rw [hk]; simp [h5, bM, hb]
        rw [pre_s, if_pos this] at m ⊢
        congr 1; omega
      · rw [if_neg hb, ih (k + 1) s (by omega)]
        have : F k = false := by rw [hk]; simp [bM, hb]
        rw [pre_s, this] at m ⊢
        simp
theorem leL_ok {M : SS} {c : Nat} {F : Nat → Bool} (hc : c ≤ 32) (hF : ∀ i, i < c → (isI M (M 1 i) = 0 ↔ F i = false)) :
    ∀ (d i s : Nat), i + d = c → leL d M i (nI s) = nI (s + (pre F c - pre F i)) := by
  intro d
  induction d with
  | zero =>
    intro i s h
    have : i = c := by omega
    subst this
    rw [leL, Nat.sub_self, Nat.add_zero]
  | succ d ih =>
    intro i s h
    have m := pre_mono (f := F) (show i + 1 ≤ c by omega)
    rw [leL, ix_nI (show i < 2 ^ 31 by omega)]
    by_cases h5 : isI M (M 1 i) = 0
    · rw [if_pos h5, ih (i + 1) s (by omega)]
      have := (hF i (by omega)).mp h5
      rw [pre_s, this] at m ⊢
      simp
    · rw [if_neg h5, nI_1, ih (i + 1) (s + 1) (by omega)]
      have : F i = true := by
        cases e : F i with
        | true => rfl
        | false => exact absurd ((hF i (by omega)).mpr e) h5
      rw [pre_s, if_pos this] at m ⊢
      congr 1; omega
theorem caL_hit {M : SS} {c : Nat} {F : Nat → Bool} (hc : c ≤ 32) (hF : ∀ i, i < c → (isI M (M 1 i) = 0 ↔ F i = false)) {P : Nat} (hPc : P < c) (hP : F P = true) :
    ∀ (d i : Nat), i + d = c → i ≤ P → caL d M (nI (pre F P)) i (nI (pre F i)) = M 1 P := by
  intro d
  induction d with
  | zero => intro i h1 h2; omega
  | succ d ih =>
    intro i h1 h2
    have l1 := pre_le (f := F) P
    have l2 := pre_le (f := F) i
    rw [caL, ix_nI (show i < 2 ^ 31 by omega)]
    by_cases h5 : isI M (M 1 i) = 0
    · have e := (hF i (by omega)).mp h5
      rw [if_pos h5]
      have : i ≠ P := by intro z; rw [z, hP] at e; cases e
      have := ih (i + 1) (by omega) (by omega)
      rw [pre_s, e] at this
      exact this
    · have e : F i = true := by
        cases e : F i with
        | true => rfl
        | false => exact absurd ((hF i (by omega)).mpr e) h5
      rw [if_neg h5]
      by_cases z : i = P
      · subst z
        rw [if_pos rfl]
      · have m := pre_lt (show i < P by omega) e
        rw [if_neg (fun q => by have := (nI_eq (by omega) (by omega)).mp q; omega), nI_1]
        have := ih (i + 1) (by omega) (by omega)
        rw [pre_s, if_pos e] at this
        exact this
theorem caL_miss {M : SS} {c : Nat} {F : Nat → Bool} {q : Int32} (hc : c ≤ 32) (hF : ∀ i, i < c → (isI M (M 1 i) = 0 ↔ F i = false)) (hq : ∀ P, P < c → F P = true → ¬ nI (pre F P) = q) :
    ∀ (d i : Nat), i + d = c → caL d M q i (nI (pre F i)) = -4 := by
  intro d
  induction d with
  | zero => intro i h1; rfl
  | succ d ih =>
    intro i h1
    rw [caL, ix_nI (show i < 2 ^ 31 by omega)]
    by_cases h5 : isI M (M 1 i) = 0
    · have e := (hF i (by omega)).mp h5
      rw [if_pos h5]
      have := ih (i + 1) (by omega)
      rw [pre_s, e] at this
      exact this
    · have e : F i = true := by
        cases e : F i with
        | true => rfl
        | false => exact absurd ((hF i (by omega)).mpr e) h5
      rw [if_neg h5, if_neg (hq i (by omega) e), nI_1]
      have := ih (i + 1) (by omega)
      rw [pre_s, if_pos e] at this
      exact this
section RD
variable {S : SS} {V : LL} {M : SS} {c n : Nat} {ps od lo hi : Nat → Nat}
/-- the reference counts a node's covers as the class keeps them -/
theorem IV.co (h : IV S V M c n ps od lo hi) {x : Nat} (hx : 1 ≤ x) (hxc : x ≤ c) : coF M (S 8 x) = S 9 x := by
  obtain ⟨⟨hcn, hn, e00, e010, m01, m06⟩, ⟨rg, rz⟩, ct, hz, hX, hO, hTy, hL, hB, hE, hC, hN, hP⟩ := h
  rw [coF, m06, ix_nI (by omega), hC x hx hxc, rd8 rg (by omega)]
  have := coL_ok (M := M) (n := n) (t := ix (S 8 x)) (F := fun k => onB S k && bV (V k) (x - 1)) hn (by
    intro k hk
    show (onB S k && bV (V k) (x - 1)) = _
    rw [onB, (hO k hk).1, hB k x hk hx hxc]) n 0 0 (by omega)
  rw [pre_0, Nat.sub_zero, Nat.zero_add] at this
  exact this
theorem IV.is (h : IV S V M c n ps od lo hi) {x : Nat} (hx : 1 ≤ x) (hxc : x ≤ c) : isI M (S 8 x) = 0 ↔ shB S x = false := by
  have hco := h.co hx hxc
  obtain ⟨⟨hcn, hn, e00, e010, m01, m06⟩, ⟨rg, rz⟩, ct, hz, hX, hO, hTy, hL, hB, hE, hC, hN, hP⟩ := h
  rw [isI, hco, (hO _ (hX x hx hxc).1).1]
  unfold shB
  by_cases q1 : S 11 (ix (S 8 x)) = 0
  · simp [q1]
  · by_cases q2 : S 9 x = 0
    · simp [q1, q2]
    · simp [q1, q2]
theorem IV.F (h : IV S V M c n ps od lo hi) : ∀ i, i < c → (isI M (M 1 i) = 0 ↔ FS S od i = false) := by
  intro i hi'
  have h1 := h.2.2.1.1.o i hi'
  have h2 : M 1 i = S 8 (od i) := h.2.2.2.2.2.2.2.1 i hi'
  rw [h2]
  exact h.is h1.1 h1.2.1
theorem IV.le (h : IV S V M c n ps od lo hi) : leF M = nI (pre (FS S od) c) := by
  have hF := h.F
  obtain ⟨⟨hcn, hn, e00, e010, m01, m06⟩, -⟩ := h
  have := leL_ok (by omega) hF c 0 0 (by omega)
  rw [pre_0, Nat.sub_zero, Nat.zero_add] at this
  rw [leF, m01, ix_nI (by omega)]
  exact this
theorem IV.tl (h : IV S V M c n ps od lo hi) : tlF S = nI (pre (FS S od) c) := tl_ok h.2.2.1.1 h.2.2.1.2.1 h.2.2.1.2.2
theorem IV.ca (h : IV S V M c n ps od lo hi) {P : Nat} (hPc : P < c) (hP : FS S od P = true) : caF M (nI (pre (FS S od) P)) = S 8 (od P) := by
  have hF := h.F
  obtain ⟨⟨hcn, hn, e00, e010, m01, m06⟩, ⟨rg, rz⟩, ct, hz, hX, hO, hTy, hL, -⟩ := h
  have := caL_hit (by omega) hF hPc hP c 0 (by omega) (by omega)
  rw [pre_0] at this
  rw [caF, m01, ix_nI (by omega), ← hL P hPc]
  exact this
theorem IV.nd (h : IV S V M c n ps od lo hi) {P : Nat} (hPc : P < c) (hP : FS S od P = true) : nodeF S (nI (pre (FS S od) P)) = nI (od P) := by
  obtain ⟨⟨hcn, hn, e00, e010, m01, m06⟩, ⟨rg, rz⟩, ct, -⟩ := h
  exact node_ok ct.1 rg (by omega) ct.2.1 ct.2.2 hPc hP
/-- a place: either it names a shown node, or neither side finds one -/
theorem IV.pl (h : IV S V M c n ps od lo hi) (q : Int32) : (∃ P, P < c ∧ FS S od P = true ∧ q = nI (pre (FS S od) P) ∧ ¬ q < 0 ∧ q < tlF S ∧ nodeF S q = nI (od P) ∧ caF M q = S 8 (od P)) ∨ ((q < 0 ∨ ¬ q < tlF S) ∧ caF M q = -4) := by
  have hF := h.F
  have htl := h.tl
  have hc32 : c ≤ 32 := by have := h.1.1; have := h.1.2.1; omega
  have hl := pre_le (f := FS S od) c
  by_cases h0 : q < 0
  · right
    refine ⟨Or.inl h0, ?_⟩
    have := caL_miss (M := M) (F := FS S od) (q := q) hc32 hF (fun P hP _ e => by have := pre_le (f := FS S od) P; rw [← e] at h0; exact nI_pos (by omega) h0) c 0 (by omega)
    rw [caF, h.1.2.2.2.2.1, ix_nI (by omega)]
    exact this
  · obtain ⟨j, hj, rfl⟩ := nI_of h0
    by_cases hlt : j < pre (FS S od) c
    · obtain ⟨P, h1, h2, h3⟩ := pre_find hlt
      left
      refine ⟨P, h1, h2, by rw [h3], h0, ?_, ?_, ?_⟩
      · rw [htl]; exact nI_lt hlt (by omega)
      · rw [← h3]; exact h.nd h1 h2
      · rw [← h3]; exact h.ca h1 h2
    · right
      refine ⟨Or.inr ?_, ?_⟩
      · rw [htl]; exact nI_nlt (by omega) hj
      · have := caL_miss (M := M) (F := FS S od) (q := nI j) hc32 hF (fun P hP hf e => by
          have := pre_lt hP hf
          have := (nI_eq (by omega) hj).mp e
          omega) c 0 (by omega)
        rw [caF, h.1.2.2.2.2.1, ix_nI (by omega)]
        exact this
/-- a number of a change: either both sides know it, or neither -/
theorem IV.kn (h : IV S V M c n ps od lo hi) (k : Int32) : (∃ k0, k0 < n ∧ k = nI k0 ∧ ix k = k0 ∧ bdI S k = 0 ∧ icI M k = 1) ∨ (bdI S k = 1 ∧ icI M k = 0 ∧ ∀ k0, k0 < n → ¬ k = nI k0) := by
  obtain ⟨⟨hcn, hn, e00, e010, m01, m06⟩, -⟩ := h
  unfold bdI icI
  rw [e010, m06]
  by_cases h0 : k < 0
  · right
    rw [if_pos h0, if_pos h0]
    refine ⟨rfl, rfl, fun k0 hk e => ?_⟩
    rw [e] at h0
    exact nI_pos (by omega) h0
  · rw [if_neg h0, if_neg h0]
    obtain ⟨j, hj, rfl⟩ := nI_of h0
    by_cases hlt : j < n
    · left
      refine ⟨j, hlt, rfl, ix_nI hj, ?_, ?_⟩
      · rw [if_pos (nI_lt hlt (by omega))]
      · rw [if_neg (nI_ge hlt (by omega))]
    · right
      refine ⟨?_, ?_, fun k0 hk e => ?_⟩
      · rw [if_neg (nI_nlt (by omega) hj)]
      · rw [if_pos (nI_le (by omega) hj)]
      · have := (nI_eq hj (by omega)).mp e
        omega
end RD
end
section
/-! the questions: both sides answer alike -/
theorem n10 : ¬ (1 : Int32) = 0 := by decide
section RQ
variable {S : SS} {V : LL} {M : SS} {c n : Nat} {ps od lo hi : Nat → Nat}
theorem q_isOn (h : IV S V M c n ps od lo hi) (k : Int32) : ioF S k = izF M k := by
  unfold ioF izF
  rcases h.kn k with ⟨k0, h1, h2, h3, h4, h5⟩ | ⟨h4, h5, h6⟩
  · rw [h4, h5, h3, if_pos rfl, if_neg n10, (h.2.2.2.2.2.1 k0 h1).1]
  · rw [h4, h5, if_neg (by decide), if_pos rfl]
theorem q_len (h : IV S V M c n ps od lo hi) : tlF S = leF M := by rw [h.tl, h.le]
theorem typ_lt (h : IV S V M c n ps od lo hi) {x : Nat} (hx : 1 ≤ x) (hxc : x ≤ c) : S 8 x = nI (ix (S 8 x)) ∧ ix (S 8 x) < 32 := by
  have h1 := (h.2.2.2.2.1 x hx hxc).1
  have h2 := h.1.2.1
  have h3 := h.1.1
  exact ⟨rd8 h.2.1.1 (by omega), by omega⟩
theorem typ_nn (h : IV S V M c n ps od lo hi) {x : Nat} (hx : 1 ≤ x) (hxc : x ≤ c) : 0 ≤ S 8 x := by
  rw [(typ_lt h hx hxc).1]
  exact nI_pos' (by have := (typ_lt h hx hxc).2; omega)
theorem q_letter (h : IV S V M c n ps od lo hi) (k : Int32) : ltF S k = lzF M k := by
  unfold ltF lzF
  rcases h.pl k with ⟨P, h1, h2, h3, h4, h5, h6, h7⟩ | ⟨h1, h2⟩
  · have ho := h.2.2.1.1.o P h1
    rw [if_neg h4, if_pos h5, h6, h7, if_pos (typ_nn h ho.1 ho.2.1), ix_nI (by have := h.1.1; have := h.1.2.1; omega), (h.2.2.2.2.1 _ ho.1 ho.2.1).2.2]
  · rw [h2, if_neg (show ¬ (0 : Int32) ≤ -4 by decide)]
    rcases h1 with h1 | h1
    · rw [if_pos h1]
    · rw [if_neg h1]; split <;> rfl
theorem q_origin (h : IV S V M c n ps od lo hi) (k : Int32) : ogF S k = caF M k := by
  unfold ogF
  rcases h.pl k with ⟨P, h1, h2, h3, h4, h5, h6, h7⟩ | ⟨h1, h2⟩
  · have ho := h.2.2.1.1.o P h1
    rw [if_neg h4, if_pos h5, h6, h7, ix_nI (by have := h.1.1; have := h.1.2.1; omega)]
  · rw [h2]
    rcases h1 with h1 | h1
    · rw [if_pos h1]
    · rw [if_neg h1]; split <;> rfl
theorem wzL_miss {k : Int32} (hk : ∀ q, q < 32 → ¬ (caF M (nI q) = k ∧ ¬ caF M (nI q) < 0)) : ∀ (d q : Nat), q + d = 32 → wzL d M k q = -4 := by
  intro d
  induction d with
  | zero => intro q h; rfl
  | succ d ih =>
    intro q h
    rw [wzL, if_neg (hk q (by omega))]
    exact ih (q + 1) (by omega)
theorem wzL_hit {k : Int32} {t : Nat} (ht : t < 32) (h1 : caF M (nI t) = k ∧ ¬ caF M (nI t) < 0) (hk : ∀ q, q < t → ¬ (caF M (nI q) = k ∧ ¬ caF M (nI q) < 0)) : ∀ (d q : Nat), q + d = 32 → q ≤ t → wzL d M k q = nI t := by
  intro d
  induction d with
  | zero => intro q h1 h2; omega
  | succ d ih =>
    intro q h2 h3
    rw [wzL]
    by_cases e : q = t
    · subst e
      rw [if_pos h1]
    · rw [if_neg (hk q (by omega))]
      exact ih (q + 1) (by omega) (by omega)
/-- a node is known by its change -/
theorem typ_inj (h : IV S V M c n ps od lo hi) {x y : Nat} (hx : 1 ≤ x) (hxc : x ≤ c) (hy : 1 ≤ y) (hyc : y ≤ c) (e : ix (S 8 x) = ix (S 8 y)) : x = y := by
  have h1 := (h.2.2.2.2.1 x hx hxc).2.1
  have h2 := (h.2.2.2.2.1 y hy hyc).2.1
  rw [e, h2] at h1
  have := h.1.1
  have := h.1.2.1
  exact ((nI_eq (by omega) (by omega)).mp h1).symm
theorem q_where (h : IV S V M c n ps od lo hi) (k : Int32) : whF S k = wzL 32 M k 0 := by
  have hc32 : c ≤ 32 := by have := h.1.1; have := h.1.2.1; omega
  unfold whF
  rcases h.kn k with ⟨k0, h1, h2, h3, h4, h5⟩ | ⟨h4, h5, h6⟩
  · have hn := h.1.2.1
    rw [h4, h3, if_pos rfl]
    rcases h.2.2.2.2.2.2.1 k0 h1 with ⟨t1, t2⟩ | ⟨t1, t2, t3, t4, t5, t6⟩
    · rw [if_pos t1, wzL_miss _ 32 0 rfl]
      rintro q hq ⟨g1, g2⟩
      rcases h.pl (nI q) with ⟨P, p1, p2, p3, p4, p5, p6, p7⟩ | ⟨p1, p2⟩
      · have ho := h.2.2.1.1.o P p1
        have hx := (h.2.2.2.2.1 _ ho.1 ho.2.1).2.1
        rw [← p7, g1, h3, t1] at hx
        exact nI_ne0 ho.1 (by omega) hx.symm
      · rw [p2] at g2; exact g2 (by decide)
    · have e12 : S 12 k0 = nI (ix (S 12 k0)) := rd12 h.2.1.1 (by omega)
      obtain ⟨x, ex⟩ : ∃ x, x = ix (S 12 k0) := ⟨_, rfl⟩
      rw [← ex] at e12 t2 t3 t4
      rw [e12, if_neg (nI_ne0 t2 (by omega)), shI_N t2 (by omega)]
      have hb := h.2.2.1.1.b x t2 t3
      have hxP : ∀ P, P < c → S 8 (od P) = k → P = ps x := by
        intro P hP e
        have ho := h.2.2.1.1.o P hP
        have : od P = x := typ_inj h ho.1 ho.2.1 t2 t3 (by rw [e, t4, h2])
        rw [← this]; exact ho.2.2.symm
      have hFx : FS S od (ps x) = shB S x := by rw [FS, hb.2.1]
      by_cases hs : shB S x = true
      · rw [if_pos hs, if_neg (by decide), place_ok h.2.2.1.1 h.2.1.1 (by omega) h.2.2.1.2.1 h.2.2.1.2.2 t2 t3]
        have hpl := pre_le (f := FS S od) (ps x)
        have hca := h.ca hb.1 (by rw [hFx]; exact hs)
        rw [hb.2.1] at hca
        refine (wzL_hit (by omega) ⟨by rw [hca, t4, h2], ?_⟩ ?_ 32 0 rfl (by omega)).symm
        · rw [hca]
          have := typ_nn h t2 t3
          simpa using this
        · rintro q hq ⟨g1, g2⟩
          rcases h.pl (nI q) with ⟨P, p1, p2, p3, p4, p5, p6, p7⟩ | ⟨p1, p2⟩
          · have : P = ps x := hxP P p1 (by rw [← p7]; exact g1)
            subst this
            have := (nI_eq (by omega) (by omega)).mp p3
            omega
          · rw [p2] at g2; exact g2 (by decide)
      · rw [if_neg hs, if_pos rfl, wzL_miss _ 32 0 rfl]
        rintro q hq ⟨g1, g2⟩
        rcases h.pl (nI q) with ⟨P, p1, p2, p3, p4, p5, p6, p7⟩ | ⟨p1, p2⟩
        · have : P = ps x := hxP P p1 (by rw [← p7]; exact g1)
          subst this
          rw [hFx] at p2
          exact hs p2
        · rw [p2] at g2; exact g2 (by decide)
  · rw [h4, if_neg (by decide), wzL_miss _ 32 0 rfl]
    rintro q hq ⟨g1, g2⟩
    rcases h.pl (nI q) with ⟨P, p1, p2, p3, p4, p5, p6, p7⟩ | ⟨p1, p2⟩
    · have ho := h.2.2.1.1.o P p1
      have hx := h.2.2.2.2.1 _ ho.1 ho.2.1
      exact h6 _ hx.1 (by rw [← g1, p7]; exact (typ_lt h ho.1 ho.2.1).1)
    · rw [p2] at g2; exact g2 (by decide)
theorem cvL_ok {w : Int64} {N : Nat} : ∀ (d x s : Nat), x + d = N → cvL d w x (nI s) = nI (s + (pre (bV w) N - pre (bV w) x)) := by
  intro d
  induction d with
  | zero =>
    intro x s h
    have : x = N := by omega
    subst this
    rw [cvL, Nat.sub_self, Nat.add_zero]
  | succ d ih =>
    intro x s h
    have m := pre_mono (f := bV w) (show x + 1 ≤ N by omega)
    rw [cvL]
    by_cases hb : bitL w (nI x)
    · rw [if_pos hb, nI_1, ih (x + 1) (s + 1) (by omega)]
      have := bL_iff.mp hb
      rw [pre_s, if_pos this] at m ⊢
      congr 1; omega
    · rw [if_neg hb, ih (x + 1) s (by omega)]
      have : ¬ bV w x = true := fun z => hb (bL_iff.mpr z)
      rw [pre_s, if_neg this] at m ⊢
      simp
theorem czL_ok {w : Int32} : ∀ (d x s : Nat), x + d = 32 → czL d w x (nI s) = nI (s + (pre (bM w) 32 - pre (bM w) x)) := by
  intro d
  induction d with
  | zero =>
    intro x s h
    have : x = 32 := by omega
    subst this
    rw [czL, Nat.sub_self, Nat.add_zero]
  | succ d ih =>
    intro x s h
    have m := pre_mono (f := bM w) (show x + 1 ≤ 32 by omega)
    rw [czL, bM_val (by omega), nI_add, ih (x + 1) _ (by omega)]
    rw [pre_s (n := x)] at m ⊢
    congr 1; omega
theorem q_covers (h : IV S V M c n ps od lo hi) (k : Int32) : cvF S V k = czF M k := by
  unfold cvF czF
  rcases h.kn k with ⟨k0, h1, h2, h3, h4, h5⟩ | ⟨h4, h5, h6⟩
  · rw [h4, h5, h3, if_pos rfl, if_neg n10]
    have e1 := cvL_ok (w := V k0) (N := 48) 48 0 0 rfl
    have e2 := czL_ok (w := M 4 k0) 32 0 0 rfl
    have e3 : pre (bV (V k0)) 48 = pre (bM (M 4 k0)) 32 := h.2.2.2.2.2.2.2.2.2.2.2.1 k0 h1
    rw [pre_0, Nat.sub_zero, Nat.zero_add] at e1 e2
    rw [show (0 : Int32) = nI 0 from rfl, e1, e2, e3]
  · rw [h4, h5, if_neg (by decide), if_pos rfl]
theorem q_coveredBy (h : IV S V M c n ps od lo hi) (k : Int32) : cyF S k = cqF M k := by
  unfold cyF cqF
  rcases h.kn k with ⟨k0, h1, h2, h3, h4, h5⟩ | ⟨h4, h5, h6⟩
  · rw [h4, h5, h3, if_pos rfl, if_neg n10]
    rcases h.2.2.2.2.2.2.1 k0 h1 with ⟨t1, t2⟩ | ⟨t1, t2, t3, t4, t5, t6⟩
    · rw [if_pos t1, if_pos t2]
    · have hn := h.1.2.1
      have hcn := h.1.1
      have e12 : S 12 k0 = nI (ix (S 12 k0)) := rd12 h.2.1.1 (by omega)
      rw [t1, if_neg n10, if_neg (by rw [e12]; exact nI_ne0 t2 (by omega)), h2, ← t4]
      exact (h.co t2 t3).symm
  · rw [h4, h5, if_neg (by decide), if_pos rfl]
theorem dzL_out (hm : ∀ q, pre (FS S od) c ≤ q → q < 32 → caF M (nI q) = -4) : ∀ (d k : Nat) (s : Int32), k + d = 32 → pre (FS S od) c ≤ k → dzL d M k s = s := by
  intro d
  induction d with
  | zero => intro k s h1 h2; rfl
  | succ d ih =>
    intro k s h1 h2
    rw [dzL, hm k h2 (by omega), if_neg (show ¬ (0 : Int32) ≤ -4 by decide)]
    exact ih (k + 1) s (by omega) (by omega)
theorem dz_dg (h : IV S V M c n ps od lo hi) (hm : ∀ q, pre (FS S od) c ≤ q → q < 32 → caF M (nI q) = -4) : ∀ (d k : Nat) (s : Int32), k + d = pre (FS S od) c → dzL (32 - k) M k s = dgL d S k s := by
  have hc32 : c ≤ 32 := by have := h.1.1; have := h.1.2.1; omega
  have hl := pre_le (f := FS S od) c
  intro d
  induction d with
  | zero =>
    intro k s h1
    rw [dgL]
    exact dzL_out hm _ k s (by omega) (by omega)
  | succ d ih =>
    intro k s h1
    obtain ⟨P, p1, p2, p3⟩ := pre_find (f := FS S od) (n := c) (q := k) (by omega)
    have ho := h.2.2.1.1.o P p1
    have e1 := h.ca p1 p2
    have e2 := h.nd p1 p2
    rw [p3] at e1 e2
    rw [show 32 - k = (32 - (k + 1)) + 1 by omega, dzL, dgL, e1, e2, if_pos (typ_nn h ho.1 ho.2.1), ix_nI (by omega), (h.2.2.2.2.1 _ ho.1 ho.2.1).2.2]
    exact ih (k + 1) _ (by omega)
theorem q_digest (h : IV S V M c n ps od lo hi) : dgF S = dzF M := by
  have hc32 : c ≤ 32 := by have := h.1.1; have := h.1.2.1; omega
  have hl := pre_le (f := FS S od) c
  unfold dgF dzF
  rw [h.tl, ix_nI (by omega)]
  refine (dz_dg h (fun q h1 h2 => ?_) _ 0 0 (by omega)).symm
  rcases h.pl (nI q) with ⟨P, p1, p2, p3, p4, p5, p6, p7⟩ | ⟨p1, p2⟩
  · exfalso
    rw [h.tl] at p5
    exact nI_nlt h1 (by omega) p5
  · exact p2
end RQ
end
section
/-! turning a change on or off -/
theorem pu_at {c : Nat} {U U1 : SS} {ps od lo hi : Nat → Nat} (hc : c ≤ 47) (rg : RG U1) (h : CT c U ps od lo hi) {x : Nat} (hx : 1 ≤ x) (hxc : x ≤ c) (eU : ∀ j, j ≠ 9 → j ≠ 11 → U1 j = U j) (hs : ∀ y, 1 ≤ y → y ≤ c → y ≠ x → shB U1 y = shB U y) : CT c (puS 48 U1 (nI x)) ps od lo hi := by
  have hT : TS c U1 ps od lo hi := by
    unfold TS
    rw [eU 0 (by decide) (by decide), eU 2 (by decide) (by decide), eU 3 (by decide) (by decide), eU 4 (by decide) (by decide)]
    exact h.1
  obtain ⟨u1, u2⟩ := puS_ok (c := c) (by omega) 48 U1 x rg hT (by rw [eU 6 (by decide) (by decide)]; exact h.2.1) (Or.inr ⟨hx, hxc, by omega⟩) (by
    intro y y1 y2 hy
    have hy := hy (by omega)
    have hby := h.1.b y y1 y2
    have hg := h.2.2 y y1 y2
    unfold sgood at hg ⊢
    rw [eU 6 (by decide) (by decide), hg]
    have := pre_part (f := FS U1 od) (g := FS U od) (a := lo y) (b := hi y) (by omega) (fun i i1 i2 => by
      have ho := h.1.o i (by omega)
      refine hs _ ho.1 ho.2.1 ?_
      intro e
      apply hy
      rw [← e, ho.2.2]
      exact ⟨i1, i2⟩)
    have m1 := pre_mono (f := FS U1 od) (show lo y ≤ hi y by omega)
    have m2 := pre_mono (f := FS U od) (show lo y ≤ hi y by omega)
    congr 1
    omega)
  exact ⟨TS_pu hT, u1, u2⟩
theorem shB_of {S T : SS} {y : Nat} (h11 : S 11 (ix (S 8 y)) = T 11 (ix (T 8 y))) (h9 : S 9 y = T 9 y) : shB S y = shB T y := by
  unfold shB
  rw [h11, h9]
theorem up2_9 {U : SS} {x : Nat} {v : Int32} (y : Nat) : up2 U 9 x v 9 y = if y = x then v else U 9 y := rfl
theorem cbL_ok {c : Nat} {ps od lo hi : Nat → Nat} (hc : c ≤ 47) {w : Int64} {mo : Int32} : ∀ (d x : Nat) (U : SS), x + d = c + 1 → 1 ≤ x → RG U → CT c U ps od lo hi → CT c (cbL d U x w mo) ps od lo hi ∧ ∀ y, cbL d U x w mo 9 y = if x ≤ y ∧ y ≤ c ∧ bV w (y - 1) = true then U 9 y + mo else U 9 y := by
  intro d
  induction d with
  | zero =>
    intro x U h1 h2 rg h
    refine ⟨h, fun y => ?_⟩
    rw [if_neg (by omega)]
    rfl
  | succ d ih =>
    intro x U h1 h2 rg h
    rw [cbL, ix_nI (show x < 2 ^ 31 by omega)]
    by_cases hb : bitL w (nI x - 1)
    · rw [if_pos hb]
      have hb2 := (bL_iff1 h2).mp hb
      have rg1 : RG (up2 U 9 x (U 9 x + mo)) := RG_9 rg
      have hC := pu_at hc rg1 h h2 (by omega) (fun j j1 j2 => by simp [up2, j1]) (fun y y1 y2 y3 => by
        unfold shB
        rw [up2_9, if_neg y3]
        rfl)
      obtain ⟨a1, a2⟩ := ih (x + 1) _ (by omega) (by omega) (RG_pu rg1) hC
      refine ⟨a1, fun y => ?_⟩
      rw [a2 y, puS_k (by decide), up2_9]
      by_cases e : y = x
      · subst e
        rw [if_neg (by omega), if_pos rfl, if_pos ⟨Nat.le_refl _, by omega, hb2⟩]
      · rw [if_neg e]
        by_cases g : x ≤ y ∧ y ≤ c ∧ bV w (y - 1) = true
        · rw [if_pos g, if_pos ⟨by omega, g.2.1, g.2.2⟩]
        · rw [if_neg g, if_neg (fun z => g ⟨by omega, z.2.1, z.2.2⟩)]
    · rw [if_neg hb]
      have hb2 : ¬ bV w (x - 1) = true := fun z => hb ((bL_iff1 h2).mpr z)
      obtain ⟨a1, a2⟩ := ih (x + 1) U (by omega) (by omega) rg h
      refine ⟨a1, fun y => ?_⟩
      rw [a2 y]
      by_cases e : y = x
      · subst e
        rw [if_neg (by omega), if_neg (fun z => hb2 z.2.2)]
      · by_cases g : x ≤ y ∧ y ≤ c ∧ bV w (y - 1) = true
        · rw [if_pos g, if_pos ⟨by omega, g.2.1, g.2.2⟩]
        · rw [if_neg g, if_neg (fun z => g ⟨by omega, z.2.1, z.2.2⟩)]
theorem IV.set {S S' : SS} {V : LL} {M : SS} {c n : Nat} {ps od lo hi : Nat → Nat} (h : IV S V M c n ps od lo hi) {k : Nat} (hk : k < n) {v : Int32} (hv : v = if S 11 k = 0 then 1 else 0) (e : ∀ j, j ≠ 6 → j ≠ 9 → j ≠ 11 → S' j = S j) (e11 : ∀ j, S' 11 j = if j = k then v else S 11 j) (rg' : RG S') (ct' : CT c S' ps od lo hi)
    (e9 : ∀ x, 1 ≤ x → x ≤ c → S' 9 x = nI (pre (fun k' => onB S' k' && bV (V k') (x - 1)) n)) (ez : ∀ j, c < j → j < 49 → S' 9 j = 0) : IV S' V (tgZ M (nI k)) c n ps od lo hi := by
  obtain ⟨⟨hcn, hn, e00, e010, m01, m06⟩, ⟨rg, rz⟩, ct, hz, hX, hO, hTy, hL, hB, hE, hC, hN, hP⟩ := h
  have s0 := e 0 (by decide) (by decide) (by decide)
  have s2 := e 2 (by decide) (by decide) (by decide)
  have s3 := e 3 (by decide) (by decide) (by decide)
  have s4 := e 4 (by decide) (by decide) (by decide)
  have s7 := e 7 (by decide) (by decide) (by decide)
  have s8 := e 8 (by decide) (by decide) (by decide)
  have s12 := e 12 (by decide) (by decide) (by decide)
  have hM : ∀ j, j ≠ 5 → tgZ M (nI k) j = M j := fun j hj => by simp [tgZ, up2, hj]
  refine ⟨⟨hcn, hn, ?_, ?_, m01, m06⟩, ⟨rg', RZ_5 rz⟩, ct', ?_, ?_, ?_, ?_, ?_, ?_, ?_, e9, ?_, hP⟩
  · rw [s0]; exact e00
  · rw [s0]; exact e010
  · intro j j1 j2
    rw [s2, s3, s4]
    exact ⟨(hz j j1 j2).1, (hz j j1 j2).2.1, (hz j j1 j2).2.2.1, ez j j1 j2⟩
  · intro x x1 x2
    rw [s7, s8, s12]
    exact hX x x1 x2
  · intro k' hk'
    rw [e11]
    have h5 : tgZ M (nI k) 5 k' = if k' = k then v else M 5 k' := by
      unfold tgZ
      rw [ix_nI (by omega), (hO k hk).1, hv]
      rfl
    rw [h5]
    by_cases e : k' = k
    · rw [if_pos e, if_pos e]
      refine ⟨rfl, ?_⟩
      rw [hv]
      split
      · exact Or.inr rfl
      · exact Or.inl rfl
    · rw [if_neg e, if_neg e]
      exact hO k' hk'
  · intro k' hk'
    rw [s12, s8]
    exact hTy k' hk'
  · intro i hi'
    rw [s8]
    exact hL i hi'
  · intro k' x hk' x1 x2
    rw [s8]
    exact hB k' x hk' x1 x2
  · exact hE
  · exact hN
theorem tgA_e {S : SS} {k : Nat} (hk : k < 2 ^ 31) : tgA S (nI k) = up2 S 11 k (if S 11 k = 0 then 1 else 0) := by
  unfold tgA
  rw [ix_nI hk]
set_option maxHeartbeats 1000000 in
theorem IV.tg {S : SS} {V : LL} {M : SS} {c n : Nat} {ps od lo hi : Nat → Nat} (h : IV S V M c n ps od lo hi) {k : Nat} (hk : k < n) : IV (tgS S V (nI k)) V (tgZ M (nI k)) c n ps od lo hi := by
  obtain ⟨⟨hcn, hn, e00, e010, m01, m06⟩, ⟨rg, rz⟩, ct, hz, hX, hO, hTy, hL, hB, hE, hC, hN, hP⟩ := id h
  obtain ⟨v, hv⟩ : ∃ v : Int32, v = if S 11 k = 0 then 1 else 0 := ⟨_, rfl⟩
  have eA : tgA S (nI k) = up2 S 11 k v := by rw [tgA_e (by omega), hv]
  have a11 : ∀ j, up2 S 11 k v 11 j = if j = k then v else S 11 j := fun _ => rfl
  have t11 : ∀ j, tgS S V (nI k) 11 j = if j = k then v else S 11 j := by
    intro j
    unfold tgS cbS
    rw [eA]
    split
    · rw [cbL_k (by decide) (by decide)]; rfl
    · rw [puS_k (by decide)]; rfl
  -- the counts of covers when k is turned
  have cnt : ∀ (x : Nat), pre (fun k' => onB (tgS S V (nI k)) k' && bV (V k') (x - 1)) n + (if (onB S k && bV (V k) (x - 1)) = true then 1 else 0) = pre (fun k' => onB S k' && bV (V k') (x - 1)) n + (if (onB (tgS S V (nI k)) k && bV (V k) (x - 1)) = true then 1 else 0) := by
    intro x
    exact pre_one (f := fun k' => onB S k' && bV (V k') (x - 1)) (g := fun k' => onB (tgS S V (nI k)) k' && bV (V k') (x - 1)) hk (fun i hi' hne => by
      show (onB (tgS S V (nI k)) i && _) = (onB S i && _)
      unfold onB
      rw [t11, if_neg hne])
  have onk : onB (tgS S V (nI k)) k = ! onB S k := by
    unfold onB
    rw [t11, if_pos rfl, hv]
    by_cases q : S 11 k = 0
    · simp [q]
    · simp [q]
  have rg' : RG (tgS S V (nI k)) := RG_tg rg
  have keep : ∀ j, j ≠ 6 → j ≠ 9 → j ≠ 11 → tgS S V (nI k) j = S j := fun j j1 j2 j3 => tgS_k j1 j2 j3
  rcases hTy k hk with ⟨t1, t2⟩ | ⟨t1, t2, t3, t4, t5, t6⟩
  · -- an erasing change
    obtain ⟨mo, hmo⟩ : ∃ mo : Int32, mo = if v = 0 then -1 else 1 := ⟨_, rfl⟩
    have eT : tgS S V (nI k) = cbL c (up2 S 11 k v) 1 (V k) mo := by
      unfold tgS cbS
      rw [eA, ix_nI (show k < 2 ^ 31 by omega), if_pos t1, a11, if_pos rfl, ← hmo]
      show cbL (ix (S 0 0)) _ _ _ _ = _
      rw [e00, ix_nI (by omega)]
    have hsh : ∀ y, 1 ≤ y → y ≤ c → shB (up2 S 11 k v) y = shB S y := by
      intro y y1 y2
      refine shB_of ?_ rfl
      show up2 S 11 k v 11 (ix (S 8 y)) = _
      rw [a11, if_neg]
      · intro e
        have := (hX y y1 y2).2.1
        rw [e, t1] at this
        exact nI_ne0 y1 (by omega) this.symm
    have ct1 : CT c (up2 S 11 k v) ps od lo hi := by
      refine ⟨ct.1, ct.2.1, fun y y1 y2 => ?_⟩
      have hby := ct.1.b y y1 y2
      have hg := ct.2.2 y y1 y2
      unfold sgood at hg ⊢
      have p1 := pre_congr (f := FS (up2 S 11 k v) od) (g := FS S od) (n := hi y) (fun i hi' => hsh _ (ct.1.o i (by omega)).1 (ct.1.o i (by omega)).2.1)
      have p2 := pre_congr (f := FS (up2 S 11 k v) od) (g := FS S od) (n := lo y) (fun i hi' => hsh _ (ct.1.o i (by omega)).1 (ct.1.o i (by omega)).2.1)
      rw [p1, p2]
      exact hg
    obtain ⟨c1, c2⟩ := cbL_ok (c := c) (by omega) (w := V k) (mo := mo) c 1 (up2 S 11 k v) (by omega) (Nat.le_refl 1) (RG_11 rg) ct1
    rw [← eT] at c1 c2
    refine h.set hk hv keep t11 rg' c1 ?_ ?_
    · intro x x1 x2
      have hcnt := cnt x
      rw [onk] at hcnt
      rw [c2 x]
      show (if 1 ≤ x ∧ x ≤ c ∧ bV (V k) (x - 1) = true then S 9 x + mo else S 9 x) = _
      rw [hC x x1 x2]
      by_cases hb : bV (V k) (x - 1) = true
      · rw [if_pos ⟨x1, x2, hb⟩, hmo, hv]
        by_cases q : S 11 k = 0
        · have o : onB S k = false := by simp [onB, q]
          rw [o, hb] at hcnt
          simp at hcnt
          rw [if_pos q, if_neg n10, nI_1, hcnt]
        · have o : onB S k = true := by simp [onB, q]
          rw [o, hb] at hcnt
          simp at hcnt
          rw [if_neg q, if_pos rfl, ← hcnt, pk_m1]
      · rw [if_neg (fun z => hb z.2.2)]
        have hb : bV (V k) (x - 1) = false := by simpa using hb
        rw [hb] at hcnt
        simp at hcnt
        rw [hcnt]
    · intro j j1 j2
      rw [c2 j, if_neg (by omega)]
      exact (hz j j1 j2).2.2.2
  · -- a typing change
    have e12 : S 12 k = nI (ix (S 12 k)) := rd12 rg (by omega)
    have eT : tgS S V (nI k) = puS 48 (up2 S 11 k v) (nI (ix (S 12 k))) := by
      unfold tgS
      rw [eA, ix_nI (show k < 2 ^ 31 by omega), if_neg (by rw [e12]; exact nI_ne0 t2 (by omega)), ← e12]
    have hC1 : CT c (tgS S V (nI k)) ps od lo hi := by
      rw [eT]
      refine pu_at (by omega) (RG_11 rg) ct t2 t3 (fun j j1 j2 => by simp [up2, j2]) (fun y y1 y2 y3 => ?_)
      refine shB_of ?_ rfl
      show up2 S 11 k v 11 (ix (S 8 y)) = _
      rw [a11, if_neg]
      · intro e
        have h1 := (hX y y1 y2).2.1
        rw [e, e12] at h1
        exact y3 ((nI_eq (by omega) (by omega)).mp h1).symm
    have t9 : tgS S V (nI k) 9 = S 9 := by
      rw [eT, puS_k (by decide)]; rfl
    refine h.set hk hv keep t11 rg' hC1 ?_ ?_
    · intro x x1 x2
      have hcnt := cnt x
      have : bV (V k) (x - 1) = false := by rw [t5]; exact bV_0 (by omega)
      rw [this] at hcnt
      simp at hcnt
      rw [t9, hC x x1 x2, hcnt]
    · intro j j1 j2
      rw [t9]
      exact (hz j j1 j2).2.2.2
end
section
/-! put, undo, redo, flip -/
theorem up2_id {M : SS} {k j : Nat} {v : Int32} (h : M k j = v) : up2 M k j v = M := by
  funext a i
  unfold up2 upd
  by_cases h1 : a = k
  · rw [if_pos h1]
    by_cases h2 : i = j
    · show (if i = j then v else M a i) = M a i
      rw [if_pos h2, h1, h2, h]
    · show (if i = j then v else M a i) = M a i
      rw [if_neg h2]
  · rw [if_neg h1]
theorem b01_01 (z : Int32) : b01 z = 0 ∨ b01 z = 1 := by
  unfold b01
  split
  · exact Or.inl rfl
  · exact Or.inr rfl
theorem tgZ_e {M : SS} {k : Nat} (hk : k < 2 ^ 31) : tgZ M (nI k) = up2 M 5 k (if M 5 k = 0 then 1 else 0) := by
  unfold tgZ
  rw [ix_nI hk]
section OP
variable {S : SS} {V : LL} {M : SS} {c n : Nat} {ps od lo hi : Nat → Nat}
theorem IV.i (h : IV S V M c n ps od lo hi) : Inv S V M := ⟨c, n, ps, od, lo, hi, h⟩
theorem IV.on (h : IV S V M c n ps od lo hi) {k : Nat} (hk : k < n) : M 5 k = S 11 k ∧ (S 11 k = 0 ∨ S 11 k = 1) := h.2.2.2.2.2.1 k hk
theorem o_put (h : IV S V M c n ps od lo hi) (k z : Int32) : Agree Inv (ptO S V k z) (pzO M Z0 k z) := by
  unfold ptO pzO
  rcases h.kn k with ⟨k0, h1, h2, h3, h4, h5⟩ | ⟨h4, h5, h6⟩
  · have hn := h.1.2.1
    have ho := h.on h1
    rw [h4, h5, h3, if_pos rfl, if_neg n10]
    refine ⟨by rw [ho.1], ?_⟩
    show Inv (if S 11 k0 = b01 z then S else tgS S V k) V (up2 M 5 k0 (b01 z))
    by_cases e : S 11 k0 = b01 z
    · rw [if_pos e, up2_id (by rw [ho.1, e])]
      exact h.i
    · rw [if_neg e]
      have := h.tg h1
      rw [tgZ_e (by omega), ← h2] at this
      have hz : b01 z = if M 5 k0 = 0 then 1 else 0 := by
        rw [ho.1]
        rcases ho.2 with q | q
        · rw [if_pos q]
          rcases b01_01 z with w | w
          · rw [q, w] at e; exact absurd rfl e
          · exact w
        · rw [if_neg (by rw [q]; exact n10)]
          rcases b01_01 z with w | w
          · exact w
          · rw [q, w] at e; exact absurd rfl e
      rw [hz]
      exact this.i
  · rw [h4, h5, if_neg (by decide), if_pos rfl]
    exact ⟨rfl, h.i⟩
theorem o_undo (h : IV S V M c n ps od lo hi) : ∀ d, d ≤ n → Agree Inv (unO S V d) (uzO M Z0 d) := by
  intro d
  induction d with
  | zero => intro _; exact ⟨rfl, h.i⟩
  | succ d ih =>
    intro hd
    have hn := h.1.2.1
    have ho := h.on (show d < n by omega)
    rw [unO, uzO, ix_nI (by omega), ho.1]
    by_cases e : S 11 d = 0
    · rw [if_pos e, if_pos e]
      exact ih (by omega)
    · rw [if_neg e, if_neg e]
      refine ⟨rfl, ?_⟩
      have := h.tg (show d < n by omega)
      rw [tgZ_e (by omega), ho.1, if_neg e] at this
      exact this.i
theorem o_redo (h : IV S V M c n ps od lo hi) : ∀ d k, k + d = n → Agree Inv (rdO S V d k) (rzO M Z0 d k) := by
  intro d
  induction d with
  | zero => intro _ _; exact ⟨rfl, h.i⟩
  | succ d ih =>
    intro k hd
    have hn := h.1.2.1
    have ho := h.on (show k < n by omega)
    rw [rdO, rzO, ix_nI (by omega), ho.1]
    by_cases e : S 11 k = 0
    · rw [if_pos e, if_pos e]
      refine ⟨rfl, ?_⟩
      have := h.tg (show k < n by omega)
      rw [tgZ_e (by omega), ho.1, if_pos e] at this
      exact this.i
    · rw [if_neg e, if_neg e]
      exact ih (k + 1) (by omega)
end OP
theorem o_flL {V : LL} {c n : Nat} {ps od lo hi : Nat → Nat} : ∀ (d k : Nat) (S M : SS) (s : Int32), IV S V M c n ps od lo hi → k + d ≤ n → Agree Inv (flL d S V k s) (fzL d M Z0 k s) := by
  intro d
  induction d with
  | zero => intro k S M s h _; exact ⟨rfl, h.i⟩
  | succ d ih =>
    intro k S M s h hd
    have hn := h.1.2.1
    have hk : k < n := by omega
    have ht := h.tg hk
    rw [flL, fzL, ix_nI (by omega), (ht.on hk).1]
    exact ih (k + 1) _ _ _ ht (by omega)
theorem o_flip {S : SS} {V : LL} {M : SS} {c n : Nat} {ps od lo hi : Nat → Nat} (h : IV S V M c n ps od lo hi) (i j : Int32) : Agree Inv (flO S V i j) (fzO M Z0 i j) := by
  unfold flO fzO
  by_cases h1 : i < 0
  · rw [if_pos h1, if_pos h1]; exact ⟨rfl, h.i⟩
  · rw [if_neg h1, if_neg h1]
    by_cases h2 : j < i
    · rw [if_pos h2, if_pos h2]; exact ⟨rfl, h.i⟩
    · rw [if_neg h2, if_neg h2]
      have hij := ix_le_of h2
      have hj0 : ¬ j < 0 := by
        intro q
        have a1 := Int32.lt_iff_toInt_lt.mp q
        have a2 : ¬ i.toInt < 0 := fun q => h1 (Int32.lt_iff_toInt_lt.mpr q)
        have a3 : ¬ j.toInt < i.toInt := fun q => h2 (Int32.lt_iff_toInt_lt.mpr q)
        have a4 : j.toInt < 0 := a1
        omega
      have hn := h.1.2.1
      have e06 : M 0 6 = nI n := h.1.2.2.2.2.2
      rcases h.kn j with ⟨k0, g1, g2, g3, g4, g5⟩ | ⟨g4, g5, g6⟩
      · rw [if_pos g4, if_pos (by rw [e06, g2]; exact nI_lt g1 (by omega))]
        exact o_flL _ _ _ _ _ h (by omega)
      · have : ¬ j < M 0 6 := by
          obtain ⟨t, ht, rfl⟩ := nI_of hj0
          rw [e06]
          rcases Nat.lt_or_ge t n with q | q
          · exact absurd rfl (g6 t q)
          · exact nI_nlt q ht
        rw [if_neg (by rw [g4]; exact n10), if_neg this]
        exact ⟨rfl, h.i⟩
end
section
/-! erasing -/
def PR (S : SS) (c n : Nat) (w : Int64) (z : Int32) : Prop :=
  (∀ x, 1 ≤ x → x ≤ c → bM z (ix (S 8 x)) = bV w (x - 1)) ∧ (∀ x, c < x → x ≤ 48 → bV w (x - 1) = false) ∧ (∀ t, n ≤ t → t < 32 → bM z t = false) ∧ pre (bV w) 48 = pre (bM z) 32
theorem PR_0 {S : SS} {V : LL} {M : SS} {c n : Nat} {ps od lo hi : Nat → Nat} (h : IV S V M c n ps od lo hi) : PR S c n 0 0 := by
  have hn := h.1.2.1
  have hcn := h.1.1
  refine ⟨fun x x1 x2 => ?_, fun x x1 x2 => bV_0 (by omega), fun t t1 t2 => bM_0 t2, ?_⟩
  · rw [bV_0 (by omega), bM_0 (typ_lt h x1 x2).2]
  · rw [pre_zero (fun i hi' => bV_0 (by omega)), pre_zero (fun i hi' => bM_0 hi')]
theorem PR_s {S : SS} {V : LL} {M : SS} {c n : Nat} {ps od lo hi : Nat → Nat} (h : IV S V M c n ps od lo hi) {w : Int64} {z : Int32} (hp : PR S c n w z) {x : Nat} (hx : 1 ≤ x) (hxc : x ≤ c) :
    PR S c n (w ||| ((1 : Int64) <<< ((nI x - 1).toInt64 &&& 63))) (z ||| ((1 : Int32) <<< (S 8 x &&& 31))) := by
  have hn := h.1.2.1
  have hcn := h.1.1
  have ht := typ_lt h hx hxc
  have hX := h.2.2.2.2.1
  obtain ⟨p1, p2, p3, p4⟩ := hp
  rw [nI_p1 hx, ht.1]
  have bw : ∀ i, i < 64 → bV (w ||| ((1 : Int64) <<< ((nI (x - 1)).toInt64 &&& 63))) i = (bV w i || decide (i = x - 1)) := fun i hi' => bV_or hi' (by omega)
  have bz : ∀ i, i < 32 → bM (z ||| ((1 : Int32) <<< (nI (ix (S 8 x)) &&& 31))) i = (bM z i || decide (i = ix (S 8 x))) := fun i hi' => bM_or hi' ht.2
  refine ⟨fun y y1 y2 => ?_, fun y y1 y2 => ?_, fun t t1 t2 => ?_, ?_⟩
  · rw [bw _ (by omega), bz _ (typ_lt h y1 y2).2, p1 y y1 y2]
    congr 1
    by_cases e : y = x
    · subst e; simp
    · have e1 : ¬ y - 1 = x - 1 := by omega
      have e2 : ¬ ix (S 8 y) = ix (S 8 x) := fun q => e (typ_inj h y1 y2 hx hxc q)
      simp [e1, e2]
  · rw [bw _ (by omega), p2 y y1 y2]
    have e1 : ¬ y - 1 = x - 1 := by omega
    simp [e1]
  · rw [bz _ t2, p3 t t1 t2]
    have := (hX x hx hxc).1
    have e1 : ¬ t = ix (S 8 x) := by omega
    simp [e1]
  · have e := p1 x hx hxc
    by_cases hb : bV w (x - 1) = true
    · rw [hb] at e
      rw [pre_congr (f := bV (w ||| ((1 : Int64) <<< ((nI (x - 1)).toInt64 &&& 63)))) (g := bV w), pre_congr (f := bM (z ||| ((1 : Int32) <<< (nI (ix (S 8 x)) &&& 31)))) (g := bM z), p4]
      · intro i hi'
        rw [bz i hi']
        by_cases q : i = ix (S 8 x)
        · rw [q, e]; rfl
        · simp [q]
      · intro i hi'
        rw [bw i (by omega)]
        by_cases q : i = x - 1
        · rw [q, hb]; rfl
        · simp [q]
    · have hb : bV w (x - 1) = false := by simpa using hb
      rw [hb] at e
      rw [pre_bit (f := bV w) (e := x - 1) (by omega) hb (fun i hi' => bw i (by omega)), pre_bit (f := bM z) (e := ix (S 8 x)) ht.2 e bz, p4]
theorem er_sets {S : SS} {V : LL} {M : SS} {c n : Nat} {ps od lo hi : Nat → Nat} (h : IV S V M c n ps od lo hi) : ∀ (d k : Nat) (w : Int64) (z : Int32), k + d ≤ pre (FS S od) c → PR S c n w z → PR S c n (erW d S k w) (ezW d M k z) := by
  intro d
  induction d with
  | zero => intro k w z _ hp; exact hp
  | succ d ih =>
    intro k w z hd hp
    obtain ⟨P, p1, p2, p3⟩ := pre_find (f := FS S od) (n := c) (q := k) (by omega)
    have ho := h.2.2.1.1.o P p1
    have e1 := h.ca p1 p2
    have e2 := h.nd p1 p2
    rw [p3] at e1 e2
    rw [erW, ezW, e1, e2, if_pos (typ_nn h ho.1 ho.2.1)]
    exact ih (k + 1) _ _ (by omega) (PR_s h hp ho.1 ho.2.1)
theorem erS_11 {S : SS} {n : Nat} (hn : S 0 10 = nI n) (h : n < 2 ^ 31) (j : Nat) : erS S 11 j = if j = n then 1 else S 11 j := by
  unfold erS
  rw [hn, ix_nI h]
  rfl
theorem erS_12 {S : SS} {n : Nat} (hn : S 0 10 = nI n) (h : n < 2 ^ 31) (j : Nat) : erS S 12 j = if j = n then 0 else S 12 j := by
  unfold erS
  rw [hn, ix_nI h]
  rfl
theorem erS_0 {S : SS} {n : Nat} (hn : S 0 10 = nI n) (j : Nat) : erS S 0 j = if j = 10 then nI (n + 1) else S 0 j := by
  unfold erS
  rw [hn, nI_1]
  rfl
theorem erS_k {S : SS} {k : Nat} (h0 : k ≠ 0) (h1 : k ≠ 11) (h2 : k ≠ 12) : erS S k = S k := by
  unfold erS
  simp [up2, h0, h1, h2]
theorem ezS_r {M : SS} {n : Nat} (hn : M 0 6 = nI n) (h : n < 2 ^ 31) (w : Int32) : (∀ j, ezS M w 0 j = if j = 6 then nI (n + 1) else M 0 j) ∧ ezS M w 1 = M 1 ∧ (∀ j, ezS M w 2 j = if j = n then 0 else M 2 j) ∧ ezS M w 3 = M 3 ∧ (∀ j, ezS M w 4 j = if j = n then w else M 4 j) ∧ (∀ j, ezS M w 5 j = if j = n then 1 else M 5 j) := by
  unfold ezS
  rw [hn, ix_nI h, nI_1]
  exact ⟨fun _ => rfl, rfl, fun _ => rfl, rfl, fun _ => rfl, fun _ => rfl⟩
theorem updL_r {V : LL} {n : Nat} {w : Int64} (j : Nat) : vp_updL V n w j = if j = n then w else V j := rfl
set_option maxHeartbeats 1000000 in
theorem IV.er {S : SS} {V : LL} {M : SS} {c n : Nat} {ps od lo hi : Nat → Nat} (h : IV S V M c n ps od lo hi) (hn1 : n < 32) {w : Int64} {z : Int32} (hp : PR S c n w z) : IV (cbS (erS S) w 1) (vp_updL V n w) (ezS M z) c (n + 1) ps od lo hi := by
  obtain ⟨⟨hcn, hn, e00, e010, m01, m06⟩, ⟨rg, rz⟩, ct, hz, hX, hO, hTy, hL, hB, hE, hC, hN, hP⟩ := id h
  obtain ⟨p1, p2, p3, p4⟩ := hp
  have s11 := erS_11 (S := S) e010 (by omega)
  have s12 := erS_12 (S := S) e010 (by omega)
  have s0 := erS_0 (S := S) e010
  obtain ⟨z0, z1, z2, z3, z4, z5⟩ := ezS_r (M := M) m06 (by omega) z
  have rgE : RG (erS S) := by
    unfold erS
    exact RG_changes (RG_12 (RG_11 rg) vin0) (by rw [e010, nI_1]; exact vin_n (by omega) (by decide))
  have eC : cbS (erS S) w 1 = cbL c (erS S) 1 w 1 := by
    unfold cbS
    rw [s0, if_neg (by decide), e00, ix_nI (by omega)]
  have hsh : ∀ y, 1 ≤ y → y ≤ c → shB (erS S) y = shB S y := by
    intro y y1 y2
    refine shB_of ?_ (by rw [erS_k (by decide) (by decide) (by decide)])
    rw [erS_k (k := 8) (by decide) (by decide) (by decide), s11, if_neg]
    have := (hX y y1 y2).1
    omega
  have ct1 : CT c (erS S) ps od lo hi := by
    refine ⟨?_, ?_, fun y y1 y2 => ?_⟩
    · unfold TS
      rw [s0, if_neg (by decide), erS_k (k := 2) (by decide) (by decide) (by decide), erS_k (k := 3) (by decide) (by decide) (by decide), erS_k (k := 4) (by decide) (by decide) (by decide)]
      exact ct.1
    · rw [erS_k (by decide) (by decide) (by decide)]; exact ct.2.1
    · have hby := ct.1.b y y1 y2
      have hg := ct.2.2 y y1 y2
      unfold sgood at hg ⊢
      have q1 := pre_congr (f := FS (erS S) od) (g := FS S od) (n := hi y) (fun i hi' => hsh _ (ct.1.o i (by omega)).1 (ct.1.o i (by omega)).2.1)
      have q2 := pre_congr (f := FS (erS S) od) (g := FS S od) (n := lo y) (fun i hi' => hsh _ (ct.1.o i (by omega)).1 (ct.1.o i (by omega)).2.1)
      rw [q1, q2, erS_k (by decide) (by decide) (by decide)]
      exact hg
  obtain ⟨c1, c2⟩ := cbL_ok (c := c) (by omega) (w := w) (mo := 1) c 1 (erS S) (by omega) (Nat.le_refl 1) rgE ct1
  rw [← eC] at c1 c2
  have keep : ∀ k, k ≠ 6 → k ≠ 9 → cbS (erS S) w 1 k = erS S k := fun k k1 k2 => by rw [eC]; exact cbL_k k1 k2
  have k0 := keep 0 (by decide) (by decide)
  have k2 : cbS (erS S) w 1 2 = S 2 := (keep 2 (by decide) (by decide)).trans (erS_k (by decide) (by decide) (by decide))
  have k3 : cbS (erS S) w 1 3 = S 3 := (keep 3 (by decide) (by decide)).trans (erS_k (by decide) (by decide) (by decide))
  have k4 : cbS (erS S) w 1 4 = S 4 := (keep 4 (by decide) (by decide)).trans (erS_k (by decide) (by decide) (by decide))
  have k7 : cbS (erS S) w 1 7 = S 7 := (keep 7 (by decide) (by decide)).trans (erS_k (by decide) (by decide) (by decide))
  have k8 : cbS (erS S) w 1 8 = S 8 := (keep 8 (by decide) (by decide)).trans (erS_k (by decide) (by decide) (by decide))
  have k11 : ∀ j, cbS (erS S) w 1 11 j = if j = n then 1 else S 11 j := fun j => by rw [keep 11 (by decide) (by decide)]; exact s11 j
  have k12 : ∀ j, cbS (erS S) w 1 12 j = if j = n then 0 else S 12 j := fun j => by rw [keep 12 (by decide) (by decide)]; exact s12 j
  have rg' : RG (cbS (erS S) w 1) := by rw [eC]; exact RG_cb rgE
  have c9 : ∀ y, cbS (erS S) w 1 9 y = if 1 ≤ y ∧ y ≤ c ∧ bV w (y - 1) = true then S 9 y + 1 else S 9 y := fun y => by rw [c2 y, erS_k (k := 9) (by decide) (by decide) (by decide)]
  have rz' : RZ (ezS M z) := by
    refine ⟨by rw [z1]; exact rz.1, by rw [z0, if_neg (by decide)]; exact rz.2.1, ?_⟩
    rw [z0, if_pos rfl]
    exact vin_n (by omega) (by decide)
  refine ⟨⟨by omega, by omega, ?_, ?_, ?_, ?_⟩, ⟨rg', rz'⟩, c1, ?_, ?_, ?_, ?_, ?_, ?_, ?_, ?_, ?_, hP⟩
  · rw [k0, s0, if_neg (by decide)]; exact e00
  · rw [k0, s0, if_pos rfl]
  · rw [z0, if_neg (by decide)]; exact m01
  · rw [z0, if_pos rfl]
  · intro j j1 j2
    rw [k2, k3, k4, c9, if_neg (by omega)]
    exact hz j j1 j2
  · intro x x1 x2
    have := hX x x1 x2
    rw [k7, k8, z3, k12, if_neg (by omega)]
    exact ⟨by omega, this.2⟩
  · intro k hk
    rw [z5, k11]
    by_cases e : k = n
    · rw [if_pos e, if_pos e]; exact ⟨rfl, Or.inr rfl⟩
    · rw [if_neg e, if_neg e]; exact hO k (by omega)
  · intro k hk
    rw [k12, z2, z4, k8, updL_r]
    by_cases e : k = n
    · rw [if_pos e, if_pos e]; exact Or.inl ⟨rfl, rfl⟩
    · rw [if_neg e, if_neg e, if_neg e, if_neg e]
      exact hTy k (by omega)
  · intro i hi'
    rw [z1, k8]; exact hL i hi'
  · intro k x hk x1 x2
    rw [z4, k8, updL_r]
    by_cases e : k = n
    · rw [if_pos e, if_pos e]; exact p1 x x1 x2
    · rw [if_neg e, if_neg e]; exact hB k x (by omega) x1 x2
  · intro k hk
    rw [z4, updL_r]
    by_cases e : k = n
    · rw [if_pos e, if_pos e]
      exact ⟨p2, fun t t1 t2 => p3 t (by omega) t2⟩
    · rw [if_neg e, if_neg e]
      exact ⟨(hE k (by omega)).1, fun t t1 t2 => (hE k (by omega)).2 t (by omega) t2⟩
  · intro x x1 x2
    rw [c9, pre_s]
    have e1 : pre (fun k => onB (cbS (erS S) w 1) k && bV (vp_updL V n w k) (x - 1)) n = pre (fun k => onB S k && bV (V k) (x - 1)) n := by
      refine pre_congr (fun i hi' => ?_)
      show (onB (cbS (erS S) w 1) i && bV (vp_updL V n w i) (x - 1)) = (onB S i && bV (V i) (x - 1))
      unfold onB
      rw [k11, updL_r, if_neg (by omega), if_neg (by omega)]
    have e2 : onB (cbS (erS S) w 1) n = true := by
      unfold onB
      rw [k11, if_pos rfl]
      decide
    rw [e1, e2, updL_r, if_pos rfl, hC x x1 x2, Bool.true_and]
    by_cases hb : bV w (x - 1) = true
    · rw [if_pos ⟨x1, x2, hb⟩, if_pos hb, nI_1]
    · rw [if_neg (fun q => hb q.2.2), if_neg hb, Nat.add_zero]
  · intro k hk
    rw [z4, updL_r]
    by_cases e : k = n
    · rw [if_pos e, if_pos e]; exact p4
    · rw [if_neg e, if_neg e]; exact hN k (by omega)
theorem o_erase {S : SS} {V : LL} {M : SS} {c n : Nat} {ps od lo hi : Nat → Nat} (h : IV S V M c n ps od lo hi) (i j : Int32) : Agree Inv (erO S V i j) (ezO M Z0 i j) := by
  have hn := h.1.2.1
  have hcn := h.1.1
  have e010 : S 0 10 = nI n := h.1.2.2.2.1
  have e06 : M 0 6 = nI n := h.1.2.2.2.2.2
  have hl := pre_le (f := FS S od) c
  unfold erO ezO
  rw [← q_len h]
  by_cases h1 : i < 0
  · rw [if_pos h1, if_pos h1]; exact ⟨rfl, h.i⟩
  · rw [if_neg h1, if_neg h1]
    by_cases h2 : j ≤ i
    · rw [if_pos h2, if_pos h2]; exact ⟨rfl, h.i⟩
    · rw [if_neg h2, if_neg h2]
      by_cases h3 : j ≤ tlF S
      · rw [if_pos h3, if_pos h3, e06, e010]
        by_cases h4 : nI n = 32
        · rw [if_pos h4, if_pos h4]; exact ⟨rfl, h.i⟩
        · rw [if_neg h4, if_neg h4]
          have hn1 : n < 32 := by
            rcases Nat.lt_or_ge n 32 with q | q
            · exact q
            · have : n = 32 := by omega
              rw [this] at h4
              exact absurd rfl h4
          have hj : ix j ≤ pre (FS S od) c := by
            rw [h.tl] at h3
            have := ix_le_of (x := j) (y := nI (pre (FS S od) c)) (by simpa using h3)
            rw [ix_nI (by omega)] at this
            exact this
          have hij : ix i ≤ ix j := ix_le_of (fun q => h2 (by
            have := Int32.lt_iff_toInt_lt.mp q
            exact Int32.le_iff_toInt_le.mpr (by omega)))
          have hp := er_sets h (ix j - ix i) (ix i) 0 0 (by omega) (PR_0 h)
          have hI := h.er hn1 hp
          rw [ix_nI (by omega)]
          refine ⟨?_, hI.i⟩
          show cbS (erS S) _ 1 0 10 - 1 = nI n + 1 - 1
          rw [hI.1.2.2.2.1, nI_1]
      · rw [if_neg h3, if_neg h3]; exact ⟨rfl, h.i⟩
end
section
/-! typing -/
theorem shL_ok {bh : Int32} : ∀ (t : Nat) (M : SS) (z : Nat), t ≤ 32 → z ≤ t → (z = 0 ∨ M 1 (z - 1) = bh) → (∀ j, z ≤ j → j < t → ¬ M 1 j = bh) →
    (shL t M bh).2 = z ∧ (∀ j, (shL t M bh).1 1 j = if z < j ∧ j ≤ t then M 1 (j - 1) else M 1 j) ∧ (∀ k, k ≠ 1 → (shL t M bh).1 k = M k) := by
  intro t
  induction t with
  | zero =>
    intro M z h1 h2 h3 h4
    refine ⟨?_, fun j => ?_, fun k hk => rfl⟩
    · show 0 = z
      omega
    · rw [if_neg (by omega)]
      rfl
  | succ t ih =>
    intro M z h1 h2 h3 h4
    rw [shL, ix_nI (show t < 2 ^ 31 by omega), ix_nI (show t + 1 < 2 ^ 31 by omega)]
    by_cases e : z = t + 1
    · have e2 : M 1 t = bh := by
        rcases h3 with q | q
        · omega
        · rw [e] at q; exact q
      rw [if_pos e2]
      refine ⟨e.symm, fun j => ?_, fun k hk => rfl⟩
      rw [if_neg (by omega)]
    · rw [if_neg (h4 t (by omega) (by omega))]
      have e1 : ∀ j, up2 M 1 (t + 1) (M 1 t) 1 j = if j = t + 1 then M 1 t else M 1 j := fun _ => rfl
      obtain ⟨a1, a2, a3⟩ := ih (up2 M 1 (t + 1) (M 1 t)) z (by omega) (by omega) (by
        rcases h3 with q | q
        · exact Or.inl q
        · right
          rw [e1, if_neg (by omega)]; exact q) (fun j j1 j2 => by
          rw [e1, if_neg (by omega)]; exact h4 j j1 (by omega))
      refine ⟨a1, fun j => ?_, fun k hk => ?_⟩
      · rw [a2 j]
        by_cases q : z < j ∧ j ≤ t
        · rw [if_pos q, if_pos ⟨q.1, by omega⟩, e1, if_neg (by omega)]
        · rw [if_neg q, e1]
          by_cases q2 : j = t + 1
          · rw [if_pos q2, if_pos (by omega), q2]
            rfl
          · rw [if_neg q2, if_neg (by omega)]
      · rw [a3 k hk]
        simp [up2, hk]
theorem tyS_r {S : SS} {c n : Nat} {ch : Int32} (h0 : S 0 0 = nI c) (h10 : S 0 10 = nI n) (hc : c < 2 ^ 30) (hn : n < 2 ^ 30) :
    tyS S ch 0 0 = nI (c + 1) ∧ tyS S ch 0 10 = nI (n + 1) ∧ tyS S ch 0 1 = S 0 1 ∧ (∀ j, tyS S ch 7 j = if j = c + 1 then ch else S 7 j) ∧ (∀ j, tyS S ch 8 j = if j = c + 1 then nI n else S 8 j) ∧ (∀ j, tyS S ch 11 j = if j = n then 1 else S 11 j) ∧ (∀ j, tyS S ch 12 j = if j = n then nI (c + 1) else S 12 j) ∧ tyS S ch 2 = S 2 ∧ tyS S ch 3 = S 3 ∧ tyS S ch 4 = S 4 ∧ tyS S ch 6 = S 6 ∧ tyS S ch 9 = S 9 := by
  unfold tyS
  rw [h0, h10, nI_1, nI_1, ix_nI (show c + 1 < 2 ^ 31 by omega), ix_nI (show n < 2 ^ 31 by omega)]
  exact ⟨rfl, rfl, rfl, fun _ => rfl, fun _ => rfl, fun _ => rfl, fun _ => rfl, rfl, rfl, rfl, rfl, rfl⟩
theorem tzS_r {M : SS} {z c n : Nat} {ch : Int32} (h1 : M 0 1 = nI c) (h6 : M 0 6 = nI n) (hz : z < 2 ^ 31) (hn : n < 2 ^ 30) :
    tzS M z ch 0 1 = nI (c + 1) ∧ tzS M z ch 0 6 = nI (n + 1) ∧ (∀ j, tzS M z ch 1 j = if j = z then nI n else M 1 j) ∧ (∀ j, tzS M z ch 2 j = if j = n then 1 else M 2 j) ∧ (∀ j, tzS M z ch 3 j = if j = n then ch else M 3 j) ∧ (∀ j, tzS M z ch 4 j = if j = n then 0 else M 4 j) ∧ (∀ j, tzS M z ch 5 j = if j = n then 1 else M 5 j) := by
  unfold tzS
  rw [h1, h6, nI_1, nI_1, ix_nI hz, ix_nI (show n < 2 ^ 31 by omega)]
  exact ⟨rfl, rfl, fun _ => rfl, fun _ => rfl, fun _ => rfl, fun _ => rfl, fun _ => rfl⟩
set_option maxHeartbeats 2000000 in
theorem IV.ty {S : SS} {V : LL} {M : SS} {c n : Nat} {ps od lo hi : Nat → Nat} (h : IV S V M c n ps od lo hi) (hn1 : n < 32) {x : Nat} (hx : x = 0 ∨ (1 ≤ x ∧ x ≤ c)) {bh ch : Int32} (hbh : bh = if x = 0 then -4 else S 8 x) :
    (hgS (tyS S ch) (nI (c + 1)) (nI x)) 0 10 = nI (n + 1) ∧ (shL c M bh).1 0 6 = nI n ∧ Inv (hgS (tyS S ch) (nI (c + 1)) (nI x)) (vp_updL V n 0) (tzS (shL c M bh).1 (shL c M bh).2 ch) := by
  obtain ⟨⟨hcn, hn, e00, e010, m01, m06⟩, ⟨rg, rz⟩, ct, hz, hX, hO, hTy, hL, hB, hE, hC, hN, hP⟩ := id h
  obtain ⟨t00, t010, t01, t7, t8, t11, t12, t2, t3, t4, t6, t9⟩ := tyS_r (S := S) (ch := ch) e00 e010 (by omega) (by omega)
  have rgT : RG (tyS S ch) := by
    have v1 : vp_in (S 0 0 + 1) 49 := by rw [e00, nI_1]; exact vin_n (by omega) (by decide)
    have v2 : vp_in (S 0 10) 32 := by rw [e010]; exact vin_n (by omega) (by decide)
    have v3 : vp_in (S 0 10 + 1) 33 := by rw [e010, nI_1]; exact vin_n (by omega) (by decide)
    unfold tyS
    exact RG_changes (RG_12 (RG_11 (RG_5 (RG_seed (RG_8 (RG_7 (RG_count rg v1)) v2)))) v1) v3
  have hsh : ∀ y, 1 ≤ y → y ≤ c → shB (tyS S ch) y = shB S y := by
    intro y y1 y2
    refine shB_of ?_ (by rw [t9])
    rw [t8, if_neg (by omega), t11, if_neg]
    have := (hX y y1 y2).1
    omega
  have ct1 : CT c (tyS S ch) ps od lo hi := by
    refine ⟨?_, ?_, fun y y1 y2 => ?_⟩
    · unfold TS
      rw [t01, t2, t3, t4]
      exact ct.1
    · rw [t6]; exact ct.2.1
    · have hby := ct.1.b y y1 y2
      have hg := ct.2.2 y y1 y2
      unfold sgood at hg ⊢
      have q1 := pre_congr (f := FS (tyS S ch) od) (g := FS S od) (n := hi y) (fun i hi' => hsh _ (ct.1.o i (by omega)).1 (ct.1.o i (by omega)).2.1)
      have q2 := pre_congr (f := FS (tyS S ch) od) (g := FS S od) (n := lo y) (fun i hi' => hsh _ (ct.1.o i (by omega)).1 (ct.1.o i (by omega)).2.1)
      rw [q1, q2, t6]
      exact hg
  have hzc := hz (c + 1) (by omega) (by omega)
  obtain ⟨kp, ps', lo', hi', ct'⟩ := hang_ok (c := c) (S := tyS S ch) (by omega) rgT ct1 (by rw [t2]; exact hzc.1) (by rw [t3]; exact hzc.2.1) (by rw [t4]; exact hzc.2.2.1) hx
  have rg' : RG (hgS (tyS S ch) (nI (c + 1)) (nI x)) := by
    unfold hgS
    exact RG_ln (RG_pu (RG_h1 rgT (vin_n (by omega) (by decide)) (vin_n (by omega) (by decide)))) (vin_n (by omega) (by decide))
  obtain ⟨q, hq⟩ : ∃ q, q = if x = 0 then 0 else ps x + 1 := ⟨_, rfl⟩
  rw [← hq] at ct'
  have hqc : q ≤ c := by
    rcases hx with e | ⟨e1, e2⟩
    · rw [if_pos e] at hq; omega
    · rw [if_neg (by omega)] at hq
      have := (ct.1.b x e1 e2).1
      omega
  obtain ⟨T, eT⟩ : ∃ T, T = hgS (tyS S ch) (nI (c + 1)) (nI x) := ⟨_, rfl⟩
  rw [← eT] at kp ct' rg' ⊢
  have k7 : ∀ j, T 7 j = if j = c + 1 then ch else S 7 j := fun j => by rw [kp.1 7 (by decide) (by decide) (by decide) (by decide) (by decide)]; exact t7 j
  have k8 : ∀ j, T 8 j = if j = c + 1 then nI n else S 8 j := fun j => by rw [kp.1 8 (by decide) (by decide) (by decide) (by decide) (by decide)]; exact t8 j
  have k9 : T 9 = S 9 := by rw [kp.1 9 (by decide) (by decide) (by decide) (by decide) (by decide)]; exact t9
  have k11 : ∀ j, T 11 j = if j = n then 1 else S 11 j := fun j => by rw [kp.1 11 (by decide) (by decide) (by decide) (by decide) (by decide)]; exact t11 j
  have k12 : ∀ j, T 12 j = if j = n then nI (c + 1) else S 12 j := fun j => by rw [kp.1 12 (by decide) (by decide) (by decide) (by decide) (by decide)]; exact t12 j
  have k00 : T 0 0 = nI (c + 1) := by rw [kp.2.1 0 (by decide)]; exact t00
  have k010 : T 0 10 = nI (n + 1) := by rw [kp.2.1 10 (by decide)]; exact t010
  -- the reference's list
  obtain ⟨a1, a2, a3⟩ := shL_ok (bh := bh) c M q (by omega) hqc (by
    rcases hx with e | ⟨e1, e2⟩
    · left; rw [hq, if_pos e]
    · right
      have hb := ct.1.b x e1 e2
      rw [hq, if_neg (by omega), hbh, if_neg (by omega), show ps x + 1 - 1 = ps x by omega, hL _ hb.1, hb.2.1]) (by
    intro j j1 j2 e
    have ho := ct.1.o j j2
    rw [hL j j2] at e
    rcases hx with e0 | ⟨e1, e2⟩
    · rw [hbh, if_pos e0] at e
      have := typ_nn h ho.1 ho.2.1
      rw [e] at this
      exact absurd this (by decide)
    · rw [hbh, if_neg (by omega)] at e
      have : od j = x := typ_inj h ho.1 ho.2.1 e1 e2 (by rw [e])
      have h2 := ho.2.2
      rw [this] at h2
      rw [if_neg (by omega)] at hq
      omega)
  rw [a1]
  obtain ⟨z01, z06, z1, z2, z3, z4, z5⟩ := tzS_r (M := (shL c M bh).1) (z := q) (c := c) (n := n) (ch := ch) (by rw [a3 0 (by decide)]; exact m01) (by rw [a3 0 (by decide)]; exact m06) (by omega) (by omega)
  rw [a3 2 (by decide)] at z2
  rw [a3 3 (by decide)] at z3
  rw [a3 4 (by decide)] at z4
  rw [a3 5 (by decide)] at z5
  refine ⟨k010, by rw [a3 0 (by decide)]; exact m06, c + 1, n + 1, ps', insO c q od, lo', hi', ⟨by omega, by omega, k00, k010, z01, z06⟩, ⟨rg', ?_, ?_, ?_⟩, ct', ?_, ?_, ?_, ?_, ?_, ?_, ?_, ?_, ?_, ?_⟩
  · intro j hj
    rw [z1]
    split
    · exact vin_n (by omega) (by decide)
    · rw [a2 j]
      split
      · exact rz.1 _ (by omega)
      · exact rz.1 j hj
  · rw [z01]; exact vin_n (by omega) (by decide)
  · rw [z06]; exact vin_n (by omega) (by decide)
  · intro j j1 j2
    obtain ⟨b2, b3, b4⟩ := kp.2.2 j (Or.inr (by omega))
    rw [b2, b3, b4, k9, t2, t3, t4]
    exact hz j (by omega) j2
  · intro y y1 y2
    by_cases e : y = c + 1
    · rw [k8, if_pos e, ix_nI (by omega), k12, if_pos rfl, z3, if_pos rfl, k7, if_pos e, e]
      exact ⟨by omega, rfl, rfl⟩
    · have := hX y y1 (by omega)
      rw [k8, if_neg e, k12, if_neg (by omega), z3, if_neg (by omega), k7, if_neg e]
      exact ⟨by omega, this.2⟩
  · intro k hk
    rw [z5, k11]
    by_cases e : k = n
    · rw [if_pos e, if_pos e]; exact ⟨rfl, Or.inr rfl⟩
    · rw [if_neg e, if_neg e]; exact hO k (by omega)
  · intro k hk
    rw [k12, z2, z4, updL_r]
    by_cases e : k = n
    · rw [if_pos e, if_pos e, if_pos e, if_pos e, ix_nI (by omega), k8, if_pos rfl, e]
      exact Or.inr ⟨rfl, by omega, Nat.le_refl _, rfl, rfl, rfl⟩
    · rw [if_neg e, if_neg e, if_neg e, if_neg e]
      rcases hTy k (by omega) with g | ⟨g1, g2, g3, g4, g5⟩
      · exact Or.inl g
      · right
        rw [k8, if_neg (by omega)]
        exact ⟨g1, g2, by omega, g4, g5⟩
  · intro i hi'
    rw [z1, insO]
    by_cases e : i = q
    · rw [if_pos e, if_neg (by omega), if_pos e, k8, if_pos rfl]
    · rw [if_neg e, a2]
      by_cases e2 : i < q
      · rw [if_neg (by omega), if_pos e2, k8, if_neg (by have := ct.1.o i (by omega); omega)]
        exact hL i (by omega)
      · rw [if_pos (by omega), if_neg e2, if_neg e, k8, if_neg (by have := ct.1.o (i - 1) (by omega); omega)]
        exact hL (i - 1) (by omega)
  · intro k y hk y1 y2
    rw [z4, updL_r]
    by_cases e : k = n
    · rw [if_pos e, if_pos e, bV_0 (by omega), bM_0]
      rw [k8]
      split
      · rw [ix_nI (by omega)]; omega
      · exact (typ_lt h y1 (by omega)).2
    · rw [if_neg e, if_neg e, k8]
      by_cases e2 : y = c + 1
      · rw [if_pos e2, ix_nI (by omega), (hE k (by omega)).2 n (Nat.le_refl _) hn1, (hE k (by omega)).1 y (by omega) (by omega)]
      · rw [if_neg e2]
        exact hB k y (by omega) y1 (by omega)
  · intro k hk
    rw [z4, updL_r]
    by_cases e : k = n
    · rw [if_pos e, if_pos e]
      exact ⟨fun y y1 y2 => bV_0 (by omega), fun t t1 t2 => bM_0 t2⟩
    · rw [if_neg e, if_neg e]
      exact ⟨fun y y1 y2 => (hE k (by omega)).1 y (by omega) y2, fun t t1 t2 => (hE k (by omega)).2 t (by omega) t2⟩
  · intro y y1 y2
    rw [k9, pre_s, updL_r, if_pos rfl, bV_0 (by omega), Bool.and_false, if_neg (by decide), Nat.add_zero]
    have e1 : pre (fun k => onB T k && bV (vp_updL V n 0 k) (y - 1)) n = pre (fun k => onB S k && bV (V k) (y - 1)) n := by
      refine pre_congr (fun i hi' => ?_)
      show (onB T i && bV (vp_updL V n 0 i) (y - 1)) = (onB S i && bV (V i) (y - 1))
      unfold onB
      rw [k11, updL_r, if_neg (by omega), if_neg (by omega)]
    rw [e1]
    by_cases e2 : y = c + 1
    · rw [pre_zero, e2]
      · exact hzc.2.2.2
      · intro i hi'
        rw [(hE i hi').1 y (by omega) (by omega), Bool.and_false]
    · exact hC y y1 (by omega)
  · intro k hk
    rw [z4, updL_r]
    by_cases e : k = n
    · rw [if_pos e, if_pos e, pre_zero (fun i hi' => bV_0 (by omega)), pre_zero (fun i hi' => bM_0 hi')]
    · rw [if_neg e, if_neg e]; exact hN k (by omega)
  · intro f
    have pi := (pre_ins (f := fun i => f (od i)) (g := fun i => f (insO c q od i)) (q := q) (fun i hi' => by
      show f (insO c q od i) = f (od i)
      rw [insO, if_pos hi']) (fun i hi' => by
      show f (insO c q od (i + 1)) = f (od i)
      rw [insO, if_neg (by omega), if_neg (by omega), show i + 1 - 1 = i by omega]) c).2 hqc
    have eq : insO c q od q = c + 1 := by rw [insO, if_neg (Nat.lt_irrefl q), if_pos rfl]
    rw [eq] at pi
    rw [pi, pre_s, hP f]
theorem o_type {S : SS} {V : LL} {M : SS} {c n : Nat} {ps od lo hi : Nat → Nat} (h : IV S V M c n ps od lo hi) (q ch : Int32) : Agree Inv (tyO S V q ch) (tzO M Z0 q ch) := by
  have hn := h.1.2.1
  have hcn := h.1.1
  have e00 : S 0 0 = nI c := h.1.2.2.1
  have e010 : S 0 10 = nI n := h.1.2.2.2.1
  have e01 : M 0 1 = nI c := h.1.2.2.2.2.1
  have e06 : M 0 6 = nI n := h.1.2.2.2.2.2
  have hl := pre_le (f := FS S od) c
  unfold tyO tzO
  rw [← q_len h]
  by_cases h1 : ch < 0
  · rw [if_pos h1, if_pos h1]; exact ⟨rfl, h.i⟩
  · rw [if_neg h1, if_neg h1]
    by_cases h2 : 25 < ch
    · rw [if_pos h2, if_pos h2]; exact ⟨rfl, h.i⟩
    · rw [if_neg h2, if_neg h2]
      by_cases h5 : q < 0
      · rw [if_pos h5, if_pos h5]; exact ⟨rfl, h.i⟩
      · rw [if_neg h5, if_neg h5]
        by_cases h3 : q ≤ tlF S
        · rw [if_pos h3, if_pos h3, e06, e010]
          by_cases h4 : nI n = 32
          · rw [if_pos h4, if_pos h4]; exact ⟨rfl, h.i⟩
          · rw [if_neg h4, if_neg h4]
            have hn1 : n < 32 := by
              rcases Nat.lt_or_ge n 32 with q | q
              · exact q
              · have : n = 32 := by omega
                rw [this] at h4
                exact absurd rfl h4
            have h48 : ¬ S 0 0 = 48 := by
              rw [e00]
              intro z
              have := (nI_eq (b := 48) (by omega) (by omega)).mp z
              omega
            rw [if_neg h48]
            have hxb : ∃ x, (x = 0 ∨ (1 ≤ x ∧ x ≤ c)) ∧ tyB S q = nI x ∧ tzB M q = if x = 0 then -4 else S 8 x := by
              unfold tyB tzB
              by_cases hq : q = 0
              · exact ⟨0, Or.inl rfl, by rw [if_pos hq]; rfl, by rw [if_pos hq, if_pos rfl]⟩
              · rw [if_neg hq, if_neg hq]
                obtain ⟨j, hj, rfl⟩ := nI_of h5
                have hj0 : j ≠ 0 := fun z => hq (by rw [z]; rfl)
                have hjl : j ≤ pre (FS S od) c := by
                  rw [h.tl] at h3
                  exact (nI_leI hj (by omega)).mp h3
                obtain ⟨P, p1, p2, p3⟩ := pre_find (f := FS S od) (n := c) (q := j - 1) (by omega)
                have ho := h.2.2.1.1.o P p1
                rw [nI_p1 (by omega), ← p3]
                refine ⟨od P, Or.inr ⟨ho.1, ho.2.1⟩, h.nd p1 p2, ?_⟩
                rw [if_neg (by omega)]
                exact h.ca p1 p2
            obtain ⟨x, hx, hx1, hx2⟩ := hxb
            obtain ⟨g1, g2, g3⟩ := h.ty hn1 hx (ch := ch) hx2
            have eT : tyT S q ch = hgS (tyS S ch) (nI (c + 1)) (nI x) := by
              unfold tyT
              rw [e00, nI_1, hx1]
            rw [eT, e01, ix_nI (show c < 2 ^ 31 by omega), ix_nI (show n < 2 ^ 31 by omega)]
            refine ⟨?_, g3⟩
            show hgS (tyS S ch) (nI (c + 1)) (nI x) 0 10 - 1 = (shL c M (tzB M q)).1 0 6 + 1 - 1
            rw [g1, g2, nI_1]
        · rw [if_neg h3, if_neg h3]; exact ⟨rfl, h.i⟩
end
section
/-! the effect of a change -/
theorem efL_ok {S : SS} {w : Int64} {le : Int32} {N : Nat} {G : Nat → Bool} (hG : ∀ j, j < N → G j = decide (bV w j = true ∧ ¬ S 11 (ix (S 8 (j + 1))) = 0 ∧ S 9 (j + 1) = le)) (hN : N < 2 ^ 30) : ∀ (d x s : Nat), x + d = N → efL d S w le (x + 1) (nI s) = nI (s + (pre G N - pre G x)) := by
  intro d
  induction d with
  | zero =>
    intro x s h
    have : x = N := by omega
    subst this
    rw [efL, Nat.sub_self, Nat.add_zero]
  | succ d ih =>
    intro x s h
    have m := pre_mono (f := G) (show x + 1 ≤ N by omega)
    have hx := hG x (by omega)
    rw [efL, ix_nI (show x + 1 < 2 ^ 31 by omega)]
    have hb := bL_iff1 (w := w) (x := x + 1) (by omega)
    rw [show x + 1 - 1 = x by omega] at hb
    by_cases g : bV w x = true ∧ ¬ S 11 (ix (S 8 (x + 1))) = 0 ∧ S 9 (x + 1) = le
    · rw [if_pos ⟨hb.mpr g.1, g.2⟩, nI_1, ih (x + 1) (s + 1) (by omega)]
      rw [decide_eq_true g] at hx
      rw [pre_s, if_pos hx] at m ⊢
      congr 1; omega
    · rw [if_neg (fun q => g ⟨hb.mp q.1, q.2⟩), ih (x + 1) s (by omega)]
      rw [decide_eq_false g] at hx
      rw [pre_s, hx] at m ⊢
      simp
theorem pre_split {f g k : Nat → Bool} {n : Nat} (h : ∀ i, i < n → (f i = true ↔ g i = true ∨ k i = true) ∧ ¬ (g i = true ∧ k i = true)) : pre f n = pre g n + pre k n := by
  induction n with
  | zero => rfl
  | succ n ih =>
    have := ih (fun i hi => h i (by omega))
    obtain ⟨h1, h2⟩ := h n (by omega)
    rw [pre_s, pre_s, pre_s, this]
    by_cases a : g n = true
    · by_cases b : k n = true
      · exact absurd ⟨a, b⟩ h2
      · rw [if_pos (h1.mpr (Or.inl a)), if_pos a, if_neg b]; omega
    · by_cases b : k n = true
      · rw [if_pos (h1.mpr (Or.inr b)), if_neg a, if_pos b]; omega
      · rw [if_neg (fun z => (h1.mp z).elim a b), if_neg a, if_neg b]; omega
theorem sub_pos {a b g : Nat} (h : a = b + g) : nI a - nI b = nI g := by
  rw [pk_sub (by omega)]
  congr 1
  omega
theorem sub_neg {a b g : Nat} (h : b = a + g) : nI a - nI b = -(nI g) := by
  have := sub_pos h
  rw [← this, Int32.neg_sub]
theorem tg_9 {S : SS} {V : LL} {M : SS} {c n : Nat} {ps od lo hi : Nat → Nat} (h : IV S V M c n ps od lo hi) {k : Nat} (hk : k < n) {x : Nat} (x1 : 1 ≤ x) (x2 : x ≤ c) : ∃ m m' : Nat, m ≤ 32 ∧ m' ≤ 32 ∧ S 9 x = nI m ∧ tgS S V (nI k) 9 x = nI m' ∧
    (bV (V k) (x - 1) = false → m' = m) ∧ (bV (V k) (x - 1) = true → if S 11 k = 0 then m' = m + 1 else m = m' + 1) := by
  have h' := h.tg hk
  have hn := h.1.2.1
  have e1 : S 9 x = _ := h.2.2.2.2.2.2.2.2.2.2.1 x x1 x2
  have e2 : tgS S V (nI k) 9 x = _ := h'.2.2.2.2.2.2.2.2.2.2.1 x x1 x2
  have t5 : ∀ j, tgZ M (nI k) 5 j = if j = k then (if M 5 k = 0 then 1 else 0) else M 5 j := by
    intro j
    rw [tgZ_e (by omega)]
    rfl
  have t11 : ∀ j, j < n → tgS S V (nI k) 11 j = if j = k then (if S 11 k = 0 then 1 else 0) else S 11 j := by
    intro j hj
    rw [← (h'.on hj).1, t5, (h.on hk).1, (h.on hj).1]
  have cnt := pre_one (f := fun k' => onB S k' && bV (V k') (x - 1)) (g := fun k' => onB (tgS S V (nI k)) k' && bV (V k') (x - 1)) hk (fun i hi' hne => by
      show (onB (tgS S V (nI k)) i && _) = (onB S i && _)
      unfold onB
      rw [t11 i hi', if_neg hne])
  have onk : onB (tgS S V (nI k)) k = ! onB S k := by
    unfold onB
    rw [t11 k hk, if_pos rfl]
    by_cases q : S 11 k = 0
    · simp [q]
    · simp [q]
  rw [onk] at cnt
  have l1 := pre_le (f := fun k' => onB S k' && bV (V k') (x - 1)) n
  have l2 := pre_le (f := fun k' => onB (tgS S V (nI k)) k' && bV (V k') (x - 1)) n
  refine ⟨_, _, by omega, by omega, e1, e2, fun q => ?_, fun q => ?_⟩
  · rw [q] at cnt
    simpa using cnt
  · rw [q] at cnt
    by_cases z : S 11 k = 0
    · rw [if_pos z]
      have o : onB S k = false := by simp [onB, z]
      rw [o] at cnt
      simpa using cnt
    · rw [if_neg z]
      have o : onB S k = true := by simp [onB, z]
      rw [o] at cnt
      simpa using cnt.symm
theorem shB_iff {S : SS} {x : Nat} : shB S x = true ↔ ¬ S 11 (ix (S 8 x)) = 0 ∧ S 9 x = 0 := by
  unfold shB
  exact decide_eq_true_iff
set_option maxHeartbeats 1000000 in
theorem q_effect {S : SS} {V : LL} {M : SS} {c n : Nat} {ps od lo hi : Nat → Nat} (h : IV S V M c n ps od lo hi) (k : Int32) : efF S V k = ezF M k ∧ ezT M k = M := by
  unfold efF ezF ezT
  rcases h.kn k with ⟨k0, h1, h2, h3, h4, h5⟩ | ⟨h4, h5, h6⟩
  · have hn := h.1.2.1
    have hcn := h.1.1
    have ho := h.on h1
    have h' := h.tg h1
    have e00 : S 0 0 = nI c := h.1.2.2.1
    have hX := h.2.2.2.2.1
    have hP : ∀ f : Nat → Bool, pre (fun i => f (od i)) c = pre (fun j => f (j + 1)) c := h.2.2.2.2.2.2.2.2.2.2.2.2
    rw [h4, h5, h3, if_pos rfl, if_neg n10, if_neg n10]
    refine ⟨?_, ?_⟩
    · rw [h2, h'.le, h.le]
      have f1 : pre (FS S od) c = pre (fun j => shB S (j + 1)) c := hP (shB S)
      have f2 : pre (FS (tgS S V (nI k0)) od) c = pre (fun j => shB (tgS S V (nI k0)) (j + 1)) c := hP (shB (tgS S V (nI k0)))
      rw [f1, f2]
      have k8 : tgS S V (nI k0) 8 = S 8 := tgS_k (by decide) (by decide) (by decide)
      have t11 : ∀ j, j < n → tgS S V (nI k0) 11 j = if j = k0 then (if S 11 k0 = 0 then 1 else 0) else S 11 j := by
        intro j hj
        rw [← (h'.on hj).1, tgZ_e (by omega)]
        show (if j = k0 then (if M 5 k0 = 0 then 1 else 0) else M 5 j) = _
        rw [ho.1, (h.on hj).1]
      rcases h.2.2.2.2.2.2.1 k0 h1 with ⟨t1, t2⟩ | ⟨t1, t2, t3, t4, t5, t6⟩
      · -- an erasing change
        rw [if_pos t1, e00, ix_nI (show c < 2 ^ 31 by omega)]
        obtain ⟨G, hG⟩ : ∃ G : Nat → Bool, G = fun j => decide (bV (V k0) j = true ∧ ¬ S 11 (ix (S 8 (j + 1))) = 0 ∧ S 9 (j + 1) = b01 (S 11 k0)) := ⟨_, rfl⟩
        have eL := efL_ok (S := S) (w := V k0) (le := b01 (S 11 k0)) (N := c) (G := G) (fun j _ => by rw [hG]) (by omega) c 0 0 (by omega)
        rw [pre_0, Nat.sub_zero, Nat.zero_add (pre G c)] at eL
        rw [show efL c S (V k0) (b01 (S 11 k0)) 1 0 = nI (pre G c) from eL]
        have Gi : ∀ j, G j = true ↔ bV (V k0) j = true ∧ ¬ S 11 (ix (S 8 (j + 1))) = 0 ∧ S 9 (j + 1) = b01 (S 11 k0) := by
          intro j; rw [hG]; exact decide_eq_true_iff
        have on' : ∀ y, 1 ≤ y → y ≤ c → tgS S V (nI k0) 11 (ix (S 8 y)) = S 11 (ix (S 8 y)) := by
          intro y y1 y2
          have := hX y y1 y2
          rw [t11 _ this.1, if_neg]
          intro e
          have w := this.2.1
          rw [e, t1] at w
          exact nI_ne0 y1 (by omega) w.symm
        by_cases q : S 11 k0 = 0
        · rw [if_pos q]
          refine (sub_neg (pre_split (fun j hj => ?_))).symm
          obtain ⟨m, m', l1, l2, s1, s2, s3, s4⟩ := tg_9 h h1 (x := j + 1) (by omega) (by omega)
          rw [Nat.add_sub_cancel] at s3 s4
          have z1 : S 9 (j + 1) = 0 ↔ m = 0 := by rw [s1]; exact nI_eq (b := 0) (by omega) (by omega)
          have z2 : tgS S V (nI k0) 9 (j + 1) = 0 ↔ m' = 0 := by rw [s2]; exact nI_eq (b := 0) (by omega) (by omega)
          rw [shB_iff, shB_iff, Gi, k8, on' (j + 1) (by omega) (by omega), z1, z2, show b01 (S 11 k0) = 0 by rw [q]; rfl, z1]
          rw [if_pos q] at s4
          by_cases hb : bV (V k0) j = true
          · have := s4 hb
            constructor
            · constructor
              · rintro ⟨a, b⟩; exact Or.inr ⟨hb, a, b⟩
              · rintro (⟨a, b⟩ | ⟨_, a, b⟩)
                · omega
                · exact ⟨a, b⟩
            · rintro ⟨⟨a, b⟩, _⟩
              omega
          · have := s3 (by simpa using hb)
            constructor
            · constructor
              · rintro ⟨a, b⟩; exact Or.inl ⟨a, by omega⟩
              · rintro (⟨a, b⟩ | ⟨z, a, b⟩)
                · exact ⟨a, by omega⟩
                · exact absurd z hb
            · rintro ⟨_, z, _⟩
              exact hb z
        · rw [if_neg q]
          refine (sub_pos (pre_split (fun j hj => ?_))).symm
          obtain ⟨m, m', l1, l2, s1, s2, s3, s4⟩ := tg_9 h h1 (x := j + 1) (by omega) (by omega)
          rw [Nat.add_sub_cancel] at s3 s4
          have z1 : S 9 (j + 1) = 0 ↔ m = 0 := by rw [s1]; exact nI_eq (b := 0) (by omega) (by omega)
          have z3 : S 9 (j + 1) = 1 ↔ m = 1 := by rw [s1]; exact nI_eq (b := 1) (by omega) (by omega)
          have z2 : tgS S V (nI k0) 9 (j + 1) = 0 ↔ m' = 0 := by rw [s2]; exact nI_eq (b := 0) (by omega) (by omega)
          rw [shB_iff, shB_iff, Gi, k8, on' (j + 1) (by omega) (by omega), z1, z2, show b01 (S 11 k0) = 1 by rw [b01, if_neg q], z3]
          rw [if_neg q] at s4
          by_cases hb : bV (V k0) j = true
          · have := s4 hb
            constructor
            · constructor
              · rintro ⟨a, b⟩; exact Or.inr ⟨hb, a, by omega⟩
              · rintro (⟨a, b⟩ | ⟨_, a, b⟩)
                · omega
                · exact ⟨a, by omega⟩
            · rintro ⟨⟨a, b⟩, _⟩
              omega
          · have := s3 (by simpa using hb)
            constructor
            · constructor
              · rintro ⟨a, b⟩; exact Or.inl ⟨a, by omega⟩
              · rintro (⟨a, b⟩ | ⟨z, a, b⟩)
                · exact ⟨a, by omega⟩
                · exact absurd z hb
            · rintro ⟨_, z, _⟩
              exact hb z
      · -- a typing change
        have e12 : S 12 k0 = nI (ix (S 12 k0)) := rd12 h.2.1.1 (by omega)
        obtain ⟨x, ex⟩ : ∃ x, x = ix (S 12 k0) := ⟨_, rfl⟩
        rw [← ex] at e12 t2 t3 t4
        rw [e12, if_neg (nI_ne0 t2 (by omega)), ix_nI (show x < 2 ^ 31 by omega)]
        have n9 : ∀ y, 1 ≤ y → y ≤ c → tgS S V (nI k0) 9 y = S 9 y := by
          intro y y1 y2
          obtain ⟨m, m', l1, l2, s1, s2, s3, s4⟩ := tg_9 h h1 y1 y2
          rw [s1, s2, s3 (by rw [t5]; exact bV_0 (by omega))]
        have one := pre_one (f := fun j => shB S (j + 1)) (g := fun j => shB (tgS S V (nI k0)) (j + 1)) (e := x - 1) (n := c) (by omega) (fun i i1 i2 => by
          show shB (tgS S V (nI k0)) (i + 1) = shB S (i + 1)
          refine shB_of ?_ (n9 _ (by omega) (by omega))
          have w := hX (i + 1) (by omega) (by omega)
          rw [k8, t11 _ w.1, if_neg]
          intro e
          have w2 := w.2.1
          rw [e, e12] at w2
          have := (nI_eq (by omega) (by omega)).mp w2
          omega)
        rw [show x - 1 + 1 = x by omega] at one
        have i1 := shB_iff (S := S) (x := x)
        have i2 := shB_iff (S := tgS S V (nI k0)) (x := x)
        rw [t4, ix_nI (by omega)] at i1
        rw [k8, t4, ix_nI (by omega), t11 k0 h1, if_pos rfl, n9 x t2 t3] at i2
        by_cases q : S 11 k0 = 0
        · rw [if_pos q]
          rw [if_pos q] at i2
          have b1 : ¬ shB S x = true := fun z => (i1.mp z).1 q
          rw [if_neg b1] at one
          by_cases z : S 9 x = 0
          · rw [if_pos z]
            rw [if_pos (i2.mpr ⟨n10, z⟩)] at one
            exact (sub_pos (g := 1) (by omega)).symm
          · rw [if_neg z]
            rw [if_neg (fun w => z (i2.mp w).2)] at one
            exact (sub_pos (g := 0) (by omega)).symm
        · rw [if_neg q]
          rw [if_neg q] at i2
          have b1 : ¬ shB (tgS S V (nI k0)) x = true := fun z => (i2.mp z).1 rfl
          rw [if_neg b1] at one
          by_cases z : S 9 x = 0
          · rw [if_pos z]
            rw [if_pos (i1.mpr ⟨q, z⟩)] at one
            exact (sub_neg (g := 1) (by omega)).symm
          · rw [if_neg z]
            rw [if_neg (fun w => z (i1.mp w).2)] at one
            exact (sub_neg (g := 0) (by omega)).symm
    · rw [h2, tgZ_e (by omega), tgZ_e (by omega)]
      have e5 : up2 M 5 k0 (if M 5 k0 = 0 then 1 else 0) 5 k0 = if M 5 k0 = 0 then 1 else 0 := by simp [up2, upd]
      rw [e5]
      have e6 : (if (if M 5 k0 = 0 then (1 : Int32) else 0) = 0 then (1 : Int32) else 0) = M 5 k0 := by
        rw [ho.1]
        rcases ho.2 with q | q
        · rw [q]; decide
        · rw [q]; decide
      rw [e6]
      funext a i
      unfold up2
      by_cases ha : a = 5
      · rw [if_pos ha]
        unfold upd
        by_cases hi' : i = k0
        · rw [if_pos hi', ha, hi']
        · rw [if_neg hi', if_pos ha, if_neg hi']
      · rw [if_neg ha, if_neg ha]
  · rw [h4, h5, if_neg (by decide), if_pos rfl, if_pos rfl]
    exact ⟨rfl, rfl⟩
/-! the invariant holds at the start, and gives the law -/
theorem Inv_ok : LawOK Inv := by
  intro S V M hI
  obtain ⟨c, n, ps, od, lo, hi, h⟩ := hI
  have hn := h.1.2.1
  have hcn := h.1.1
  have e010 : S 0 10 = nI n := h.1.2.2.2.1
  have e01 : M 0 1 = nI c := h.1.2.2.2.2.1
  have e06 : M 0 6 = nI n := h.1.2.2.2.2.2
  have hl := pre_le (f := FS S od) c
  refine ⟨h.2.1.1, h.2.1.2, ?_, ?_, fun a b => o_type h a b, fun a b => o_erase h a b, fun a b => o_put h a b, ?_, ?_, fun a b => o_flip h a b, ⟨?_, h.i⟩, fun a => ⟨q_isOn h a, h.i⟩, ⟨q_len h, h.i⟩, fun a => ⟨q_letter h a, h.i⟩, fun a => ⟨q_origin h a, h.i⟩, fun a => ⟨q_where h a, h.i⟩, fun a => ⟨q_covers h a, h.i⟩, fun a => ⟨q_coveredBy h a, h.i⟩, fun a => ⟨(q_effect h a).1, ?_⟩, ⟨q_digest h, h.i⟩⟩
  · rw [e01, e06, ix_nI (by omega), ix_nI (by omega)]; exact hcn
  · rw [h.tl]; exact nI_pos (by omega)
  · rw [e010, e06, ix_nI (by omega)]; exact o_undo h n (Nat.le_refl _)
  · rw [e010, e06, ix_nI (by omega)]; exact o_redo h n 0 (by omega)
  · show S 0 10 = M 0 6
    rw [e010, e06]
  · show Inv S V (ezT M a)
    rw [(q_effect h a).2]; exact h.i
theorem Inv_0 : Inv S0 Z0 M0 := by
  have z : ∀ N : Nat, 0 < N → N < 2 ^ 31 → vp_in 0 N := fun N h1 h2 => vin_n (j := 0) h1 h2
  refine ⟨0, 0, fun _ => 0, fun _ => 0, fun _ => 0, fun _ => 0, ⟨by omega, by omega, rfl, rfl, rfl, rfl⟩, ⟨?_, ?_⟩, ⟨?_, rfl, ?_⟩, ?_, ?_, ?_, ?_, ?_, ?_, ?_, ?_, ?_, ?_⟩
  · exact ⟨fun _ _ => z 49 (by decide) (by decide), fun _ _ => z 49 (by decide) (by decide), fun _ _ => z 49 (by decide) (by decide), fun _ _ => z 32 (by decide) (by decide), fun _ _ => z 49 (by decide) (by decide), z 49 (by decide) (by decide), z 49 (by decide) (by decide), z 33 (by decide) (by decide)⟩
  · exact ⟨fun _ _ => z 32 (by decide) (by decide), z 33 (by decide) (by decide), z 33 (by decide) (by decide)⟩
  · refine ⟨fun i hi => by omega, fun x h1 h2 => by omega, fun x h1 h2 => by omega, fun x h1 h2 => by omega, Or.inl ⟨rfl, rfl⟩, fun x h1 h2 => by omega⟩
  · intro y h1 h2; omega
  · intro j h1 h2; exact ⟨rfl, rfl, rfl, rfl⟩
  · intro x h1 h2; omega
  · intro k hk; omega
  · intro k hk; omega
  · intro i hi; omega
  · intro k x hk; omega
  · intro k hk; omega
  · intro x h1 h2; omega
  · intro k hk; omega
  · intro f; rfl
end
section
theorem whole_start {p : Program} {e : Env} {s : State} {m : MethodId} {below : List Frame} {meth : Method} {c : Code} (l : Launch) {b L : Nat} {xs : Nat → Int32} (hL : L ≤ 192) (C0 : lw_At p s m meth c b L xs) : W p l e room_1 s m #[Value.ref b] below meth c s.heap [] 0 0 (lw_Z below #[Value.ref b] s) (entryFrame m ([Value.ref b] : List Value).toArray 4) :=
  whole_open Inv Inv_ok Inv_0 l hL C0
set_option maxHeartbeats 4000000 in
theorem lw_walk (l : Launch) (b : Addr) (xs : List Int32) : MetFree l x (headSpec (Jvm.Cond.code x code maxLocals ret :: tables_1) room_1) (lw_P b xs) (fun _ _ _ _ _ => True) lw_Q := by
  refine MetFree.of_bodyS (code := code) (maxLocals := maxLocals) (ret := ret) (by decide) ?_ ?_
  · intro args s m h hn
    obtain ⟨meth, c, h1, h2, h3, h4, h5, h6, -, -⟩ := Cond.code_spec hn (atoms_spec (ws := Jvm.Cond.code x code maxLocals ret :: tables_1) h _ List.mem_cons_self)
    exact ⟨meth, c, h1, h2, h3, h4, h5, h6⟩
  · intro p e s m args below meth c s₁ B hml0 hP _
    obtain ⟨rfl, hx, hbd, hgv⟩ := hP
    obtain ⟨scr, harrAt, hlist, hof, hsmall⟩ := hx
    obtain ⟨hcb, hkn, -, -⟩ := State.arrayAt?_spec harrAt
    have hown : s.vm.findClass R_law = some m.cls := findClass_of_methodNamed B.named
    have hts0 : ∀ c ∈ (Jvm.Cond.code x code maxLocals ret :: tables_1), c.before #[Value.ref b] s = true := atoms_spec (ws := Jvm.Cond.code x code maxLocals ret :: tables_1) B.pre
    have hts : ∀ w ∈ lw_tbl, w.before #[Value.ref b] s = true := k2_hts_sels lw_privs (fun w hw => hts0 w (List.mem_cons_of_mem _ hw)) lw_privs_ok
    have hml : c.maxLocals = 4 := B.maxLocals_eq (hts0 _ List.mem_cons_self)
    have X₀ : Stand p l e room_1 s m #[Value.ref b] below meth c s₁ [] 0 0 := Stand.of_body B
    have hh0 : s₁.heap = s.heap := by rw [B.state]; rfl
    have hsz : scr.slots.size = xs.length := by rw [← Array.length_toList, hlist, List.length_map]
    have hval : ∀ j : Nat, j < xs.length → scr.slots[j]? = some (.int (xs.getD j 0)) := fun j hj => by
      rw [← Array.getElem?_toList, hlist]
      simp [hj]
    have hbl : b < s.heap.size := (Array.getElem?_eq_some_iff.mp hcb).1
    have hX : va_X b xs.length (fun j => xs.getD j 0) s s.heap := ⟨scr, hcb, hof, hkn, hsz, hval⟩
    have K : W p l e room_1 s m #[Value.ref b] below meth c s₁.heap [] 0 0 (lw_Z below #[Value.ref b] s) (entryFrame m ([Value.ref b] : List Value).toArray 4) := by
      rw [hh0]
      exact whole_start l hbd ⟨B.exec, B.bytes, B.returns, hml, hown, hts, hX, hbl, B.notSynchronized, hgv⟩
    obtain ⟨t, a1, o, b1, b2, b3⟩ := K s₁ rfl X₀
    exact ⟨t, o, a1, b1, b2, b3⟩
theorem lw_pre_spec {args : Array Value} {s : State} (h : (Jvm.Cond.and given_1 narrow_1).before args s = true) (hr : rest_1_c.before args s = true) : ∃ (b : Addr) (xs : List Int32), lw_P b xs args s := by
  have hs := flat_of_before _ h
  have hq := flat_of_before _ hr
  have hc : (Cond.count 1).before args s = true := hs _ (by decide +kernel)
  have harr : (Cond.arrayOf (.arg 0) .int).before args s = true := hs _ (by decide +kernel)
  have hle : (Cond.le (.length (.arg 0)) (.int 192)).before args s = true := hs _ (by decide +kernel)
  have hlen : (Cond.isInt (.length (.arg 0))).before args s = true := hq _ (by decide +kernel)
  have hall : (Cond.all (.arg 0) (.isInt (.elem (.arg 0) (.index 0)))).before args s = true := hq _ (by decide +kernel)
  obtain ⟨b, xs, hb, hx⟩ := State.ints_of_pre rfl harr hlen hall
  have hsm : xs.length < 2 ^ 31 := hx.choose_spec.2.2.2
  have hev : (Term.length (.arg 0)).eval args s none [] s = some (.int xs.length.toInt32) := hx.length_eval hb
  have hv := Cond.le_ints hev (show (Term.int 192).eval args s none [] s = some (.int 192) from rfl)
  have hd : xs.length.toInt32 ≤ 192 := by
    simpa [Cond.before, Cond.holds, hv] using hle
  have hN : xs.length ≤ 192 := (Int32.ofNat_le_ofNat hsm (by decide)).mp (show Int32.ofNat xs.length ≤ Int32.ofNat 192 from hd)
  exact ⟨b, xs, Cond.one_arg hc (show args[0]? = some (.ref b) from hb), hx, hN, h⟩
theorem lw_comes (l : Launch) : Comes l x (Jvm.Cond.code x code maxLocals ret :: tables_1) room_1 (fun tb e args s => Calls_1 tb e args s ∧ rest_1 tb e args s ∧ Pre_1 tb e args s)
    (fun _ _ args s o t => lw_Q args s o t) := by
  intro p e ha hc hk s m args below hf hfit hheap happ hpre
  obtain ⟨b, xs, hP⟩ := lw_pre_spec hpre.2.2 hpre.2.1
  obtain ⟨k, o, h1, h2, h3, hQ⟩ := lw_walk l b xs p e ha hc hk s m args below hf ((Spec.applies_iff_loose hf).mp happ).1 hP trivial
  exact ⟨k, o, h1, h2, h3, hQ⟩
theorem lw_frame {s t : State} {o : Outcome} {args : Array Value} (h : Framed s o t [] 600000 7290000) :
    Framed s o t (fieldLocs frame_1_writes args s ++ arrayLocs frame_1_arrays args s ++ staticLocs frame_1_statics s) 600000 7290000 := h
theorem lw_limb (L : Cond) (hL : ∀ (args : Array Value) (s t : State), L.after args s (.returned (some (.int 1))) t = true) :
    ArmFor flags0 classFile x code maxLocals ret World_1 tables_1 room_1 Calls_1 rest_1 Pre_1
      (fun tb e a s o t => postC L tb e a s o t ∧ Framed s o t (fieldLocs frame_1_writes a s ++ arrayLocs frame_1_arrays a s ++ staticLocs frame_1_statics s) 600000 7290000) := by
  intro l _ _ _ p e ha hc hk s m args below hf hfit hheap happ hpre
  obtain ⟨k, o, h1, h2, h3, rfl, hF⟩ := lw_comes l p e ha hc hk s m args below hf hfit hheap happ hpre
  exact ⟨k, _, h1, h2, h3, hL args s _, lw_frame hF⟩
theorem i_vc : Claimed_1_1 ∧ Claimed_1_2 := ⟨lw_limb limb_1_1 (fun args s t => by simp [limb_1_1, Cond.after, Cond.holds, Cond.value]), lw_limb limb_1_2 (fun args s t => Cond.after_iff.mpr (by
  first | (rw [show limb_1_2 = Cond.eq .result (.int 1) from rfl, Cond.eq_ints (x := 1) (y := 1) rfl rfl]; simp; done) | (simp [limb_1_2, Cond.value, Term.eval]; done)))⟩
end
