section
/-- a private method of a class that the tables say can be made, by its rows of tables_1 -/
def lw_okq (q : MethodName × Nat) : Prop := (q.1.cls ≠ "java/lang/invoke/MethodHandle" ∧ q.1.cls ≠ "java/lang/invoke/VarHandle") ∧ Cond.instantiable q.1.cls q.2 ∈ tables_1 ∧ Cond.privateMethod q.1 ∈ tables_1 ∧ Cond.instanceMethod q.1 ∈ tables_1
set_option maxRecDepth 100000
theorem lw_t1 {w : Cond} (h : w ∈ tables_1_1) : w ∈ tables_1 := List.mem_append_left _ h
theorem lw_t2 {w : Cond} (h : w ∈ tables_1_2) : w ∈ tables_1 := List.mem_append_right _ h
theorem lw_p0 : lw_okq (⟨"ScanDesk", "clear", "(III)V"⟩, 29) := ⟨⟨by decide +kernel, by decide +kernel⟩, lw_t1 (List.mem_of_getElem? (i := 5) rfl), lw_t1 (List.mem_of_getElem? (i := 19) rfl), lw_t1 (List.mem_of_getElem? (i := 20) rfl)⟩
theorem lw_p1 : lw_okq (⟨"ScanDesk", "child", "(II)I"⟩, 29) := ⟨⟨by decide +kernel, by decide +kernel⟩, lw_t1 (List.mem_of_getElem? (i := 5) rfl), lw_t1 (List.mem_of_getElem? (i := 121) rfl), lw_t1 (List.mem_of_getElem? (i := 122) rfl)⟩
theorem lw_p2 : lw_okq (⟨"ScanDesk", "follow", "(II)I"⟩, 29) := ⟨⟨by decide +kernel, by decide +kernel⟩, lw_t1 (List.mem_of_getElem? (i := 5) rfl), lw_t1 (List.mem_of_getElem? (i := 129) rfl), lw_t1 (List.mem_of_getElem? (i := 130) rfl)⟩
theorem lw_p3 : lw_okq (⟨"ScanDesk", "come", "(I)V"⟩, 29) := ⟨⟨by decide +kernel, by decide +kernel⟩, lw_t1 (List.mem_of_getElem? (i := 5) rfl), lw_t1 (List.mem_of_getElem? (i := 137) rfl), lw_t1 (List.mem_of_getElem? (i := 138) rfl)⟩
theorem lw_p4 : lw_okq (⟨"ScanDesk", "tell", "()V"⟩, 29) := ⟨⟨by decide +kernel, by decide +kernel⟩, lw_t1 (List.mem_of_getElem? (i := 5) rfl), lw_t1 (List.mem_of_getElem? (i := 141) rfl), lw_t1 (List.mem_of_getElem? (i := 142) rfl)⟩
theorem lw_p5 : lw_okq (⟨"ScanDesk", "keep", "(I)V"⟩, 29) := ⟨⟨by decide +kernel, by decide +kernel⟩, lw_t1 (List.mem_of_getElem? (i := 5) rfl), lw_t1 (List.mem_of_getElem? (i := 145) rfl), lw_t1 (List.mem_of_getElem? (i := 146) rfl)⟩
theorem lw_p6 : lw_okq (⟨"ScanDesk", "isFound", "(I)Z"⟩, 29) := ⟨⟨by decide +kernel, by decide +kernel⟩, lw_t1 (List.mem_of_getElem? (i := 5) rfl), lw_t1 (List.mem_of_getElem? (i := 166) rfl), lw_t1 (List.mem_of_getElem? (i := 167) rfl)⟩
theorem lw_p7 : lw_okq (⟨"ScanDesk", "first", "(IJ)I"⟩, 29) := ⟨⟨by decide +kernel, by decide +kernel⟩, lw_t1 (List.mem_of_getElem? (i := 5) rfl), lw_t1 (List.mem_of_getElem? (i := 199) rfl), lw_t1 (List.mem_of_getElem? (i := 200) rfl)⟩
theorem lw_p8 : lw_okq (⟨"ScanDesk", "begin", "(I)J"⟩, 29) := ⟨⟨by decide +kernel, by decide +kernel⟩, lw_t1 (List.mem_of_getElem? (i := 5) rfl), lw_t1 (List.mem_of_getElem? (i := 203) rfl), lw_t1 (List.mem_of_getElem? (i := 204) rfl)⟩
theorem lw_p9 : lw_okq (⟨"ScanDesk", "isBefore", "(II)Z"⟩, 29) := ⟨⟨by decide +kernel, by decide +kernel⟩, lw_t1 (List.mem_of_getElem? (i := 5) rfl), lw_t1 (List.mem_of_getElem? (i := 208) rfl), lw_t1 (List.mem_of_getElem? (i := 209) rfl)⟩
theorem lw_p10 : lw_okq (⟨"ScanDeskModel", "come", "(I)V"⟩, 20) := ⟨⟨by decide +kernel, by decide +kernel⟩, lw_t1 (List.mem_of_getElem? (i := 219) rfl), lw_t2 (List.mem_of_getElem? (i := 62) rfl), lw_t2 (List.mem_of_getElem? (i := 63) rfl)⟩
theorem lw_p11 : lw_okq (⟨"ScanDeskModel", "isPrefix", "(I)Z"⟩, 20) := ⟨⟨by decide +kernel, by decide +kernel⟩, lw_t1 (List.mem_of_getElem? (i := 219) rfl), lw_t2 (List.mem_of_getElem? (i := 66) rfl), lw_t2 (List.mem_of_getElem? (i := 67) rfl)⟩
theorem lw_p12 : lw_okq (⟨"ScanDeskModel", "shorter", "(I)I"⟩, 20) := ⟨⟨by decide +kernel, by decide +kernel⟩, lw_t1 (List.mem_of_getElem? (i := 219) rfl), lw_t2 (List.mem_of_getElem? (i := 70) rfl), lw_t2 (List.mem_of_getElem? (i := 71) rfl)⟩
theorem lw_p13 : lw_okq (⟨"ScanDeskModel", "isWord", "(I)Z"⟩, 20) := ⟨⟨by decide +kernel, by decide +kernel⟩, lw_t1 (List.mem_of_getElem? (i := 219) rfl), lw_t2 (List.mem_of_getElem? (i := 74) rfl), lw_t2 (List.mem_of_getElem? (i := 75) rfl)⟩
theorem lw_p14 : lw_okq (⟨"ScanDeskModel", "isFound", "(I)Z"⟩, 20) := ⟨⟨by decide +kernel, by decide +kernel⟩, lw_t1 (List.mem_of_getElem? (i := 219) rfl), lw_t2 (List.mem_of_getElem? (i := 95) rfl), lw_t2 (List.mem_of_getElem? (i := 96) rfl)⟩
theorem lw_p15 : lw_okq (⟨"ScanDeskModel", "begin", "(I)J"⟩, 20) := ⟨⟨by decide +kernel, by decide +kernel⟩, lw_t1 (List.mem_of_getElem? (i := 219) rfl), lw_t2 (List.mem_of_getElem? (i := 128) rfl), lw_t2 (List.mem_of_getElem? (i := 129) rfl)⟩
def lw_privs_1 : List (MethodName × Nat) := [(⟨"ScanDesk", "clear", "(III)V"⟩, 29), (⟨"ScanDesk", "child", "(II)I"⟩, 29), (⟨"ScanDesk", "follow", "(II)I"⟩, 29), (⟨"ScanDesk", "come", "(I)V"⟩, 29), (⟨"ScanDesk", "tell", "()V"⟩, 29), (⟨"ScanDesk", "keep", "(I)V"⟩, 29), (⟨"ScanDesk", "isFound", "(I)Z"⟩, 29), (⟨"ScanDesk", "first", "(IJ)I"⟩, 29), (⟨"ScanDesk", "begin", "(I)J"⟩, 29), (⟨"ScanDesk", "isBefore", "(II)Z"⟩, 29), (⟨"ScanDeskModel", "come", "(I)V"⟩, 20), (⟨"ScanDeskModel", "isPrefix", "(I)Z"⟩, 20), (⟨"ScanDeskModel", "shorter", "(I)I"⟩, 20), (⟨"ScanDeskModel", "isWord", "(I)Z"⟩, 20), (⟨"ScanDeskModel", "isFound", "(I)Z"⟩, 20), (⟨"ScanDeskModel", "begin", "(I)J"⟩, 20)]
theorem lw_r1 : ∀ q ∈ lw_privs_1, lw_okq q := List.forall_mem_cons.mpr ⟨lw_p0, List.forall_mem_cons.mpr ⟨lw_p1, List.forall_mem_cons.mpr ⟨lw_p2, List.forall_mem_cons.mpr ⟨lw_p3, List.forall_mem_cons.mpr ⟨lw_p4, List.forall_mem_cons.mpr ⟨lw_p5, List.forall_mem_cons.mpr ⟨lw_p6, List.forall_mem_cons.mpr ⟨lw_p7, List.forall_mem_cons.mpr ⟨lw_p8, List.forall_mem_cons.mpr ⟨lw_p9, List.forall_mem_cons.mpr ⟨lw_p10, List.forall_mem_cons.mpr ⟨lw_p11, List.forall_mem_cons.mpr ⟨lw_p12, List.forall_mem_cons.mpr ⟨lw_p13, List.forall_mem_cons.mpr ⟨lw_p14, List.forall_mem_cons.mpr ⟨lw_p15, fun _ h => absurd h List.not_mem_nil⟩⟩⟩⟩⟩⟩⟩⟩⟩⟩⟩⟩⟩⟩⟩⟩
def lw_privs : List (MethodName × Nat) := lw_privs_1
def lw_tbl : List Cond := k2_sels lw_privs ++ tables_1
theorem lw_privs_ok : ∀ q ∈ lw_privs, lw_okq q := lw_r1
-- ===== ONE list of words for every method: the tables' words that hold all through a run =====
def lw_all : List Cond := lw_tbl.filter goodWord
/-- a word of the tables by its place: claim/WORDS.tsv -/
theorem lw_w {w : Cond} (i : Nat) (h : lw_tbl[i]? = some w) (g : goodWord w = true) : w ∈ lw_all := List.mem_filter.mpr ⟨List.mem_of_getElem? h, g⟩
theorem lw_all_tbl {w : Cond} (h : w ∈ lw_all) : w ∈ lw_tbl := (List.mem_filter.mp h).1
theorem lw_self : GoodIn lw_all lw_all := fun w h => ⟨h, good_of_word (List.mem_filter.mp h).2⟩
/-- a class's field words, by their places -/
theorem lw_in (ws : List Cond) (ps : List Nat) (hp : ws = ps.filterMap (fun i => lw_tbl[i]?)) (hg : ws.all goodWord = true) : ∀ w ∈ ws, w ∈ lw_all := by
  intro w h
  have h1 := List.all_eq_true.mp hg w h
  rw [hp] at h
  obtain ⟨i, -, hi⟩ := List.mem_filterMap.mp h
  exact lw_w i hi h1
/-- the words of a contract for the method y with code b, L locals, answer r -/
abbrev ws_ (y : MethodName) (b : ByteArray) (L : Nat) (r : Option FieldType) : List Cond := Cond.code y b L r :: lw_all
theorem lw_meth {y : MethodName} {b : ByteArray} {L : Nat} {r : Option FieldType} (h : Cond.code y b L r ∈ lw_all) : GoodIn lw_all (ws_ y b L r) := by
  intro w hw
  rcases List.mem_cons.mp hw with e | e
  · rw [e]
    exact lw_self _ h
  · exact lw_self _ e
theorem lw_app {a c : List Cond} (ha : ∀ w ∈ a, w ∈ lw_all) (hc : GoodIn lw_all c) : GoodIn lw_all (a ++ c) := by
  intro w hw
  rcases List.mem_append.mp hw with e | e
  · exact lw_self w (ha w e)
  · exact hc w e
/-- what a call through an object asks: cwV n hts (lw_V ..) -/
theorem lw_V {own : String} {idx : Nat} {C : String} {y : MethodName} {b : ByteArray} {L : Nat} {r : Option FieldType} (h1 : Cond.methodLink own idx y ∈ lw_all) (h2 : Cond.instanceMethod y ∈ lw_all) (h3 : Cond.selects C y y ∈ lw_all) (h4 : Cond.initialized C ∈ lw_all) (h5 : Cond.code y b L r ∈ lw_all) : GoodIn lw_all (wsV own idx C y (ws_ y b L r)) := by
  refine lw_app ?_ (lw_meth h5)
  intro w hw
  simp only [List.mem_cons, List.not_mem_nil, or_false] at hw
  rcases hw with e | e | e | e
  · rw [e]; exact h1
  · rw [e]; exact h2
  · rw [e]; exact h3
  · rw [e]; exact h4
/-- what a static call asks: va_cwS n hts (lw_S ..) -/
theorem lw_S {own : String} {idx : Nat} {y : MethodName} {b : ByteArray} {L : Nat} {r : Option FieldType} (h1 : Cond.methodLink own idx y ∈ lw_all) (h2 : Cond.static y ∈ lw_all) (h3 : Cond.initialized y.cls ∈ lw_all) (h4 : Cond.code y b L r ∈ lw_all) : GoodIn lw_all (va_wsS own idx y (ws_ y b L r)) := by
  refine lw_app ?_ (lw_meth h4)
  intro w hw
  simp only [List.mem_cons, List.not_mem_nil, or_false] at hw
  rcases hw with e | e | e
  · rw [e]; exact h1
  · rw [e]; exact h2
  · rw [e]; exact h3
/-- the words of a contract for a method WITH HANDLERS (hh: its table) -/
abbrev wsW_ (y : MethodName) (b : ByteArray) (L : Nat) (r : Option FieldType) (hh : List (Nat × Nat × Nat × Nat)) : List Cond := Cond.codeWith y b L r hh :: lw_all
theorem lw_methW {y : MethodName} {b : ByteArray} {L : Nat} {r : Option FieldType} {hh : List (Nat × Nat × Nat × Nat)} (h : Cond.codeWith y b L r hh ∈ lw_all) : GoodIn lw_all (wsW_ y b L r hh) := by
  intro w hw
  rcases List.mem_cons.mp hw with e | e
  · rw [e]
    exact lw_self _ h
  · exact lw_self _ e
/-- any list of words by their places (lw_in), good -/
theorem lw_good {ws : List Cond} (h : ∀ w ∈ ws, w ∈ lw_all) : GoodIn lw_all ws := fun w hw => lw_self w (h w hw)
/-- what a call of a method with handlers asks: vx_cwVW n hts (lw_VW ..), vx_cwSW n hts (lw_SW ..) -/
theorem lw_VW {own : String} {idx : Nat} {C : String} {y : MethodName} {b : ByteArray} {L : Nat} {r : Option FieldType} {hh : List (Nat × Nat × Nat × Nat)} (h1 : Cond.methodLink own idx y ∈ lw_all) (h2 : Cond.instanceMethod y ∈ lw_all) (h3 : Cond.selects C y y ∈ lw_all) (h4 : Cond.initialized C ∈ lw_all) (h5 : Cond.codeWith y b L r hh ∈ lw_all) : GoodIn lw_all (wsV own idx C y (wsW_ y b L r hh)) := by
  refine lw_app ?_ (lw_methW h5)
  intro w hw
  simp only [List.mem_cons, List.not_mem_nil, or_false] at hw
  rcases hw with e | e | e | e
  · rw [e]; exact h1
  · rw [e]; exact h2
  · rw [e]; exact h3
  · rw [e]; exact h4
theorem lw_SW {own : String} {idx : Nat} {y : MethodName} {b : ByteArray} {L : Nat} {r : Option FieldType} {hh : List (Nat × Nat × Nat × Nat)} (h1 : Cond.methodLink own idx y ∈ lw_all) (h2 : Cond.static y ∈ lw_all) (h3 : Cond.initialized y.cls ∈ lw_all) (h4 : Cond.codeWith y b L r hh ∈ lw_all) : GoodIn lw_all (va_wsS own idx y (wsW_ y b L r hh)) := by
  refine lw_app ?_ (lw_methW h4)
  intro w hw
  simp only [List.mem_cons, List.not_mem_nil, or_false] at hw
  rcases hw with e | e | e
  · rw [e]; exact h1
  · rw [e]; exact h2
  · rw [e]; exact h3
/-- a word by its place in its run of the tables -/
theorem lw_at {r : List Cond} (hr : ∀ w ∈ r, w ∈ lw_tbl) {w : Cond} (i : Nat) (h : r[i]? = some w) : w ∈ lw_tbl := hr w (List.mem_of_getElem? h)
theorem lw_g {w : Cond} (h : w ∈ lw_tbl) (g : goodWord w = true) : w ∈ lw_all := List.mem_filter.mpr ⟨h, g⟩
theorem lw_ms : ∀ w ∈ k2_sels lw_privs, w ∈ lw_tbl := fun w h => show w ∈ k2_sels lw_privs ++ tables_1 from List.mem_append_left _ h
theorem lw_m1 : ∀ w ∈ tables_1_1, w ∈ lw_tbl := fun w h => show w ∈ k2_sels lw_privs ++ tables_1 from List.mem_append_right (k2_sels lw_privs) (show w ∈ tables_1 from List.mem_append_left _ h)
theorem lw_m2 : ∀ w ∈ tables_1_2, w ∈ lw_tbl := fun w h => show w ∈ k2_sels lw_privs ++ tables_1 from List.mem_append_right (k2_sels lw_privs) (show w ∈ tables_1 from List.mem_append_right _ h)
theorem qs0 : (Cond.selects "ScanDesk" ⟨"ScanDesk", "clear", "(III)V"⟩ ⟨"ScanDesk", "clear", "(III)V"⟩) ∈ lw_all := lw_g (lw_at lw_ms 0 rfl) rfl
theorem qs1 : (Cond.selects "ScanDesk" ⟨"ScanDesk", "child", "(II)I"⟩ ⟨"ScanDesk", "child", "(II)I"⟩) ∈ lw_all := lw_g (lw_at lw_ms 1 rfl) rfl
theorem qs2 : (Cond.selects "ScanDesk" ⟨"ScanDesk", "follow", "(II)I"⟩ ⟨"ScanDesk", "follow", "(II)I"⟩) ∈ lw_all := lw_g (lw_at lw_ms 2 rfl) rfl
theorem qs3 : (Cond.selects "ScanDesk" ⟨"ScanDesk", "come", "(I)V"⟩ ⟨"ScanDesk", "come", "(I)V"⟩) ∈ lw_all := lw_g (lw_at lw_ms 3 rfl) rfl
theorem qs4 : (Cond.selects "ScanDesk" ⟨"ScanDesk", "tell", "()V"⟩ ⟨"ScanDesk", "tell", "()V"⟩) ∈ lw_all := lw_g (lw_at lw_ms 4 rfl) rfl
theorem qs5 : (Cond.selects "ScanDesk" ⟨"ScanDesk", "keep", "(I)V"⟩ ⟨"ScanDesk", "keep", "(I)V"⟩) ∈ lw_all := lw_g (lw_at lw_ms 5 rfl) rfl
theorem qs6 : (Cond.selects "ScanDesk" ⟨"ScanDesk", "isFound", "(I)Z"⟩ ⟨"ScanDesk", "isFound", "(I)Z"⟩) ∈ lw_all := lw_g (lw_at lw_ms 6 rfl) rfl
theorem qs7 : (Cond.selects "ScanDesk" ⟨"ScanDesk", "first", "(IJ)I"⟩ ⟨"ScanDesk", "first", "(IJ)I"⟩) ∈ lw_all := lw_g (lw_at lw_ms 7 rfl) rfl
theorem qs8 : (Cond.selects "ScanDesk" ⟨"ScanDesk", "begin", "(I)J"⟩ ⟨"ScanDesk", "begin", "(I)J"⟩) ∈ lw_all := lw_g (lw_at lw_ms 8 rfl) rfl
theorem qs9 : (Cond.selects "ScanDesk" ⟨"ScanDesk", "isBefore", "(II)Z"⟩ ⟨"ScanDesk", "isBefore", "(II)Z"⟩) ∈ lw_all := lw_g (lw_at lw_ms 9 rfl) rfl
theorem qs10 : (Cond.selects "ScanDeskModel" ⟨"ScanDeskModel", "come", "(I)V"⟩ ⟨"ScanDeskModel", "come", "(I)V"⟩) ∈ lw_all := lw_g (lw_at lw_ms 10 rfl) rfl
theorem qs11 : (Cond.selects "ScanDeskModel" ⟨"ScanDeskModel", "isPrefix", "(I)Z"⟩ ⟨"ScanDeskModel", "isPrefix", "(I)Z"⟩) ∈ lw_all := lw_g (lw_at lw_ms 11 rfl) rfl
theorem qs12 : (Cond.selects "ScanDeskModel" ⟨"ScanDeskModel", "shorter", "(I)I"⟩ ⟨"ScanDeskModel", "shorter", "(I)I"⟩) ∈ lw_all := lw_g (lw_at lw_ms 12 rfl) rfl
theorem qs13 : (Cond.selects "ScanDeskModel" ⟨"ScanDeskModel", "isWord", "(I)Z"⟩ ⟨"ScanDeskModel", "isWord", "(I)Z"⟩) ∈ lw_all := lw_g (lw_at lw_ms 13 rfl) rfl
theorem qs14 : (Cond.selects "ScanDeskModel" ⟨"ScanDeskModel", "isFound", "(I)Z"⟩ ⟨"ScanDeskModel", "isFound", "(I)Z"⟩) ∈ lw_all := lw_g (lw_at lw_ms 14 rfl) rfl
theorem qs15 : (Cond.selects "ScanDeskModel" ⟨"ScanDeskModel", "begin", "(I)J"⟩ ⟨"ScanDeskModel", "begin", "(I)J"⟩) ∈ lw_all := lw_g (lw_at lw_ms 15 rfl) rfl
end
section
/-! ScanDesk -/
set_option maxRecDepth 100000
def RX1 : String := "ScanDesk"
def TX1 : u_T := fun k => match k with
  | 0 => ("ScanDesk", "room", "I", true)
  | 1 => ("ScanDesk", "labels", "[I", true)
  | 2 => ("ScanDesk", "children", "[I", true)
  | 3 => ("ScanDesk", "brothers", "[I", true)
  | 4 => ("ScanDesk", "depths", "[I", true)
  | 5 => ("ScanDesk", "words", "[I", true)
  | 6 => ("ScanDesk", "links", "[I", true)
  | 7 => ("ScanDesk", "whole", "[I", true)
  | 8 => ("ScanDesk", "row", "[I", true)
  | 9 => ("ScanDesk", "nodes", "I", false)
  | 10 => ("ScanDesk", "isBuilt", "Z", false)
  | 11 => ("ScanDesk", "alike", "[I", true)
  | 12 => ("ScanDesk", "lengths", "[I", true)
  | 13 => ("ScanDesk", "counts", "[I", true)
  | 14 => ("ScanDesk", "wordCount", "I", false)
  | 15 => ("ScanDesk", "next", "[I", true)
  | 16 => ("ScanDesk", "nextLength", "I", false)
  | 17 => ("ScanDesk", "now", "I", false)
  | 18 => ("ScanDesk", "place", "J", false)
  | 19 => ("ScanDesk", "steps", "J", false)
  | 20 => ("ScanDesk", "line", "I", false)
  | 21 => ("ScanDesk", "lastLine", "I", false)
  | 22 => ("ScanDesk", "lineRow", "[I", true)
  | 23 => ("ScanDesk", "lineCount", "I", false)
  | 24 => ("ScanDesk", "foundWords", "[I", true)
  | 25 => ("ScanDesk", "foundEnds", "[J", true)
  | 26 => ("ScanDesk", "found", "I", false)
  | 27 => ("ScanDesk", "picks", "[I", true)
  | _ => ("ScanDesk", "pickCount", "I", false)
def tyX1 : Nat → FieldType := fun k => match k with
  | 0 => .int
  | 1 => .array .int
  | 2 => .array .int
  | 3 => .array .int
  | 4 => .array .int
  | 5 => .array .int
  | 6 => .array .int
  | 7 => .array .int
  | 8 => .array .int
  | 9 => .int
  | 10 => .boolean
  | 11 => .array .int
  | 12 => .array .int
  | 13 => .array .int
  | 14 => .int
  | 15 => .array .int
  | 16 => .int
  | 17 => .int
  | 18 => .long
  | 19 => .long
  | 20 => .int
  | 21 => .int
  | 22 => .array .int
  | 23 => .int
  | 24 => .array .int
  | 25 => .array .long
  | 26 => .int
  | 27 => .array .int
  | _ => .int
abbrev wsX10 : List Cond := u_ws RX1 TX1 29
set_option maxRecDepth 100000 in
theorem nmX1 : ∀ a, a < 29 → ∀ b, b < 29 → a ≠ b → (TX1 a).2.1 ≠ (TX1 b).2.1 := by decide +kernel
set_option maxRecDepth 100000 in
theorem tyX1_ok : ∀ k, k < 29 → parseFieldDescriptor (TX1 k).2.2.1 = some (tyX1 k) := by decide +kernel
abbrev cX1_init : ByteArray := prog_1_method_1_code
def yX1_init : MethodName := ⟨RX1, "<init>", "(I)V"⟩
theorem dX1_init_0 : decode cX1_init 0 = .ok (.aload_n 0, 1) := by decide +kernel
theorem dX1_init_1 : decode cX1_init 1 = .ok (.invokespecial 3, 3) := by decide +kernel
theorem dX1_init_4 : decode cX1_init 4 = .ok (.aload_n 0, 1) := by decide +kernel
theorem dX1_init_5 : decode cX1_init 5 = .ok (.sipush 2000, 3) := by decide +kernel
theorem dX1_init_8 : decode cX1_init 8 = .ok (.newarray .int, 2) := by decide +kernel
theorem dX1_init_10 : decode cX1_init 10 = .ok (.putfield 9, 3) := by decide +kernel
theorem dX1_init_13 : decode cX1_init 13 = .ok (.aload_n 0, 1) := by decide +kernel
theorem dX1_init_14 : decode cX1_init 14 = .ok (.sipush 2000, 3) := by decide +kernel
theorem dX1_init_17 : decode cX1_init 17 = .ok (.newarray .int, 2) := by decide +kernel
theorem dX1_init_19 : decode cX1_init 19 = .ok (.putfield 13, 3) := by decide +kernel
theorem dX1_init_22 : decode cX1_init 22 = .ok (.aload_n 0, 1) := by decide +kernel
theorem dX1_init_23 : decode cX1_init 23 = .ok (.sipush 2000, 3) := by decide +kernel
theorem dX1_init_26 : decode cX1_init 26 = .ok (.newarray .int, 2) := by decide +kernel
theorem dX1_init_28 : decode cX1_init 28 = .ok (.putfield 16, 3) := by decide +kernel
theorem dX1_init_31 : decode cX1_init 31 = .ok (.aload_n 0, 1) := by decide +kernel
theorem dX1_init_32 : decode cX1_init 32 = .ok (.sipush 2000, 3) := by decide +kernel
theorem dX1_init_35 : decode cX1_init 35 = .ok (.newarray .int, 2) := by decide +kernel
theorem dX1_init_37 : decode cX1_init 37 = .ok (.putfield 19, 3) := by decide +kernel
theorem dX1_init_40 : decode cX1_init 40 = .ok (.aload_n 0, 1) := by decide +kernel
theorem dX1_init_41 : decode cX1_init 41 = .ok (.sipush 2000, 3) := by decide +kernel
theorem dX1_init_44 : decode cX1_init 44 = .ok (.newarray .int, 2) := by decide +kernel
theorem dX1_init_46 : decode cX1_init 46 = .ok (.putfield 22, 3) := by decide +kernel
theorem dX1_init_49 : decode cX1_init 49 = .ok (.aload_n 0, 1) := by decide +kernel
theorem dX1_init_50 : decode cX1_init 50 = .ok (.sipush 2000, 3) := by decide +kernel
theorem dX1_init_53 : decode cX1_init 53 = .ok (.newarray .int, 2) := by decide +kernel
theorem dX1_init_55 : decode cX1_init 55 = .ok (.putfield 25, 3) := by decide +kernel
theorem dX1_init_58 : decode cX1_init 58 = .ok (.aload_n 0, 1) := by decide +kernel
theorem dX1_init_59 : decode cX1_init 59 = .ok (.sipush 2000, 3) := by decide +kernel
theorem dX1_init_62 : decode cX1_init 62 = .ok (.newarray .int, 2) := by decide +kernel
theorem dX1_init_64 : decode cX1_init 64 = .ok (.putfield 28, 3) := by decide +kernel
theorem dX1_init_67 : decode cX1_init 67 = .ok (.aload_n 0, 1) := by decide +kernel
theorem dX1_init_68 : decode cX1_init 68 = .ok (.sipush 2000, 3) := by decide +kernel
theorem dX1_init_71 : decode cX1_init 71 = .ok (.newarray .int, 2) := by decide +kernel
theorem dX1_init_73 : decode cX1_init 73 = .ok (.putfield 31, 3) := by decide +kernel
theorem dX1_init_76 : decode cX1_init 76 = .ok (.aload_n 0, 1) := by decide +kernel
theorem dX1_init_77 : decode cX1_init 77 = .ok (.iconst 1, 1) := by decide +kernel
theorem dX1_init_78 : decode cX1_init 78 = .ok (.putfield 34, 3) := by decide +kernel
theorem dX1_init_81 : decode cX1_init 81 = .ok (.aload_n 0, 1) := by decide +kernel
theorem dX1_init_82 : decode cX1_init 82 = .ok (.bipush 60, 2) := by decide +kernel
theorem dX1_init_84 : decode cX1_init 84 = .ok (.newarray .int, 2) := by decide +kernel
theorem dX1_init_86 : decode cX1_init 86 = .ok (.putfield 38, 3) := by decide +kernel
theorem dX1_init_89 : decode cX1_init 89 = .ok (.aload_n 0, 1) := by decide +kernel
theorem dX1_init_90 : decode cX1_init 90 = .ok (.bipush 60, 2) := by decide +kernel
theorem dX1_init_92 : decode cX1_init 92 = .ok (.newarray .int, 2) := by decide +kernel
theorem dX1_init_94 : decode cX1_init 94 = .ok (.putfield 41, 3) := by decide +kernel
theorem dX1_init_97 : decode cX1_init 97 = .ok (.aload_n 0, 1) := by decide +kernel
theorem dX1_init_98 : decode cX1_init 98 = .ok (.bipush 60, 2) := by decide +kernel
theorem dX1_init_100 : decode cX1_init 100 = .ok (.newarray .int, 2) := by decide +kernel
theorem dX1_init_102 : decode cX1_init 102 = .ok (.putfield 44, 3) := by decide +kernel
theorem dX1_init_105 : decode cX1_init 105 = .ok (.aload_n 0, 1) := by decide +kernel
theorem dX1_init_106 : decode cX1_init 106 = .ok (.bipush 40, 2) := by decide +kernel
theorem dX1_init_108 : decode cX1_init 108 = .ok (.newarray .int, 2) := by decide +kernel
theorem dX1_init_110 : decode cX1_init 110 = .ok (.putfield 47, 3) := by decide +kernel
theorem dX1_init_113 : decode cX1_init 113 = .ok (.aload_n 0, 1) := by decide +kernel
theorem dX1_init_114 : decode cX1_init 114 = .ok (.iconst 1, 1) := by decide +kernel
theorem dX1_init_115 : decode cX1_init 115 = .ok (.putfield 50, 3) := by decide +kernel
theorem dX1_init_118 : decode cX1_init 118 = .ok (.aload_n 0, 1) := by decide +kernel
theorem dX1_init_119 : decode cX1_init 119 = .ok (.sipush 4201, 3) := by decide +kernel
theorem dX1_init_122 : decode cX1_init 122 = .ok (.newarray .int, 2) := by decide +kernel
theorem dX1_init_124 : decode cX1_init 124 = .ok (.putfield 53, 3) := by decide +kernel
theorem dX1_init_127 : decode cX1_init 127 = .ok (.aload_n 0, 1) := by decide +kernel
theorem dX1_init_128 : decode cX1_init 128 = .ok (.sipush 4201, 3) := by decide +kernel
theorem dX1_init_131 : decode cX1_init 131 = .ok (.newarray .int, 2) := by decide +kernel
theorem dX1_init_133 : decode cX1_init 133 = .ok (.putfield 56, 3) := by decide +kernel
theorem dX1_init_136 : decode cX1_init 136 = .ok (.aload_n 0, 1) := by decide +kernel
theorem dX1_init_137 : decode cX1_init 137 = .ok (.sipush 4201, 3) := by decide +kernel
theorem dX1_init_140 : decode cX1_init 140 = .ok (.newarray .long, 2) := by decide +kernel
theorem dX1_init_142 : decode cX1_init 142 = .ok (.putfield 59, 3) := by decide +kernel
theorem dX1_init_145 : decode cX1_init 145 = .ok (.aload_n 0, 1) := by decide +kernel
theorem dX1_init_146 : decode cX1_init 146 = .ok (.sipush 4201, 3) := by decide +kernel
theorem dX1_init_149 : decode cX1_init 149 = .ok (.newarray .int, 2) := by decide +kernel
theorem dX1_init_151 : decode cX1_init 151 = .ok (.putfield 63, 3) := by decide +kernel
theorem dX1_init_154 : decode cX1_init 154 = .ok (.aload_n 0, 1) := by decide +kernel
theorem dX1_init_155 : decode cX1_init 155 = .ok (.iconst 1, 1) := by decide +kernel
theorem dX1_init_156 : decode cX1_init 156 = .ok (.sipush 2000, 3) := by decide +kernel
theorem dX1_init_159 : decode cX1_init 159 = .ok (.iload_n 1, 1) := by decide +kernel
theorem dX1_init_160 : decode cX1_init 160 = .ok (.invokestatic 66, 3) := by decide +kernel
theorem dX1_init_163 : decode cX1_init 163 = .ok (.invokestatic 72, 3) := by decide +kernel
theorem dX1_init_166 : decode cX1_init 166 = .ok (.putfield 75, 3) := by decide +kernel
theorem dX1_init_169 : decode cX1_init 169 = .ok (.aload_n 0, 1) := by decide +kernel
theorem dX1_init_170 : decode cX1_init 170 = .ok (.iconst 0, 1) := by decide +kernel
theorem dX1_init_171 : decode cX1_init 171 = .ok (.iconst (-1), 1) := by decide +kernel
theorem dX1_init_172 : decode cX1_init 172 = .ok (.iconst 0, 1) := by decide +kernel
theorem dX1_init_173 : decode cX1_init 173 = .ok (.invokevirtual 78, 3) := by decide +kernel
theorem dX1_init_176 : decode cX1_init 176 = .ok (.return_, 1) := by decide +kernel
abbrev cX1_clear : ByteArray := prog_1_method_2_code
def yX1_clear : MethodName := ⟨RX1, "clear", "(III)V"⟩
theorem dX1_clear_0 : decode cX1_clear 0 = .ok (.aload_n 0, 1) := by decide +kernel
theorem dX1_clear_1 : decode cX1_clear 1 = .ok (.getfield 9, 3) := by decide +kernel
theorem dX1_clear_4 : decode cX1_clear 4 = .ok (.iload_n 1, 1) := by decide +kernel
theorem dX1_clear_5 : decode cX1_clear 5 = .ok (.iload_n 2, 1) := by decide +kernel
theorem dX1_clear_6 : decode cX1_clear 6 = .ok (.iastore, 1) := by decide +kernel
theorem dX1_clear_7 : decode cX1_clear 7 = .ok (.aload_n 0, 1) := by decide +kernel
theorem dX1_clear_8 : decode cX1_clear 8 = .ok (.getfield 13, 3) := by decide +kernel
theorem dX1_clear_11 : decode cX1_clear 11 = .ok (.iload_n 1, 1) := by decide +kernel
theorem dX1_clear_12 : decode cX1_clear 12 = .ok (.iconst (-1), 1) := by decide +kernel
theorem dX1_clear_13 : decode cX1_clear 13 = .ok (.iastore, 1) := by decide +kernel
theorem dX1_clear_14 : decode cX1_clear 14 = .ok (.aload_n 0, 1) := by decide +kernel
theorem dX1_clear_15 : decode cX1_clear 15 = .ok (.getfield 16, 3) := by decide +kernel
theorem dX1_clear_18 : decode cX1_clear 18 = .ok (.iload_n 1, 1) := by decide +kernel
theorem dX1_clear_19 : decode cX1_clear 19 = .ok (.iconst (-1), 1) := by decide +kernel
theorem dX1_clear_20 : decode cX1_clear 20 = .ok (.iastore, 1) := by decide +kernel
theorem dX1_clear_21 : decode cX1_clear 21 = .ok (.aload_n 0, 1) := by decide +kernel
theorem dX1_clear_22 : decode cX1_clear 22 = .ok (.getfield 19, 3) := by decide +kernel
theorem dX1_clear_25 : decode cX1_clear 25 = .ok (.iload_n 1, 1) := by decide +kernel
theorem dX1_clear_26 : decode cX1_clear 26 = .ok (.iload_n 3, 1) := by decide +kernel
theorem dX1_clear_27 : decode cX1_clear 27 = .ok (.iastore, 1) := by decide +kernel
theorem dX1_clear_28 : decode cX1_clear 28 = .ok (.aload_n 0, 1) := by decide +kernel
theorem dX1_clear_29 : decode cX1_clear 29 = .ok (.getfield 22, 3) := by decide +kernel
theorem dX1_clear_32 : decode cX1_clear 32 = .ok (.iload_n 1, 1) := by decide +kernel
theorem dX1_clear_33 : decode cX1_clear 33 = .ok (.iconst (-1), 1) := by decide +kernel
theorem dX1_clear_34 : decode cX1_clear 34 = .ok (.iastore, 1) := by decide +kernel
theorem dX1_clear_35 : decode cX1_clear 35 = .ok (.return_, 1) := by decide +kernel
abbrev cX1_put : ByteArray := prog_1_method_3_code
def yX1_put : MethodName := ⟨RX1, "put", "(I)I"⟩
theorem dX1_put_0 : decode cX1_put 0 = .ok (.aload_n 0, 1) := by decide +kernel
theorem dX1_put_1 : decode cX1_put 1 = .ok (.getfield 82, 3) := by decide +kernel
theorem dX1_put_4 : decode cX1_put 4 = .ok (.ifCond .ne 29, 3) := by decide +kernel
theorem dX1_put_7 : decode cX1_put 7 = .ok (.aload_n 0, 1) := by decide +kernel
theorem dX1_put_8 : decode cX1_put 8 = .ok (.getfield 86, 3) := by decide +kernel
theorem dX1_put_11 : decode cX1_put 11 = .ok (.bipush 40, 2) := by decide +kernel
theorem dX1_put_13 : decode cX1_put 13 = .ok (.if_icmp .eq 20, 3) := by decide +kernel
theorem dX1_put_16 : decode cX1_put 16 = .ok (.iload_n 1, 1) := by decide +kernel
theorem dX1_put_17 : decode cX1_put 17 = .ok (.ifCond .lt 16, 3) := by decide +kernel
theorem dX1_put_20 : decode cX1_put 20 = .ok (.iload_n 1, 1) := by decide +kernel
theorem dX1_put_21 : decode cX1_put 21 = .ok (.sipush 255, 3) := by decide +kernel
theorem dX1_put_24 : decode cX1_put 24 = .ok (.if_icmp .gt 9, 3) := by decide +kernel
theorem dX1_put_27 : decode cX1_put 27 = .ok (.iload_n 1, 1) := by decide +kernel
theorem dX1_put_28 : decode cX1_put 28 = .ok (.bipush 10, 2) := by decide +kernel
theorem dX1_put_30 : decode cX1_put 30 = .ok (.if_icmp .ne 5, 3) := by decide +kernel
theorem dX1_put_33 : decode cX1_put 33 = .ok (.iconst (-1), 1) := by decide +kernel
theorem dX1_put_34 : decode cX1_put 34 = .ok (.ireturn, 1) := by decide +kernel
theorem dX1_put_35 : decode cX1_put 35 = .ok (.aload_n 0, 1) := by decide +kernel
theorem dX1_put_36 : decode cX1_put 36 = .ok (.getfield 47, 3) := by decide +kernel
theorem dX1_put_39 : decode cX1_put 39 = .ok (.aload_n 0, 1) := by decide +kernel
theorem dX1_put_40 : decode cX1_put 40 = .ok (.dup, 1) := by decide +kernel
theorem dX1_put_41 : decode cX1_put 41 = .ok (.getfield 86, 3) := by decide +kernel
theorem dX1_put_44 : decode cX1_put 44 = .ok (.dup_x1, 1) := by decide +kernel
theorem dX1_put_45 : decode cX1_put 45 = .ok (.iconst 1, 1) := by decide +kernel
theorem dX1_put_46 : decode cX1_put 46 = .ok (.iadd, 1) := by decide +kernel
theorem dX1_put_47 : decode cX1_put 47 = .ok (.putfield 86, 3) := by decide +kernel
theorem dX1_put_50 : decode cX1_put 50 = .ok (.iload_n 1, 1) := by decide +kernel
theorem dX1_put_51 : decode cX1_put 51 = .ok (.iastore, 1) := by decide +kernel
theorem dX1_put_52 : decode cX1_put 52 = .ok (.aload_n 0, 1) := by decide +kernel
theorem dX1_put_53 : decode cX1_put 53 = .ok (.getfield 86, 3) := by decide +kernel
theorem dX1_put_56 : decode cX1_put 56 = .ok (.ireturn, 1) := by decide +kernel
abbrev cX1_add : ByteArray := prog_1_method_5_code
def yX1_add : MethodName := ⟨RX1, "add", "()I"⟩
theorem dX1_add_0 : decode cX1_add 0 = .ok (.aload_n 0, 1) := by decide +kernel
theorem dX1_add_1 : decode cX1_add 1 = .ok (.getfield 82, 3) := by decide +kernel
theorem dX1_add_4 : decode cX1_add 4 = .ok (.ifCond .eq 5, 3) := by decide +kernel
theorem dX1_add_7 : decode cX1_add 7 = .ok (.iconst (-1), 1) := by decide +kernel
theorem dX1_add_8 : decode cX1_add 8 = .ok (.ireturn, 1) := by decide +kernel
theorem dX1_add_9 : decode cX1_add 9 = .ok (.aload_n 0, 1) := by decide +kernel
theorem dX1_add_10 : decode cX1_add 10 = .ok (.getfield 86, 3) := by decide +kernel
theorem dX1_add_13 : decode cX1_add 13 = .ok (.istore_n 1, 1) := by decide +kernel
theorem dX1_add_14 : decode cX1_add 14 = .ok (.aload_n 0, 1) := by decide +kernel
theorem dX1_add_15 : decode cX1_add 15 = .ok (.iconst 0, 1) := by decide +kernel
theorem dX1_add_16 : decode cX1_add 16 = .ok (.putfield 86, 3) := by decide +kernel
theorem dX1_add_19 : decode cX1_add 19 = .ok (.iconst 0, 1) := by decide +kernel
theorem dX1_add_20 : decode cX1_add 20 = .ok (.istore_n 2, 1) := by decide +kernel
theorem dX1_add_21 : decode cX1_add 21 = .ok (.iconst 0, 1) := by decide +kernel
theorem dX1_add_22 : decode cX1_add 22 = .ok (.istore_n 3, 1) := by decide +kernel
theorem dX1_add_23 : decode cX1_add 23 = .ok (.iload_n 3, 1) := by decide +kernel
theorem dX1_add_24 : decode cX1_add 24 = .ok (.iload_n 1, 1) := by decide +kernel
theorem dX1_add_25 : decode cX1_add 25 = .ok (.if_icmp .ge 36, 3) := by decide +kernel
theorem dX1_add_28 : decode cX1_add 28 = .ok (.aload_n 0, 1) := by decide +kernel
theorem dX1_add_29 : decode cX1_add 29 = .ok (.iload_n 2, 1) := by decide +kernel
theorem dX1_add_30 : decode cX1_add 30 = .ok (.aload_n 0, 1) := by decide +kernel
theorem dX1_add_31 : decode cX1_add 31 = .ok (.getfield 47, 3) := by decide +kernel
theorem dX1_add_34 : decode cX1_add 34 = .ok (.iload_n 3, 1) := by decide +kernel
theorem dX1_add_35 : decode cX1_add 35 = .ok (.iaload, 1) := by decide +kernel
theorem dX1_add_36 : decode cX1_add 36 = .ok (.invokevirtual 89, 3) := by decide +kernel
theorem dX1_add_39 : decode cX1_add 39 = .ok (.iconst (-1), 1) := by decide +kernel
theorem dX1_add_40 : decode cX1_add 40 = .ok (.if_icmp .eq 21, 3) := by decide +kernel
theorem dX1_add_43 : decode cX1_add 43 = .ok (.aload_n 0, 1) := by decide +kernel
theorem dX1_add_44 : decode cX1_add 44 = .ok (.iload_n 2, 1) := by decide +kernel
theorem dX1_add_45 : decode cX1_add 45 = .ok (.aload_n 0, 1) := by decide +kernel
theorem dX1_add_46 : decode cX1_add 46 = .ok (.getfield 47, 3) := by decide +kernel
theorem dX1_add_49 : decode cX1_add 49 = .ok (.iload_n 3, 1) := by decide +kernel
theorem dX1_add_50 : decode cX1_add 50 = .ok (.iinc 3 1, 3) := by decide +kernel
theorem dX1_add_53 : decode cX1_add 53 = .ok (.iaload, 1) := by decide +kernel
theorem dX1_add_54 : decode cX1_add 54 = .ok (.invokevirtual 89, 3) := by decide +kernel
theorem dX1_add_57 : decode cX1_add 57 = .ok (.istore_n 2, 1) := by decide +kernel
theorem dX1_add_58 : decode cX1_add 58 = .ok (.goto (-35), 3) := by decide +kernel
theorem dX1_add_61 : decode cX1_add 61 = .ok (.iload_n 1, 1) := by decide +kernel
theorem dX1_add_62 : decode cX1_add 62 = .ok (.ifCond .eq 27, 3) := by decide +kernel
theorem dX1_add_65 : decode cX1_add 65 = .ok (.aload_n 0, 1) := by decide +kernel
theorem dX1_add_66 : decode cX1_add 66 = .ok (.getfield 92, 3) := by decide +kernel
theorem dX1_add_69 : decode cX1_add 69 = .ok (.bipush 60, 2) := by decide +kernel
theorem dX1_add_71 : decode cX1_add 71 = .ok (.if_icmp .eq 18, 3) := by decide +kernel
theorem dX1_add_74 : decode cX1_add 74 = .ok (.aload_n 0, 1) := by decide +kernel
theorem dX1_add_75 : decode cX1_add 75 = .ok (.getfield 34, 3) := by decide +kernel
theorem dX1_add_78 : decode cX1_add 78 = .ok (.iload_n 1, 1) := by decide +kernel
theorem dX1_add_79 : decode cX1_add 79 = .ok (.iadd, 1) := by decide +kernel
theorem dX1_add_80 : decode cX1_add 80 = .ok (.iload_n 3, 1) := by decide +kernel
theorem dX1_add_81 : decode cX1_add 81 = .ok (.isub, 1) := by decide +kernel
theorem dX1_add_82 : decode cX1_add 82 = .ok (.aload_n 0, 1) := by decide +kernel
theorem dX1_add_83 : decode cX1_add 83 = .ok (.getfield 75, 3) := by decide +kernel
theorem dX1_add_86 : decode cX1_add 86 = .ok (.if_icmp .le 5, 3) := by decide +kernel
theorem dX1_add_89 : decode cX1_add 89 = .ok (.iconst (-1), 1) := by decide +kernel
theorem dX1_add_90 : decode cX1_add 90 = .ok (.ireturn, 1) := by decide +kernel
theorem dX1_add_91 : decode cX1_add 91 = .ok (.iload_n 3, 1) := by decide +kernel
theorem dX1_add_92 : decode cX1_add 92 = .ok (.iload_n 1, 1) := by decide +kernel
theorem dX1_add_93 : decode cX1_add 93 = .ok (.if_icmp .ge 68, 3) := by decide +kernel
theorem dX1_add_96 : decode cX1_add 96 = .ok (.aload_n 0, 1) := by decide +kernel
theorem dX1_add_97 : decode cX1_add 97 = .ok (.aload_n 0, 1) := by decide +kernel
theorem dX1_add_98 : decode cX1_add 98 = .ok (.getfield 34, 3) := by decide +kernel
theorem dX1_add_101 : decode cX1_add 101 = .ok (.aload_n 0, 1) := by decide +kernel
theorem dX1_add_102 : decode cX1_add 102 = .ok (.getfield 47, 3) := by decide +kernel
theorem dX1_add_105 : decode cX1_add 105 = .ok (.iload_n 3, 1) := by decide +kernel
theorem dX1_add_106 : decode cX1_add 106 = .ok (.iaload, 1) := by decide +kernel
theorem dX1_add_107 : decode cX1_add 107 = .ok (.aload_n 0, 1) := by decide +kernel
theorem dX1_add_108 : decode cX1_add 108 = .ok (.getfield 19, 3) := by decide +kernel
theorem dX1_add_111 : decode cX1_add 111 = .ok (.iload_n 2, 1) := by decide +kernel
theorem dX1_add_112 : decode cX1_add 112 = .ok (.iaload, 1) := by decide +kernel
theorem dX1_add_113 : decode cX1_add 113 = .ok (.iconst 1, 1) := by decide +kernel
theorem dX1_add_114 : decode cX1_add 114 = .ok (.iadd, 1) := by decide +kernel
theorem dX1_add_115 : decode cX1_add 115 = .ok (.invokevirtual 78, 3) := by decide +kernel
theorem dX1_add_118 : decode cX1_add 118 = .ok (.aload_n 0, 1) := by decide +kernel
theorem dX1_add_119 : decode cX1_add 119 = .ok (.getfield 16, 3) := by decide +kernel
theorem dX1_add_122 : decode cX1_add 122 = .ok (.aload_n 0, 1) := by decide +kernel
theorem dX1_add_123 : decode cX1_add 123 = .ok (.getfield 34, 3) := by decide +kernel
theorem dX1_add_126 : decode cX1_add 126 = .ok (.aload_n 0, 1) := by decide +kernel
theorem dX1_add_127 : decode cX1_add 127 = .ok (.getfield 13, 3) := by decide +kernel
theorem dX1_add_130 : decode cX1_add 130 = .ok (.iload_n 2, 1) := by decide +kernel
theorem dX1_add_131 : decode cX1_add 131 = .ok (.iaload, 1) := by decide +kernel
theorem dX1_add_132 : decode cX1_add 132 = .ok (.iastore, 1) := by decide +kernel
theorem dX1_add_133 : decode cX1_add 133 = .ok (.aload_n 0, 1) := by decide +kernel
theorem dX1_add_134 : decode cX1_add 134 = .ok (.getfield 13, 3) := by decide +kernel
theorem dX1_add_137 : decode cX1_add 137 = .ok (.iload_n 2, 1) := by decide +kernel
theorem dX1_add_138 : decode cX1_add 138 = .ok (.aload_n 0, 1) := by decide +kernel
theorem dX1_add_139 : decode cX1_add 139 = .ok (.getfield 34, 3) := by decide +kernel
theorem dX1_add_142 : decode cX1_add 142 = .ok (.iastore, 1) := by decide +kernel
theorem dX1_add_143 : decode cX1_add 143 = .ok (.aload_n 0, 1) := by decide +kernel
theorem dX1_add_144 : decode cX1_add 144 = .ok (.dup, 1) := by decide +kernel
theorem dX1_add_145 : decode cX1_add 145 = .ok (.getfield 34, 3) := by decide +kernel
theorem dX1_add_148 : decode cX1_add 148 = .ok (.dup_x1, 1) := by decide +kernel
theorem dX1_add_149 : decode cX1_add 149 = .ok (.iconst 1, 1) := by decide +kernel
theorem dX1_add_150 : decode cX1_add 150 = .ok (.iadd, 1) := by decide +kernel
theorem dX1_add_151 : decode cX1_add 151 = .ok (.putfield 34, 3) := by decide +kernel
theorem dX1_add_154 : decode cX1_add 154 = .ok (.istore_n 2, 1) := by decide +kernel
theorem dX1_add_155 : decode cX1_add 155 = .ok (.iinc 3 1, 3) := by decide +kernel
theorem dX1_add_158 : decode cX1_add 158 = .ok (.goto (-67), 3) := by decide +kernel
theorem dX1_add_161 : decode cX1_add 161 = .ok (.aload_n 0, 1) := by decide +kernel
theorem dX1_add_162 : decode cX1_add 162 = .ok (.getfield 38, 3) := by decide +kernel
theorem dX1_add_165 : decode cX1_add 165 = .ok (.aload_n 0, 1) := by decide +kernel
theorem dX1_add_166 : decode cX1_add 166 = .ok (.getfield 92, 3) := by decide +kernel
theorem dX1_add_169 : decode cX1_add 169 = .ok (.iconst (-1), 1) := by decide +kernel
theorem dX1_add_170 : decode cX1_add 170 = .ok (.iastore, 1) := by decide +kernel
theorem dX1_add_171 : decode cX1_add 171 = .ok (.aload_n 0, 1) := by decide +kernel
theorem dX1_add_172 : decode cX1_add 172 = .ok (.getfield 41, 3) := by decide +kernel
theorem dX1_add_175 : decode cX1_add 175 = .ok (.aload_n 0, 1) := by decide +kernel
theorem dX1_add_176 : decode cX1_add 176 = .ok (.getfield 92, 3) := by decide +kernel
theorem dX1_add_179 : decode cX1_add 179 = .ok (.iload_n 1, 1) := by decide +kernel
theorem dX1_add_180 : decode cX1_add 180 = .ok (.iastore, 1) := by decide +kernel
theorem dX1_add_181 : decode cX1_add 181 = .ok (.aload_n 0, 1) := by decide +kernel
theorem dX1_add_182 : decode cX1_add 182 = .ok (.getfield 22, 3) := by decide +kernel
theorem dX1_add_185 : decode cX1_add 185 = .ok (.iload_n 2, 1) := by decide +kernel
theorem dX1_add_186 : decode cX1_add 186 = .ok (.iaload, 1) := by decide +kernel
theorem dX1_add_187 : decode cX1_add 187 = .ok (.iconst (-1), 1) := by decide +kernel
theorem dX1_add_188 : decode cX1_add 188 = .ok (.if_icmp .ne 16, 3) := by decide +kernel
theorem dX1_add_191 : decode cX1_add 191 = .ok (.aload_n 0, 1) := by decide +kernel
theorem dX1_add_192 : decode cX1_add 192 = .ok (.getfield 22, 3) := by decide +kernel
theorem dX1_add_195 : decode cX1_add 195 = .ok (.iload_n 2, 1) := by decide +kernel
theorem dX1_add_196 : decode cX1_add 196 = .ok (.aload_n 0, 1) := by decide +kernel
theorem dX1_add_197 : decode cX1_add 197 = .ok (.getfield 92, 3) := by decide +kernel
theorem dX1_add_200 : decode cX1_add 200 = .ok (.iastore, 1) := by decide +kernel
theorem dX1_add_201 : decode cX1_add 201 = .ok (.goto 45, 3) := by decide +kernel
theorem dX1_add_204 : decode cX1_add 204 = .ok (.aload_n 0, 1) := by decide +kernel
theorem dX1_add_205 : decode cX1_add 205 = .ok (.getfield 22, 3) := by decide +kernel
theorem dX1_add_208 : decode cX1_add 208 = .ok (.iload_n 2, 1) := by decide +kernel
theorem dX1_add_209 : decode cX1_add 209 = .ok (.iaload, 1) := by decide +kernel
theorem dX1_add_210 : decode cX1_add 210 = .ok (.istore 4, 2) := by decide +kernel
theorem dX1_add_212 : decode cX1_add 212 = .ok (.aload_n 0, 1) := by decide +kernel
theorem dX1_add_213 : decode cX1_add 213 = .ok (.getfield 38, 3) := by decide +kernel
theorem dX1_add_216 : decode cX1_add 216 = .ok (.iload 4, 2) := by decide +kernel
theorem dX1_add_218 : decode cX1_add 218 = .ok (.iaload, 1) := by decide +kernel
theorem dX1_add_219 : decode cX1_add 219 = .ok (.iconst (-1), 1) := by decide +kernel
theorem dX1_add_220 : decode cX1_add 220 = .ok (.if_icmp .eq 15, 3) := by decide +kernel
theorem dX1_add_223 : decode cX1_add 223 = .ok (.aload_n 0, 1) := by decide +kernel
theorem dX1_add_224 : decode cX1_add 224 = .ok (.getfield 38, 3) := by decide +kernel
theorem dX1_add_227 : decode cX1_add 227 = .ok (.iload 4, 2) := by decide +kernel
theorem dX1_add_229 : decode cX1_add 229 = .ok (.iaload, 1) := by decide +kernel
theorem dX1_add_230 : decode cX1_add 230 = .ok (.istore 4, 2) := by decide +kernel
theorem dX1_add_232 : decode cX1_add 232 = .ok (.goto (-20), 3) := by decide +kernel
theorem dX1_add_235 : decode cX1_add 235 = .ok (.aload_n 0, 1) := by decide +kernel
theorem dX1_add_236 : decode cX1_add 236 = .ok (.getfield 38, 3) := by decide +kernel
theorem dX1_add_239 : decode cX1_add 239 = .ok (.iload 4, 2) := by decide +kernel
theorem dX1_add_241 : decode cX1_add 241 = .ok (.aload_n 0, 1) := by decide +kernel
theorem dX1_add_242 : decode cX1_add 242 = .ok (.getfield 92, 3) := by decide +kernel
theorem dX1_add_245 : decode cX1_add 245 = .ok (.iastore, 1) := by decide +kernel
theorem dX1_add_246 : decode cX1_add 246 = .ok (.aload_n 0, 1) := by decide +kernel
theorem dX1_add_247 : decode cX1_add 247 = .ok (.dup, 1) := by decide +kernel
theorem dX1_add_248 : decode cX1_add 248 = .ok (.getfield 92, 3) := by decide +kernel
theorem dX1_add_251 : decode cX1_add 251 = .ok (.dup_x1, 1) := by decide +kernel
theorem dX1_add_252 : decode cX1_add 252 = .ok (.iconst 1, 1) := by decide +kernel
theorem dX1_add_253 : decode cX1_add 253 = .ok (.iadd, 1) := by decide +kernel
theorem dX1_add_254 : decode cX1_add 254 = .ok (.putfield 92, 3) := by decide +kernel
theorem dX1_add_257 : decode cX1_add 257 = .ok (.ireturn, 1) := by decide +kernel
abbrev cX1_child : ByteArray := prog_1_method_4_code
def yX1_child : MethodName := ⟨RX1, "child", "(II)I"⟩
theorem dX1_child_0 : decode cX1_child 0 = .ok (.aload_n 0, 1) := by decide +kernel
theorem dX1_child_1 : decode cX1_child 1 = .ok (.getfield 13, 3) := by decide +kernel
theorem dX1_child_4 : decode cX1_child 4 = .ok (.iload_n 1, 1) := by decide +kernel
theorem dX1_child_5 : decode cX1_child 5 = .ok (.iaload, 1) := by decide +kernel
theorem dX1_child_6 : decode cX1_child 6 = .ok (.istore_n 3, 1) := by decide +kernel
theorem dX1_child_7 : decode cX1_child 7 = .ok (.iload_n 3, 1) := by decide +kernel
theorem dX1_child_8 : decode cX1_child 8 = .ok (.iconst (-1), 1) := by decide +kernel
theorem dX1_child_9 : decode cX1_child 9 = .ok (.if_icmp .eq 23, 3) := by decide +kernel
theorem dX1_child_12 : decode cX1_child 12 = .ok (.aload_n 0, 1) := by decide +kernel
theorem dX1_child_13 : decode cX1_child 13 = .ok (.getfield 9, 3) := by decide +kernel
theorem dX1_child_16 : decode cX1_child 16 = .ok (.iload_n 3, 1) := by decide +kernel
theorem dX1_child_17 : decode cX1_child 17 = .ok (.iaload, 1) := by decide +kernel
theorem dX1_child_18 : decode cX1_child 18 = .ok (.iload_n 2, 1) := by decide +kernel
theorem dX1_child_19 : decode cX1_child 19 = .ok (.if_icmp .eq 13, 3) := by decide +kernel
theorem dX1_child_22 : decode cX1_child 22 = .ok (.aload_n 0, 1) := by decide +kernel
theorem dX1_child_23 : decode cX1_child 23 = .ok (.getfield 16, 3) := by decide +kernel
theorem dX1_child_26 : decode cX1_child 26 = .ok (.iload_n 3, 1) := by decide +kernel
theorem dX1_child_27 : decode cX1_child 27 = .ok (.iaload, 1) := by decide +kernel
theorem dX1_child_28 : decode cX1_child 28 = .ok (.istore_n 3, 1) := by decide +kernel
theorem dX1_child_29 : decode cX1_child 29 = .ok (.goto (-22), 3) := by decide +kernel
theorem dX1_child_32 : decode cX1_child 32 = .ok (.iload_n 3, 1) := by decide +kernel
theorem dX1_child_33 : decode cX1_child 33 = .ok (.ireturn, 1) := by decide +kernel
abbrev cX1_build : ByteArray := prog_1_method_6_code
def yX1_build : MethodName := ⟨RX1, "build", "()I"⟩
theorem dX1_build_0 : decode cX1_build 0 = .ok (.aload_n 0, 1) := by decide +kernel
theorem dX1_build_1 : decode cX1_build 1 = .ok (.getfield 82, 3) := by decide +kernel
theorem dX1_build_4 : decode cX1_build 4 = .ok (.ifCond .eq 5, 3) := by decide +kernel
theorem dX1_build_7 : decode cX1_build 7 = .ok (.iconst (-1), 1) := by decide +kernel
theorem dX1_build_8 : decode cX1_build 8 = .ok (.ireturn, 1) := by decide +kernel
theorem dX1_build_9 : decode cX1_build 9 = .ok (.aload_n 0, 1) := by decide +kernel
theorem dX1_build_10 : decode cX1_build 10 = .ok (.iconst 1, 1) := by decide +kernel
theorem dX1_build_11 : decode cX1_build 11 = .ok (.putfield 82, 3) := by decide +kernel
theorem dX1_build_14 : decode cX1_build 14 = .ok (.aload_n 0, 1) := by decide +kernel
theorem dX1_build_15 : decode cX1_build 15 = .ok (.getfield 25, 3) := by decide +kernel
theorem dX1_build_18 : decode cX1_build 18 = .ok (.iconst 0, 1) := by decide +kernel
theorem dX1_build_19 : decode cX1_build 19 = .ok (.iconst 0, 1) := by decide +kernel
theorem dX1_build_20 : decode cX1_build 20 = .ok (.iastore, 1) := by decide +kernel
theorem dX1_build_21 : decode cX1_build 21 = .ok (.aload_n 0, 1) := by decide +kernel
theorem dX1_build_22 : decode cX1_build 22 = .ok (.getfield 28, 3) := by decide +kernel
theorem dX1_build_25 : decode cX1_build 25 = .ok (.iconst 0, 1) := by decide +kernel
theorem dX1_build_26 : decode cX1_build 26 = .ok (.iconst (-1), 1) := by decide +kernel
theorem dX1_build_27 : decode cX1_build 27 = .ok (.iastore, 1) := by decide +kernel
theorem dX1_build_28 : decode cX1_build 28 = .ok (.aload_n 0, 1) := by decide +kernel
theorem dX1_build_29 : decode cX1_build 29 = .ok (.getfield 31, 3) := by decide +kernel
theorem dX1_build_32 : decode cX1_build 32 = .ok (.iconst 0, 1) := by decide +kernel
theorem dX1_build_33 : decode cX1_build 33 = .ok (.iconst 0, 1) := by decide +kernel
theorem dX1_build_34 : decode cX1_build 34 = .ok (.iastore, 1) := by decide +kernel
theorem dX1_build_35 : decode cX1_build 35 = .ok (.iconst 1, 1) := by decide +kernel
theorem dX1_build_36 : decode cX1_build 36 = .ok (.istore_n 1, 1) := by decide +kernel
theorem dX1_build_37 : decode cX1_build 37 = .ok (.iconst 0, 1) := by decide +kernel
theorem dX1_build_38 : decode cX1_build 38 = .ok (.istore_n 2, 1) := by decide +kernel
theorem dX1_build_39 : decode cX1_build 39 = .ok (.iload_n 2, 1) := by decide +kernel
theorem dX1_build_40 : decode cX1_build 40 = .ok (.iload_n 1, 1) := by decide +kernel
theorem dX1_build_41 : decode cX1_build 41 = .ok (.if_icmp .ge 120, 3) := by decide +kernel
theorem dX1_build_44 : decode cX1_build 44 = .ok (.aload_n 0, 1) := by decide +kernel
theorem dX1_build_45 : decode cX1_build 45 = .ok (.getfield 31, 3) := by decide +kernel
theorem dX1_build_48 : decode cX1_build 48 = .ok (.iload_n 2, 1) := by decide +kernel
theorem dX1_build_49 : decode cX1_build 49 = .ok (.iaload, 1) := by decide +kernel
theorem dX1_build_50 : decode cX1_build 50 = .ok (.istore_n 3, 1) := by decide +kernel
theorem dX1_build_51 : decode cX1_build 51 = .ok (.aload_n 0, 1) := by decide +kernel
theorem dX1_build_52 : decode cX1_build 52 = .ok (.getfield 13, 3) := by decide +kernel
theorem dX1_build_55 : decode cX1_build 55 = .ok (.iload_n 3, 1) := by decide +kernel
theorem dX1_build_56 : decode cX1_build 56 = .ok (.iaload, 1) := by decide +kernel
theorem dX1_build_57 : decode cX1_build 57 = .ok (.istore 4, 2) := by decide +kernel
theorem dX1_build_59 : decode cX1_build 59 = .ok (.iload 4, 2) := by decide +kernel
theorem dX1_build_61 : decode cX1_build 61 = .ok (.iconst (-1), 1) := by decide +kernel
theorem dX1_build_62 : decode cX1_build 62 = .ok (.if_icmp .eq 93, 3) := by decide +kernel
theorem dX1_build_65 : decode cX1_build 65 = .ok (.aload_n 0, 1) := by decide +kernel
theorem dX1_build_66 : decode cX1_build 66 = .ok (.getfield 25, 3) := by decide +kernel
theorem dX1_build_69 : decode cX1_build 69 = .ok (.iload 4, 2) := by decide +kernel
theorem dX1_build_71 : decode cX1_build 71 = .ok (.iload_n 3, 1) := by decide +kernel
theorem dX1_build_72 : decode cX1_build 72 = .ok (.ifCond .ne 7, 3) := by decide +kernel
theorem dX1_build_75 : decode cX1_build 75 = .ok (.iconst 0, 1) := by decide +kernel
theorem dX1_build_76 : decode cX1_build 76 = .ok (.goto 20, 3) := by decide +kernel
theorem dX1_build_79 : decode cX1_build 79 = .ok (.aload_n 0, 1) := by decide +kernel
theorem dX1_build_80 : decode cX1_build 80 = .ok (.aload_n 0, 1) := by decide +kernel
theorem dX1_build_81 : decode cX1_build 81 = .ok (.getfield 25, 3) := by decide +kernel
theorem dX1_build_84 : decode cX1_build 84 = .ok (.iload_n 3, 1) := by decide +kernel
theorem dX1_build_85 : decode cX1_build 85 = .ok (.iaload, 1) := by decide +kernel
theorem dX1_build_86 : decode cX1_build 86 = .ok (.aload_n 0, 1) := by decide +kernel
theorem dX1_build_87 : decode cX1_build 87 = .ok (.getfield 9, 3) := by decide +kernel
theorem dX1_build_90 : decode cX1_build 90 = .ok (.iload 4, 2) := by decide +kernel
theorem dX1_build_92 : decode cX1_build 92 = .ok (.iaload, 1) := by decide +kernel
theorem dX1_build_93 : decode cX1_build 93 = .ok (.invokevirtual 95, 3) := by decide +kernel
theorem dX1_build_96 : decode cX1_build 96 = .ok (.iastore, 1) := by decide +kernel
theorem dX1_build_97 : decode cX1_build 97 = .ok (.aload_n 0, 1) := by decide +kernel
theorem dX1_build_98 : decode cX1_build 98 = .ok (.getfield 28, 3) := by decide +kernel
theorem dX1_build_101 : decode cX1_build 101 = .ok (.iload 4, 2) := by decide +kernel
theorem dX1_build_103 : decode cX1_build 103 = .ok (.aload_n 0, 1) := by decide +kernel
theorem dX1_build_104 : decode cX1_build 104 = .ok (.getfield 22, 3) := by decide +kernel
theorem dX1_build_107 : decode cX1_build 107 = .ok (.iload 4, 2) := by decide +kernel
theorem dX1_build_109 : decode cX1_build 109 = .ok (.iaload, 1) := by decide +kernel
theorem dX1_build_110 : decode cX1_build 110 = .ok (.iconst (-1), 1) := by decide +kernel
theorem dX1_build_111 : decode cX1_build 111 = .ok (.if_icmp .eq 8, 3) := by decide +kernel
theorem dX1_build_114 : decode cX1_build 114 = .ok (.iload 4, 2) := by decide +kernel
theorem dX1_build_116 : decode cX1_build 116 = .ok (.goto 15, 3) := by decide +kernel
theorem dX1_build_119 : decode cX1_build 119 = .ok (.aload_n 0, 1) := by decide +kernel
theorem dX1_build_120 : decode cX1_build 120 = .ok (.getfield 28, 3) := by decide +kernel
theorem dX1_build_123 : decode cX1_build 123 = .ok (.aload_n 0, 1) := by decide +kernel
theorem dX1_build_124 : decode cX1_build 124 = .ok (.getfield 25, 3) := by decide +kernel
theorem dX1_build_127 : decode cX1_build 127 = .ok (.iload 4, 2) := by decide +kernel
theorem dX1_build_129 : decode cX1_build 129 = .ok (.iaload, 1) := by decide +kernel
theorem dX1_build_130 : decode cX1_build 130 = .ok (.iaload, 1) := by decide +kernel
theorem dX1_build_131 : decode cX1_build 131 = .ok (.iastore, 1) := by decide +kernel
theorem dX1_build_132 : decode cX1_build 132 = .ok (.aload_n 0, 1) := by decide +kernel
theorem dX1_build_133 : decode cX1_build 133 = .ok (.getfield 31, 3) := by decide +kernel
theorem dX1_build_136 : decode cX1_build 136 = .ok (.iload_n 1, 1) := by decide +kernel
theorem dX1_build_137 : decode cX1_build 137 = .ok (.iinc 1 1, 3) := by decide +kernel
theorem dX1_build_140 : decode cX1_build 140 = .ok (.iload 4, 2) := by decide +kernel
theorem dX1_build_142 : decode cX1_build 142 = .ok (.iastore, 1) := by decide +kernel
theorem dX1_build_143 : decode cX1_build 143 = .ok (.aload_n 0, 1) := by decide +kernel
theorem dX1_build_144 : decode cX1_build 144 = .ok (.getfield 16, 3) := by decide +kernel
theorem dX1_build_147 : decode cX1_build 147 = .ok (.iload 4, 2) := by decide +kernel
theorem dX1_build_149 : decode cX1_build 149 = .ok (.iaload, 1) := by decide +kernel
theorem dX1_build_150 : decode cX1_build 150 = .ok (.istore 4, 2) := by decide +kernel
theorem dX1_build_152 : decode cX1_build 152 = .ok (.goto (-93), 3) := by decide +kernel
theorem dX1_build_155 : decode cX1_build 155 = .ok (.iinc 2 1, 3) := by decide +kernel
theorem dX1_build_158 : decode cX1_build 158 = .ok (.goto (-119), 3) := by decide +kernel
theorem dX1_build_161 : decode cX1_build 161 = .ok (.aload_n 0, 1) := by decide +kernel
theorem dX1_build_162 : decode cX1_build 162 = .ok (.getfield 34, 3) := by decide +kernel
theorem dX1_build_165 : decode cX1_build 165 = .ok (.ireturn, 1) := by decide +kernel
abbrev cX1_follow : ByteArray := prog_1_method_7_code
def yX1_follow : MethodName := ⟨RX1, "follow", "(II)I"⟩
theorem dX1_follow_0 : decode cX1_follow 0 = .ok (.iload_n 1, 1) := by decide +kernel
theorem dX1_follow_1 : decode cX1_follow 1 = .ok (.istore_n 3, 1) := by decide +kernel
theorem dX1_follow_2 : decode cX1_follow 2 = .ok (.iload_n 3, 1) := by decide +kernel
theorem dX1_follow_3 : decode cX1_follow 3 = .ok (.ifCond .eq 23, 3) := by decide +kernel
theorem dX1_follow_6 : decode cX1_follow 6 = .ok (.aload_n 0, 1) := by decide +kernel
theorem dX1_follow_7 : decode cX1_follow 7 = .ok (.iload_n 3, 1) := by decide +kernel
theorem dX1_follow_8 : decode cX1_follow 8 = .ok (.iload_n 2, 1) := by decide +kernel
theorem dX1_follow_9 : decode cX1_follow 9 = .ok (.invokevirtual 89, 3) := by decide +kernel
theorem dX1_follow_12 : decode cX1_follow 12 = .ok (.iconst (-1), 1) := by decide +kernel
theorem dX1_follow_13 : decode cX1_follow 13 = .ok (.if_icmp .ne 13, 3) := by decide +kernel
theorem dX1_follow_16 : decode cX1_follow 16 = .ok (.aload_n 0, 1) := by decide +kernel
theorem dX1_follow_17 : decode cX1_follow 17 = .ok (.getfield 25, 3) := by decide +kernel
theorem dX1_follow_20 : decode cX1_follow 20 = .ok (.iload_n 3, 1) := by decide +kernel
theorem dX1_follow_21 : decode cX1_follow 21 = .ok (.iaload, 1) := by decide +kernel
theorem dX1_follow_22 : decode cX1_follow 22 = .ok (.istore_n 3, 1) := by decide +kernel
theorem dX1_follow_23 : decode cX1_follow 23 = .ok (.goto (-21), 3) := by decide +kernel
theorem dX1_follow_26 : decode cX1_follow 26 = .ok (.aload_n 0, 1) := by decide +kernel
theorem dX1_follow_27 : decode cX1_follow 27 = .ok (.iload_n 3, 1) := by decide +kernel
theorem dX1_follow_28 : decode cX1_follow 28 = .ok (.iload_n 2, 1) := by decide +kernel
theorem dX1_follow_29 : decode cX1_follow 29 = .ok (.invokevirtual 89, 3) := by decide +kernel
theorem dX1_follow_32 : decode cX1_follow 32 = .ok (.istore 4, 2) := by decide +kernel
theorem dX1_follow_34 : decode cX1_follow 34 = .ok (.iload 4, 2) := by decide +kernel
theorem dX1_follow_36 : decode cX1_follow 36 = .ok (.iconst (-1), 1) := by decide +kernel
theorem dX1_follow_37 : decode cX1_follow 37 = .ok (.if_icmp .ne 7, 3) := by decide +kernel
theorem dX1_follow_40 : decode cX1_follow 40 = .ok (.iconst 0, 1) := by decide +kernel
theorem dX1_follow_41 : decode cX1_follow 41 = .ok (.goto 5, 3) := by decide +kernel
theorem dX1_follow_44 : decode cX1_follow 44 = .ok (.iload 4, 2) := by decide +kernel
theorem dX1_follow_46 : decode cX1_follow 46 = .ok (.ireturn, 1) := by decide +kernel
abbrev cX1_text : ByteArray := prog_1_method_8_code
def yX1_text : MethodName := ⟨RX1, "text", "(IIIIII)I"⟩
theorem dX1_text_0 : decode cX1_text 0 = .ok (.aload_n 0, 1) := by decide +kernel
theorem dX1_text_1 : decode cX1_text 1 = .ok (.getfield 82, 3) := by decide +kernel
theorem dX1_text_4 : decode cX1_text 4 = .ok (.ifCond .eq 25, 3) := by decide +kernel
theorem dX1_text_7 : decode cX1_text 7 = .ok (.iload 6, 2) := by decide +kernel
theorem dX1_text_9 : decode cX1_text 9 = .ok (.ifCond .lt 20, 3) := by decide +kernel
theorem dX1_text_12 : decode cX1_text 12 = .ok (.iload 6, 2) := by decide +kernel
theorem dX1_text_14 : decode cX1_text 14 = .ok (.bipush 20, 2) := by decide +kernel
theorem dX1_text_16 : decode cX1_text 16 = .ok (.if_icmp .gt 13, 3) := by decide +kernel
theorem dX1_text_19 : decode cX1_text 19 = .ok (.aload_n 0, 1) := by decide +kernel
theorem dX1_text_20 : decode cX1_text 20 = .ok (.getfield 98, 3) := by decide +kernel
theorem dX1_text_23 : decode cX1_text 23 = .ok (.sipush 3000, 3) := by decide +kernel
theorem dX1_text_26 : decode cX1_text 26 = .ok (.if_icmp .le 5, 3) := by decide +kernel
theorem dX1_text_29 : decode cX1_text 29 = .ok (.iconst (-1), 1) := by decide +kernel
theorem dX1_text_30 : decode cX1_text 30 = .ok (.ireturn, 1) := by decide +kernel
theorem dX1_text_31 : decode cX1_text 31 = .ok (.aload_n 0, 1) := by decide +kernel
theorem dX1_text_32 : decode cX1_text 32 = .ok (.getfield 98, 3) := by decide +kernel
theorem dX1_text_35 : decode cX1_text 35 = .ok (.istore 7, 2) := by decide +kernel
theorem dX1_text_37 : decode cX1_text 37 = .ok (.iconst 0, 1) := by decide +kernel
theorem dX1_text_38 : decode cX1_text 38 = .ok (.istore 8, 2) := by decide +kernel
theorem dX1_text_40 : decode cX1_text 40 = .ok (.iload 8, 2) := by decide +kernel
theorem dX1_text_42 : decode cX1_text 42 = .ok (.iload 6, 2) := by decide +kernel
theorem dX1_text_44 : decode cX1_text 44 = .ok (.if_icmp .ge 78, 3) := by decide +kernel
theorem dX1_text_47 : decode cX1_text 47 = .ok (.iload 8, 2) := by decide +kernel
theorem dX1_text_49 : decode cX1_text 49 = .ok (.iconst 4, 1) := by decide +kernel
theorem dX1_text_50 : decode cX1_text 50 = .ok (.if_icmp .ge 7, 3) := by decide +kernel
theorem dX1_text_53 : decode cX1_text 53 = .ok (.iload_n 1, 1) := by decide +kernel
theorem dX1_text_54 : decode cX1_text 54 = .ok (.goto 39, 3) := by decide +kernel
theorem dX1_text_57 : decode cX1_text 57 = .ok (.iload 8, 2) := by decide +kernel
theorem dX1_text_59 : decode cX1_text 59 = .ok (.bipush 8, 2) := by decide +kernel
theorem dX1_text_61 : decode cX1_text 61 = .ok (.if_icmp .ge 7, 3) := by decide +kernel
theorem dX1_text_64 : decode cX1_text 64 = .ok (.iload_n 2, 1) := by decide +kernel
theorem dX1_text_65 : decode cX1_text 65 = .ok (.goto 28, 3) := by decide +kernel
theorem dX1_text_68 : decode cX1_text 68 = .ok (.iload 8, 2) := by decide +kernel
theorem dX1_text_70 : decode cX1_text 70 = .ok (.bipush 12, 2) := by decide +kernel
theorem dX1_text_72 : decode cX1_text 72 = .ok (.if_icmp .ge 7, 3) := by decide +kernel
theorem dX1_text_75 : decode cX1_text 75 = .ok (.iload_n 3, 1) := by decide +kernel
theorem dX1_text_76 : decode cX1_text 76 = .ok (.goto 17, 3) := by decide +kernel
theorem dX1_text_79 : decode cX1_text 79 = .ok (.iload 8, 2) := by decide +kernel
theorem dX1_text_81 : decode cX1_text 81 = .ok (.bipush 16, 2) := by decide +kernel
theorem dX1_text_83 : decode cX1_text 83 = .ok (.if_icmp .ge 8, 3) := by decide +kernel
theorem dX1_text_86 : decode cX1_text 86 = .ok (.iload 4, 2) := by decide +kernel
theorem dX1_text_88 : decode cX1_text 88 = .ok (.goto 5, 3) := by decide +kernel
theorem dX1_text_91 : decode cX1_text 91 = .ok (.iload 5, 2) := by decide +kernel
theorem dX1_text_93 : decode cX1_text 93 = .ok (.istore 9, 2) := by decide +kernel
theorem dX1_text_95 : decode cX1_text 95 = .ok (.aload_n 0, 1) := by decide +kernel
theorem dX1_text_96 : decode cX1_text 96 = .ok (.iload 9, 2) := by decide +kernel
theorem dX1_text_98 : decode cX1_text 98 = .ok (.bipush 24, 2) := by decide +kernel
theorem dX1_text_100 : decode cX1_text 100 = .ok (.bipush 8, 2) := by decide +kernel
theorem dX1_text_102 : decode cX1_text 102 = .ok (.iload 8, 2) := by decide +kernel
theorem dX1_text_104 : decode cX1_text 104 = .ok (.iconst 4, 1) := by decide +kernel
theorem dX1_text_105 : decode cX1_text 105 = .ok (.irem, 1) := by decide +kernel
theorem dX1_text_106 : decode cX1_text 106 = .ok (.imul, 1) := by decide +kernel
theorem dX1_text_107 : decode cX1_text 107 = .ok (.isub, 1) := by decide +kernel
theorem dX1_text_108 : decode cX1_text 108 = .ok (.ishr, 1) := by decide +kernel
theorem dX1_text_109 : decode cX1_text 109 = .ok (.sipush 255, 3) := by decide +kernel
theorem dX1_text_112 : decode cX1_text 112 = .ok (.iand, 1) := by decide +kernel
theorem dX1_text_113 : decode cX1_text 113 = .ok (.invokevirtual 101, 3) := by decide +kernel
theorem dX1_text_116 : decode cX1_text 116 = .ok (.iinc 8 1, 3) := by decide +kernel
theorem dX1_text_119 : decode cX1_text 119 = .ok (.goto (-79), 3) := by decide +kernel
theorem dX1_text_122 : decode cX1_text 122 = .ok (.aload_n 0, 1) := by decide +kernel
theorem dX1_text_123 : decode cX1_text 123 = .ok (.iload 6, 2) := by decide +kernel
theorem dX1_text_125 : decode cX1_text 125 = .ok (.ifCond .le 7, 3) := by decide +kernel
theorem dX1_text_128 : decode cX1_text 128 = .ok (.iconst 0, 1) := by decide +kernel
theorem dX1_text_129 : decode cX1_text 129 = .ok (.goto 7, 3) := by decide +kernel
theorem dX1_text_132 : decode cX1_text 132 = .ok (.aload_n 0, 1) := by decide +kernel
theorem dX1_text_133 : decode cX1_text 133 = .ok (.getfield 105, 3) := by decide +kernel
theorem dX1_text_136 : decode cX1_text 136 = .ok (.putfield 105, 3) := by decide +kernel
theorem dX1_text_139 : decode cX1_text 139 = .ok (.aload_n 0, 1) := by decide +kernel
theorem dX1_text_140 : decode cX1_text 140 = .ok (.getfield 98, 3) := by decide +kernel
theorem dX1_text_143 : decode cX1_text 143 = .ok (.iload 7, 2) := by decide +kernel
theorem dX1_text_145 : decode cX1_text 145 = .ok (.isub, 1) := by decide +kernel
theorem dX1_text_146 : decode cX1_text 146 = .ok (.ireturn, 1) := by decide +kernel
abbrev cX1_come : ByteArray := prog_1_method_9_code
def yX1_come : MethodName := ⟨RX1, "come", "(I)V"⟩
theorem dX1_come_0 : decode cX1_come 0 = .ok (.aload_n 0, 1) := by decide +kernel
theorem dX1_come_1 : decode cX1_come 1 = .ok (.dup, 1) := by decide +kernel
theorem dX1_come_2 : decode cX1_come 2 = .ok (.getfield 108, 3) := by decide +kernel
theorem dX1_come_5 : decode cX1_come 5 = .ok (.lconst 1, 1) := by decide +kernel
theorem dX1_come_6 : decode cX1_come 6 = .ok (.ladd, 1) := by decide +kernel
theorem dX1_come_7 : decode cX1_come 7 = .ok (.putfield 108, 3) := by decide +kernel
theorem dX1_come_10 : decode cX1_come 10 = .ok (.iload_n 1, 1) := by decide +kernel
theorem dX1_come_11 : decode cX1_come 11 = .ok (.bipush 10, 2) := by decide +kernel
theorem dX1_come_13 : decode cX1_come 13 = .ok (.if_icmp .ne 21, 3) := by decide +kernel
theorem dX1_come_16 : decode cX1_come 16 = .ok (.aload_n 0, 1) := by decide +kernel
theorem dX1_come_17 : decode cX1_come 17 = .ok (.iconst 0, 1) := by decide +kernel
theorem dX1_come_18 : decode cX1_come 18 = .ok (.putfield 112, 3) := by decide +kernel
theorem dX1_come_21 : decode cX1_come 21 = .ok (.aload_n 0, 1) := by decide +kernel
theorem dX1_come_22 : decode cX1_come 22 = .ok (.dup, 1) := by decide +kernel
theorem dX1_come_23 : decode cX1_come 23 = .ok (.getfield 50, 3) := by decide +kernel
theorem dX1_come_26 : decode cX1_come 26 = .ok (.iconst 1, 1) := by decide +kernel
theorem dX1_come_27 : decode cX1_come 27 = .ok (.iadd, 1) := by decide +kernel
theorem dX1_come_28 : decode cX1_come 28 = .ok (.putfield 50, 3) := by decide +kernel
theorem dX1_come_31 : decode cX1_come 31 = .ok (.goto 77, 3) := by decide +kernel
theorem dX1_come_34 : decode cX1_come 34 = .ok (.aload_n 0, 1) := by decide +kernel
theorem dX1_come_35 : decode cX1_come 35 = .ok (.getfield 112, 3) := by decide +kernel
theorem dX1_come_38 : decode cX1_come 38 = .ok (.ifCond .eq 42, 3) := by decide +kernel
theorem dX1_come_41 : decode cX1_come 41 = .ok (.aload_n 0, 1) := by decide +kernel
theorem dX1_come_42 : decode cX1_come 42 = .ok (.aload_n 0, 1) := by decide +kernel
theorem dX1_come_43 : decode cX1_come 43 = .ok (.getfield 112, 3) := by decide +kernel
theorem dX1_come_46 : decode cX1_come 46 = .ok (.iload_n 1, 1) := by decide +kernel
theorem dX1_come_47 : decode cX1_come 47 = .ok (.invokevirtual 89, 3) := by decide +kernel
theorem dX1_come_50 : decode cX1_come 50 = .ok (.iconst (-1), 1) := by decide +kernel
theorem dX1_come_51 : decode cX1_come 51 = .ok (.if_icmp .ne 29, 3) := by decide +kernel
theorem dX1_come_54 : decode cX1_come 54 = .ok (.aload_n 0, 1) := by decide +kernel
theorem dX1_come_55 : decode cX1_come 55 = .ok (.aload_n 0, 1) := by decide +kernel
theorem dX1_come_56 : decode cX1_come 56 = .ok (.getfield 25, 3) := by decide +kernel
theorem dX1_come_59 : decode cX1_come 59 = .ok (.aload_n 0, 1) := by decide +kernel
theorem dX1_come_60 : decode cX1_come 60 = .ok (.getfield 112, 3) := by decide +kernel
theorem dX1_come_63 : decode cX1_come 63 = .ok (.iaload, 1) := by decide +kernel
theorem dX1_come_64 : decode cX1_come 64 = .ok (.putfield 112, 3) := by decide +kernel
theorem dX1_come_67 : decode cX1_come 67 = .ok (.aload_n 0, 1) := by decide +kernel
theorem dX1_come_68 : decode cX1_come 68 = .ok (.dup, 1) := by decide +kernel
theorem dX1_come_69 : decode cX1_come 69 = .ok (.getfield 108, 3) := by decide +kernel
theorem dX1_come_72 : decode cX1_come 72 = .ok (.lconst 1, 1) := by decide +kernel
theorem dX1_come_73 : decode cX1_come 73 = .ok (.ladd, 1) := by decide +kernel
theorem dX1_come_74 : decode cX1_come 74 = .ok (.putfield 108, 3) := by decide +kernel
theorem dX1_come_77 : decode cX1_come 77 = .ok (.goto (-43), 3) := by decide +kernel
theorem dX1_come_80 : decode cX1_come 80 = .ok (.aload_n 0, 1) := by decide +kernel
theorem dX1_come_81 : decode cX1_come 81 = .ok (.aload_n 0, 1) := by decide +kernel
theorem dX1_come_82 : decode cX1_come 82 = .ok (.getfield 112, 3) := by decide +kernel
theorem dX1_come_85 : decode cX1_come 85 = .ok (.iload_n 1, 1) := by decide +kernel
theorem dX1_come_86 : decode cX1_come 86 = .ok (.invokevirtual 89, 3) := by decide +kernel
theorem dX1_come_89 : decode cX1_come 89 = .ok (.istore_n 2, 1) := by decide +kernel
theorem dX1_come_90 : decode cX1_come 90 = .ok (.aload_n 0, 1) := by decide +kernel
theorem dX1_come_91 : decode cX1_come 91 = .ok (.iload_n 2, 1) := by decide +kernel
theorem dX1_come_92 : decode cX1_come 92 = .ok (.iconst (-1), 1) := by decide +kernel
theorem dX1_come_93 : decode cX1_come 93 = .ok (.if_icmp .ne 7, 3) := by decide +kernel
theorem dX1_come_96 : decode cX1_come 96 = .ok (.iconst 0, 1) := by decide +kernel
theorem dX1_come_97 : decode cX1_come 97 = .ok (.goto 4, 3) := by decide +kernel
theorem dX1_come_100 : decode cX1_come 100 = .ok (.iload_n 2, 1) := by decide +kernel
theorem dX1_come_101 : decode cX1_come 101 = .ok (.putfield 112, 3) := by decide +kernel
theorem dX1_come_104 : decode cX1_come 104 = .ok (.aload_n 0, 1) := by decide +kernel
theorem dX1_come_105 : decode cX1_come 105 = .ok (.invokevirtual 115, 3) := by decide +kernel
theorem dX1_come_108 : decode cX1_come 108 = .ok (.aload_n 0, 1) := by decide +kernel
theorem dX1_come_109 : decode cX1_come 109 = .ok (.dup, 1) := by decide +kernel
theorem dX1_come_110 : decode cX1_come 110 = .ok (.getfield 118, 3) := by decide +kernel
theorem dX1_come_113 : decode cX1_come 113 = .ok (.lconst 1, 1) := by decide +kernel
theorem dX1_come_114 : decode cX1_come 114 = .ok (.ladd, 1) := by decide +kernel
theorem dX1_come_115 : decode cX1_come 115 = .ok (.putfield 118, 3) := by decide +kernel
theorem dX1_come_118 : decode cX1_come 118 = .ok (.return_, 1) := by decide +kernel
abbrev cX1_tell : ByteArray := prog_1_method_10_code
def yX1_tell : MethodName := ⟨RX1, "tell", "()V"⟩
theorem dX1_tell_0 : decode cX1_tell 0 = .ok (.aload_n 0, 1) := by decide +kernel
theorem dX1_tell_1 : decode cX1_tell 1 = .ok (.getfield 28, 3) := by decide +kernel
theorem dX1_tell_4 : decode cX1_tell 4 = .ok (.aload_n 0, 1) := by decide +kernel
theorem dX1_tell_5 : decode cX1_tell 5 = .ok (.getfield 112, 3) := by decide +kernel
theorem dX1_tell_8 : decode cX1_tell 8 = .ok (.iaload, 1) := by decide +kernel
theorem dX1_tell_9 : decode cX1_tell 9 = .ok (.istore_n 1, 1) := by decide +kernel
theorem dX1_tell_10 : decode cX1_tell 10 = .ok (.iload_n 1, 1) := by decide +kernel
theorem dX1_tell_11 : decode cX1_tell 11 = .ok (.iconst (-1), 1) := by decide +kernel
theorem dX1_tell_12 : decode cX1_tell 12 = .ok (.if_icmp .eq 45, 3) := by decide +kernel
theorem dX1_tell_15 : decode cX1_tell 15 = .ok (.aload_n 0, 1) := by decide +kernel
theorem dX1_tell_16 : decode cX1_tell 16 = .ok (.getfield 22, 3) := by decide +kernel
theorem dX1_tell_19 : decode cX1_tell 19 = .ok (.iload_n 1, 1) := by decide +kernel
theorem dX1_tell_20 : decode cX1_tell 20 = .ok (.iaload, 1) := by decide +kernel
theorem dX1_tell_21 : decode cX1_tell 21 = .ok (.istore_n 2, 1) := by decide +kernel
theorem dX1_tell_22 : decode cX1_tell 22 = .ok (.iload_n 2, 1) := by decide +kernel
theorem dX1_tell_23 : decode cX1_tell 23 = .ok (.iconst (-1), 1) := by decide +kernel
theorem dX1_tell_24 : decode cX1_tell 24 = .ok (.if_icmp .eq 18, 3) := by decide +kernel
theorem dX1_tell_27 : decode cX1_tell 27 = .ok (.aload_n 0, 1) := by decide +kernel
theorem dX1_tell_28 : decode cX1_tell 28 = .ok (.iload_n 2, 1) := by decide +kernel
theorem dX1_tell_29 : decode cX1_tell 29 = .ok (.invokevirtual 121, 3) := by decide +kernel
theorem dX1_tell_32 : decode cX1_tell 32 = .ok (.aload_n 0, 1) := by decide +kernel
theorem dX1_tell_33 : decode cX1_tell 33 = .ok (.getfield 38, 3) := by decide +kernel
theorem dX1_tell_36 : decode cX1_tell 36 = .ok (.iload_n 2, 1) := by decide +kernel
theorem dX1_tell_37 : decode cX1_tell 37 = .ok (.iaload, 1) := by decide +kernel
theorem dX1_tell_38 : decode cX1_tell 38 = .ok (.istore_n 2, 1) := by decide +kernel
theorem dX1_tell_39 : decode cX1_tell 39 = .ok (.goto (-17), 3) := by decide +kernel
theorem dX1_tell_42 : decode cX1_tell 42 = .ok (.aload_n 0, 1) := by decide +kernel
theorem dX1_tell_43 : decode cX1_tell 43 = .ok (.getfield 28, 3) := by decide +kernel
theorem dX1_tell_46 : decode cX1_tell 46 = .ok (.aload_n 0, 1) := by decide +kernel
theorem dX1_tell_47 : decode cX1_tell 47 = .ok (.getfield 25, 3) := by decide +kernel
theorem dX1_tell_50 : decode cX1_tell 50 = .ok (.iload_n 1, 1) := by decide +kernel
theorem dX1_tell_51 : decode cX1_tell 51 = .ok (.iaload, 1) := by decide +kernel
theorem dX1_tell_52 : decode cX1_tell 52 = .ok (.iaload, 1) := by decide +kernel
theorem dX1_tell_53 : decode cX1_tell 53 = .ok (.istore_n 1, 1) := by decide +kernel
theorem dX1_tell_54 : decode cX1_tell 54 = .ok (.goto (-44), 3) := by decide +kernel
theorem dX1_tell_57 : decode cX1_tell 57 = .ok (.return_, 1) := by decide +kernel
abbrev cX1_keep : ByteArray := prog_1_method_11_code
def yX1_keep : MethodName := ⟨RX1, "keep", "(I)V"⟩
theorem dX1_keep_0 : decode cX1_keep 0 = .ok (.aload_n 0, 1) := by decide +kernel
theorem dX1_keep_1 : decode cX1_keep 1 = .ok (.getfield 56, 3) := by decide +kernel
theorem dX1_keep_4 : decode cX1_keep 4 = .ok (.aload_n 0, 1) := by decide +kernel
theorem dX1_keep_5 : decode cX1_keep 5 = .ok (.getfield 98, 3) := by decide +kernel
theorem dX1_keep_8 : decode cX1_keep 8 = .ok (.iload_n 1, 1) := by decide +kernel
theorem dX1_keep_9 : decode cX1_keep 9 = .ok (.iastore, 1) := by decide +kernel
theorem dX1_keep_10 : decode cX1_keep 10 = .ok (.aload_n 0, 1) := by decide +kernel
theorem dX1_keep_11 : decode cX1_keep 11 = .ok (.getfield 59, 3) := by decide +kernel
theorem dX1_keep_14 : decode cX1_keep 14 = .ok (.aload_n 0, 1) := by decide +kernel
theorem dX1_keep_15 : decode cX1_keep 15 = .ok (.dup, 1) := by decide +kernel
theorem dX1_keep_16 : decode cX1_keep 16 = .ok (.getfield 98, 3) := by decide +kernel
theorem dX1_keep_19 : decode cX1_keep 19 = .ok (.dup_x1, 1) := by decide +kernel
theorem dX1_keep_20 : decode cX1_keep 20 = .ok (.iconst 1, 1) := by decide +kernel
theorem dX1_keep_21 : decode cX1_keep 21 = .ok (.iadd, 1) := by decide +kernel
theorem dX1_keep_22 : decode cX1_keep 22 = .ok (.putfield 98, 3) := by decide +kernel
theorem dX1_keep_25 : decode cX1_keep 25 = .ok (.aload_n 0, 1) := by decide +kernel
theorem dX1_keep_26 : decode cX1_keep 26 = .ok (.getfield 118, 3) := by decide +kernel
theorem dX1_keep_29 : decode cX1_keep 29 = .ok (.lastore, 1) := by decide +kernel
theorem dX1_keep_30 : decode cX1_keep 30 = .ok (.aload_n 0, 1) := by decide +kernel
theorem dX1_keep_31 : decode cX1_keep 31 = .ok (.getfield 44, 3) := by decide +kernel
theorem dX1_keep_34 : decode cX1_keep 34 = .ok (.iload_n 1, 1) := by decide +kernel
theorem dX1_keep_35 : decode cX1_keep 35 = .ok (.dup2, 1) := by decide +kernel
theorem dX1_keep_36 : decode cX1_keep 36 = .ok (.iaload, 1) := by decide +kernel
theorem dX1_keep_37 : decode cX1_keep 37 = .ok (.iconst 1, 1) := by decide +kernel
theorem dX1_keep_38 : decode cX1_keep 38 = .ok (.iadd, 1) := by decide +kernel
theorem dX1_keep_39 : decode cX1_keep 39 = .ok (.iastore, 1) := by decide +kernel
theorem dX1_keep_40 : decode cX1_keep 40 = .ok (.aload_n 0, 1) := by decide +kernel
theorem dX1_keep_41 : decode cX1_keep 41 = .ok (.getfield 124, 3) := by decide +kernel
theorem dX1_keep_44 : decode cX1_keep 44 = .ok (.aload_n 0, 1) := by decide +kernel
theorem dX1_keep_45 : decode cX1_keep 45 = .ok (.getfield 50, 3) := by decide +kernel
theorem dX1_keep_48 : decode cX1_keep 48 = .ok (.if_icmp .eq 31, 3) := by decide +kernel
theorem dX1_keep_51 : decode cX1_keep 51 = .ok (.aload_n 0, 1) := by decide +kernel
theorem dX1_keep_52 : decode cX1_keep 52 = .ok (.aload_n 0, 1) := by decide +kernel
theorem dX1_keep_53 : decode cX1_keep 53 = .ok (.getfield 50, 3) := by decide +kernel
theorem dX1_keep_56 : decode cX1_keep 56 = .ok (.putfield 124, 3) := by decide +kernel
theorem dX1_keep_59 : decode cX1_keep 59 = .ok (.aload_n 0, 1) := by decide +kernel
theorem dX1_keep_60 : decode cX1_keep 60 = .ok (.getfield 53, 3) := by decide +kernel
theorem dX1_keep_63 : decode cX1_keep 63 = .ok (.aload_n 0, 1) := by decide +kernel
theorem dX1_keep_64 : decode cX1_keep 64 = .ok (.dup, 1) := by decide +kernel
theorem dX1_keep_65 : decode cX1_keep 65 = .ok (.getfield 127, 3) := by decide +kernel
theorem dX1_keep_68 : decode cX1_keep 68 = .ok (.dup_x1, 1) := by decide +kernel
theorem dX1_keep_69 : decode cX1_keep 69 = .ok (.iconst 1, 1) := by decide +kernel
theorem dX1_keep_70 : decode cX1_keep 70 = .ok (.iadd, 1) := by decide +kernel
theorem dX1_keep_71 : decode cX1_keep 71 = .ok (.putfield 127, 3) := by decide +kernel
theorem dX1_keep_74 : decode cX1_keep 74 = .ok (.aload_n 0, 1) := by decide +kernel
theorem dX1_keep_75 : decode cX1_keep 75 = .ok (.getfield 50, 3) := by decide +kernel
theorem dX1_keep_78 : decode cX1_keep 78 = .ok (.iastore, 1) := by decide +kernel
theorem dX1_keep_79 : decode cX1_keep 79 = .ok (.return_, 1) := by decide +kernel
abbrev cX1_skip : ByteArray := prog_1_method_12_code
def yX1_skip : MethodName := ⟨RX1, "skip", "(J)Z"⟩
theorem dX1_skip_0 : decode cX1_skip 0 = .ok (.aload_n 0, 1) := by decide +kernel
theorem dX1_skip_1 : decode cX1_skip 1 = .ok (.getfield 82, 3) := by decide +kernel
theorem dX1_skip_4 : decode cX1_skip 4 = .ok (.ifCond .eq 22, 3) := by decide +kernel
theorem dX1_skip_7 : decode cX1_skip 7 = .ok (.lload_n 1, 1) := by decide +kernel
theorem dX1_skip_8 : decode cX1_skip 8 = .ok (.lconst 0, 1) := by decide +kernel
theorem dX1_skip_9 : decode cX1_skip 9 = .ok (.lcmp, 1) := by decide +kernel
theorem dX1_skip_10 : decode cX1_skip 10 = .ok (.ifCond .lt 16, 3) := by decide +kernel
theorem dX1_skip_13 : decode cX1_skip 13 = .ok (.lload_n 1, 1) := by decide +kernel
theorem dX1_skip_14 : decode cX1_skip 14 = .ok (.ldc2_w 130, 3) := by decide +kernel
theorem dX1_skip_17 : decode cX1_skip 17 = .ok (.aload_n 0, 1) := by decide +kernel
theorem dX1_skip_18 : decode cX1_skip 18 = .ok (.getfield 118, 3) := by decide +kernel
theorem dX1_skip_21 : decode cX1_skip 21 = .ok (.lsub, 1) := by decide +kernel
theorem dX1_skip_22 : decode cX1_skip 22 = .ok (.lcmp, 1) := by decide +kernel
theorem dX1_skip_23 : decode cX1_skip 23 = .ok (.ifCond .le 5, 3) := by decide +kernel
theorem dX1_skip_26 : decode cX1_skip 26 = .ok (.iconst 0, 1) := by decide +kernel
theorem dX1_skip_27 : decode cX1_skip 27 = .ok (.ireturn, 1) := by decide +kernel
theorem dX1_skip_28 : decode cX1_skip 28 = .ok (.aload_n 0, 1) := by decide +kernel
theorem dX1_skip_29 : decode cX1_skip 29 = .ok (.dup, 1) := by decide +kernel
theorem dX1_skip_30 : decode cX1_skip 30 = .ok (.getfield 118, 3) := by decide +kernel
theorem dX1_skip_33 : decode cX1_skip 33 = .ok (.lload_n 1, 1) := by decide +kernel
theorem dX1_skip_34 : decode cX1_skip 34 = .ok (.ladd, 1) := by decide +kernel
theorem dX1_skip_35 : decode cX1_skip 35 = .ok (.putfield 118, 3) := by decide +kernel
theorem dX1_skip_38 : decode cX1_skip 38 = .ok (.aload_n 0, 1) := by decide +kernel
theorem dX1_skip_39 : decode cX1_skip 39 = .ok (.iconst 0, 1) := by decide +kernel
theorem dX1_skip_40 : decode cX1_skip 40 = .ok (.putfield 112, 3) := by decide +kernel
theorem dX1_skip_43 : decode cX1_skip 43 = .ok (.iconst 1, 1) := by decide +kernel
theorem dX1_skip_44 : decode cX1_skip 44 = .ok (.ireturn, 1) := by decide +kernel
abbrev cX1_place : ByteArray := prog_1_method_13_code
def yX1_place : MethodName := ⟨RX1, "place", "()J"⟩
theorem dX1_place_0 : decode cX1_place 0 = .ok (.aload_n 0, 1) := by decide +kernel
theorem dX1_place_1 : decode cX1_place 1 = .ok (.getfield 118, 3) := by decide +kernel
theorem dX1_place_4 : decode cX1_place 4 = .ok (.lreturn, 1) := by decide +kernel
abbrev cX1_found : ByteArray := prog_1_method_14_code
def yX1_found : MethodName := ⟨RX1, "found", "()I"⟩
theorem dX1_found_0 : decode cX1_found 0 = .ok (.aload_n 0, 1) := by decide +kernel
theorem dX1_found_1 : decode cX1_found 1 = .ok (.getfield 98, 3) := by decide +kernel
theorem dX1_found_4 : decode cX1_found 4 = .ok (.ireturn, 1) := by decide +kernel
abbrev cX1_word : ByteArray := prog_1_method_16_code
def yX1_word : MethodName := ⟨RX1, "word", "(I)I"⟩
theorem dX1_word_0 : decode cX1_word 0 = .ok (.aload_n 0, 1) := by decide +kernel
theorem dX1_word_1 : decode cX1_word 1 = .ok (.iload_n 1, 1) := by decide +kernel
theorem dX1_word_2 : decode cX1_word 2 = .ok (.invokevirtual 132, 3) := by decide +kernel
theorem dX1_word_5 : decode cX1_word 5 = .ok (.ifCond .eq 12, 3) := by decide +kernel
theorem dX1_word_8 : decode cX1_word 8 = .ok (.aload_n 0, 1) := by decide +kernel
theorem dX1_word_9 : decode cX1_word 9 = .ok (.getfield 56, 3) := by decide +kernel
theorem dX1_word_12 : decode cX1_word 12 = .ok (.iload_n 1, 1) := by decide +kernel
theorem dX1_word_13 : decode cX1_word 13 = .ok (.iaload, 1) := by decide +kernel
theorem dX1_word_14 : decode cX1_word 14 = .ok (.goto 4, 3) := by decide +kernel
theorem dX1_word_17 : decode cX1_word 17 = .ok (.iconst (-1), 1) := by decide +kernel
theorem dX1_word_18 : decode cX1_word 18 = .ok (.ireturn, 1) := by decide +kernel
abbrev cX1_isFound : ByteArray := prog_1_method_15_code
def yX1_isFound : MethodName := ⟨RX1, "isFound", "(I)Z"⟩
theorem dX1_isFound_0 : decode cX1_isFound 0 = .ok (.iload_n 1, 1) := by decide +kernel
theorem dX1_isFound_1 : decode cX1_isFound 1 = .ok (.ifCond .lt 15, 3) := by decide +kernel
theorem dX1_isFound_4 : decode cX1_isFound 4 = .ok (.iload_n 1, 1) := by decide +kernel
theorem dX1_isFound_5 : decode cX1_isFound 5 = .ok (.aload_n 0, 1) := by decide +kernel
theorem dX1_isFound_6 : decode cX1_isFound 6 = .ok (.getfield 98, 3) := by decide +kernel
theorem dX1_isFound_9 : decode cX1_isFound 9 = .ok (.if_icmp .ge 7, 3) := by decide +kernel
theorem dX1_isFound_12 : decode cX1_isFound 12 = .ok (.iconst 1, 1) := by decide +kernel
theorem dX1_isFound_13 : decode cX1_isFound 13 = .ok (.goto 4, 3) := by decide +kernel
theorem dX1_isFound_16 : decode cX1_isFound 16 = .ok (.iconst 0, 1) := by decide +kernel
theorem dX1_isFound_17 : decode cX1_isFound 17 = .ok (.ireturn, 1) := by decide +kernel
abbrev cX1_end : ByteArray := prog_1_method_17_code
def yX1_end : MethodName := ⟨RX1, "end", "(I)J"⟩
theorem dX1_end_0 : decode cX1_end 0 = .ok (.aload_n 0, 1) := by decide +kernel
theorem dX1_end_1 : decode cX1_end 1 = .ok (.iload_n 1, 1) := by decide +kernel
theorem dX1_end_2 : decode cX1_end 2 = .ok (.invokevirtual 132, 3) := by decide +kernel
theorem dX1_end_5 : decode cX1_end 5 = .ok (.ifCond .eq 12, 3) := by decide +kernel
theorem dX1_end_8 : decode cX1_end 8 = .ok (.aload_n 0, 1) := by decide +kernel
theorem dX1_end_9 : decode cX1_end 9 = .ok (.getfield 59, 3) := by decide +kernel
theorem dX1_end_12 : decode cX1_end 12 = .ok (.iload_n 1, 1) := by decide +kernel
theorem dX1_end_13 : decode cX1_end 13 = .ok (.laload, 1) := by decide +kernel
theorem dX1_end_14 : decode cX1_end 14 = .ok (.goto 6, 3) := by decide +kernel
theorem dX1_end_17 : decode cX1_end 17 = .ok (.ldc2_w 136, 3) := by decide +kernel
theorem dX1_end_20 : decode cX1_end 20 = .ok (.lreturn, 1) := by decide +kernel
abbrev cX1_count : ByteArray := prog_1_method_18_code
def yX1_count : MethodName := ⟨RX1, "count", "(I)I"⟩
theorem dX1_count_0 : decode cX1_count 0 = .ok (.iload_n 1, 1) := by decide +kernel
theorem dX1_count_1 : decode cX1_count 1 = .ok (.ifCond .lt 11, 3) := by decide +kernel
theorem dX1_count_4 : decode cX1_count 4 = .ok (.iload_n 1, 1) := by decide +kernel
theorem dX1_count_5 : decode cX1_count 5 = .ok (.aload_n 0, 1) := by decide +kernel
theorem dX1_count_6 : decode cX1_count 6 = .ok (.getfield 92, 3) := by decide +kernel
theorem dX1_count_9 : decode cX1_count 9 = .ok (.if_icmp .lt 7, 3) := by decide +kernel
theorem dX1_count_12 : decode cX1_count 12 = .ok (.iconst (-1), 1) := by decide +kernel
theorem dX1_count_13 : decode cX1_count 13 = .ok (.goto 9, 3) := by decide +kernel
theorem dX1_count_16 : decode cX1_count 16 = .ok (.aload_n 0, 1) := by decide +kernel
theorem dX1_count_17 : decode cX1_count 17 = .ok (.getfield 44, 3) := by decide +kernel
theorem dX1_count_20 : decode cX1_count 20 = .ok (.iload_n 1, 1) := by decide +kernel
theorem dX1_count_21 : decode cX1_count 21 = .ok (.iaload, 1) := by decide +kernel
theorem dX1_count_22 : decode cX1_count 22 = .ok (.ireturn, 1) := by decide +kernel
abbrev cX1_lines : ByteArray := prog_1_method_19_code
def yX1_lines : MethodName := ⟨RX1, "lines", "()I"⟩
theorem dX1_lines_0 : decode cX1_lines 0 = .ok (.aload_n 0, 1) := by decide +kernel
theorem dX1_lines_1 : decode cX1_lines 1 = .ok (.getfield 127, 3) := by decide +kernel
theorem dX1_lines_4 : decode cX1_lines 4 = .ok (.ireturn, 1) := by decide +kernel
abbrev cX1_line : ByteArray := prog_1_method_20_code
def yX1_line : MethodName := ⟨RX1, "line", "(I)I"⟩
theorem dX1_line_0 : decode cX1_line 0 = .ok (.iload_n 1, 1) := by decide +kernel
theorem dX1_line_1 : decode cX1_line 1 = .ok (.ifCond .lt 11, 3) := by decide +kernel
theorem dX1_line_4 : decode cX1_line 4 = .ok (.iload_n 1, 1) := by decide +kernel
theorem dX1_line_5 : decode cX1_line 5 = .ok (.aload_n 0, 1) := by decide +kernel
theorem dX1_line_6 : decode cX1_line 6 = .ok (.getfield 127, 3) := by decide +kernel
theorem dX1_line_9 : decode cX1_line 9 = .ok (.if_icmp .lt 7, 3) := by decide +kernel
theorem dX1_line_12 : decode cX1_line 12 = .ok (.iconst (-1), 1) := by decide +kernel
theorem dX1_line_13 : decode cX1_line 13 = .ok (.goto 9, 3) := by decide +kernel
theorem dX1_line_16 : decode cX1_line 16 = .ok (.aload_n 0, 1) := by decide +kernel
theorem dX1_line_17 : decode cX1_line 17 = .ok (.getfield 53, 3) := by decide +kernel
theorem dX1_line_20 : decode cX1_line 20 = .ok (.iload_n 1, 1) := by decide +kernel
theorem dX1_line_21 : decode cX1_line 21 = .ok (.iaload, 1) := by decide +kernel
theorem dX1_line_22 : decode cX1_line 22 = .ok (.ireturn, 1) := by decide +kernel
abbrev cX1_steps : ByteArray := prog_1_method_21_code
def yX1_steps : MethodName := ⟨RX1, "steps", "()J"⟩
theorem dX1_steps_0 : decode cX1_steps 0 = .ok (.aload_n 0, 1) := by decide +kernel
theorem dX1_steps_1 : decode cX1_steps 1 = .ok (.getfield 108, 3) := by decide +kernel
theorem dX1_steps_4 : decode cX1_steps 4 = .ok (.lreturn, 1) := by decide +kernel
abbrev cX1_state : ByteArray := prog_1_method_22_code
def yX1_state : MethodName := ⟨RX1, "state", "()I"⟩
theorem dX1_state_0 : decode cX1_state 0 = .ok (.aload_n 0, 1) := by decide +kernel
theorem dX1_state_1 : decode cX1_state 1 = .ok (.getfield 19, 3) := by decide +kernel
theorem dX1_state_4 : decode cX1_state 4 = .ok (.aload_n 0, 1) := by decide +kernel
theorem dX1_state_5 : decode cX1_state 5 = .ok (.getfield 112, 3) := by decide +kernel
theorem dX1_state_8 : decode cX1_state 8 = .ok (.iaload, 1) := by decide +kernel
theorem dX1_state_9 : decode cX1_state 9 = .ok (.ireturn, 1) := by decide +kernel
abbrev cX1_pick : ByteArray := prog_1_method_25_code
def yX1_pick : MethodName := ⟨RX1, "pick", "()I"⟩
theorem dX1_pick_0 : decode cX1_pick 0 = .ok (.aload_n 0, 1) := by decide +kernel
theorem dX1_pick_1 : decode cX1_pick 1 = .ok (.iconst 0, 1) := by decide +kernel
theorem dX1_pick_2 : decode cX1_pick 2 = .ok (.putfield 105, 3) := by decide +kernel
theorem dX1_pick_5 : decode cX1_pick 5 = .ok (.aload_n 0, 1) := by decide +kernel
theorem dX1_pick_6 : decode cX1_pick 6 = .ok (.iconst 0, 1) := by decide +kernel
theorem dX1_pick_7 : decode cX1_pick 7 = .ok (.lconst 0, 1) := by decide +kernel
theorem dX1_pick_8 : decode cX1_pick 8 = .ok (.invokevirtual 142, 3) := by decide +kernel
theorem dX1_pick_11 : decode cX1_pick 11 = .ok (.istore_n 1, 1) := by decide +kernel
theorem dX1_pick_12 : decode cX1_pick 12 = .ok (.iload_n 1, 1) := by decide +kernel
theorem dX1_pick_13 : decode cX1_pick 13 = .ok (.iconst (-1), 1) := by decide +kernel
theorem dX1_pick_14 : decode cX1_pick 14 = .ok (.if_icmp .eq 39, 3) := by decide +kernel
theorem dX1_pick_17 : decode cX1_pick 17 = .ok (.aload_n 0, 1) := by decide +kernel
theorem dX1_pick_18 : decode cX1_pick 18 = .ok (.getfield 63, 3) := by decide +kernel
theorem dX1_pick_21 : decode cX1_pick 21 = .ok (.aload_n 0, 1) := by decide +kernel
theorem dX1_pick_22 : decode cX1_pick 22 = .ok (.dup, 1) := by decide +kernel
theorem dX1_pick_23 : decode cX1_pick 23 = .ok (.getfield 105, 3) := by decide +kernel
theorem dX1_pick_26 : decode cX1_pick 26 = .ok (.dup_x1, 1) := by decide +kernel
theorem dX1_pick_27 : decode cX1_pick 27 = .ok (.iconst 1, 1) := by decide +kernel
theorem dX1_pick_28 : decode cX1_pick 28 = .ok (.iadd, 1) := by decide +kernel
theorem dX1_pick_29 : decode cX1_pick 29 = .ok (.putfield 105, 3) := by decide +kernel
theorem dX1_pick_32 : decode cX1_pick 32 = .ok (.iload_n 1, 1) := by decide +kernel
theorem dX1_pick_33 : decode cX1_pick 33 = .ok (.iastore, 1) := by decide +kernel
theorem dX1_pick_34 : decode cX1_pick 34 = .ok (.aload_n 0, 1) := by decide +kernel
theorem dX1_pick_35 : decode cX1_pick 35 = .ok (.iload_n 1, 1) := by decide +kernel
theorem dX1_pick_36 : decode cX1_pick 36 = .ok (.iconst 1, 1) := by decide +kernel
theorem dX1_pick_37 : decode cX1_pick 37 = .ok (.iadd, 1) := by decide +kernel
theorem dX1_pick_38 : decode cX1_pick 38 = .ok (.aload_n 0, 1) := by decide +kernel
theorem dX1_pick_39 : decode cX1_pick 39 = .ok (.getfield 59, 3) := by decide +kernel
theorem dX1_pick_42 : decode cX1_pick 42 = .ok (.iload_n 1, 1) := by decide +kernel
theorem dX1_pick_43 : decode cX1_pick 43 = .ok (.laload, 1) := by decide +kernel
theorem dX1_pick_44 : decode cX1_pick 44 = .ok (.lconst 1, 1) := by decide +kernel
theorem dX1_pick_45 : decode cX1_pick 45 = .ok (.ladd, 1) := by decide +kernel
theorem dX1_pick_46 : decode cX1_pick 46 = .ok (.invokevirtual 142, 3) := by decide +kernel
theorem dX1_pick_49 : decode cX1_pick 49 = .ok (.istore_n 1, 1) := by decide +kernel
theorem dX1_pick_50 : decode cX1_pick 50 = .ok (.goto (-38), 3) := by decide +kernel
theorem dX1_pick_53 : decode cX1_pick 53 = .ok (.aload_n 0, 1) := by decide +kernel
theorem dX1_pick_54 : decode cX1_pick 54 = .ok (.getfield 105, 3) := by decide +kernel
theorem dX1_pick_57 : decode cX1_pick 57 = .ok (.ireturn, 1) := by decide +kernel
abbrev cX1_first : ByteArray := prog_1_method_26_code
def yX1_first : MethodName := ⟨RX1, "first", "(IJ)I"⟩
theorem dX1_first_0 : decode cX1_first 0 = .ok (.iconst (-1), 1) := by decide +kernel
theorem dX1_first_1 : decode cX1_first 1 = .ok (.istore 4, 2) := by decide +kernel
theorem dX1_first_3 : decode cX1_first 3 = .ok (.iload_n 1, 1) := by decide +kernel
theorem dX1_first_4 : decode cX1_first 4 = .ok (.istore 5, 2) := by decide +kernel
theorem dX1_first_6 : decode cX1_first 6 = .ok (.iload 5, 2) := by decide +kernel
theorem dX1_first_8 : decode cX1_first 8 = .ok (.aload_n 0, 1) := by decide +kernel
theorem dX1_first_9 : decode cX1_first 9 = .ok (.getfield 98, 3) := by decide +kernel
theorem dX1_first_12 : decode cX1_first 12 = .ok (.if_icmp .ge 85, 3) := by decide +kernel
theorem dX1_first_15 : decode cX1_first 15 = .ok (.iload 4, 2) := by decide +kernel
theorem dX1_first_17 : decode cX1_first 17 = .ok (.iconst (-1), 1) := by decide +kernel
theorem dX1_first_18 : decode cX1_first 18 = .ok (.if_icmp .eq 24, 3) := by decide +kernel
theorem dX1_first_21 : decode cX1_first 21 = .ok (.aload_n 0, 1) := by decide +kernel
theorem dX1_first_22 : decode cX1_first 22 = .ok (.getfield 59, 3) := by decide +kernel
theorem dX1_first_25 : decode cX1_first 25 = .ok (.iload 5, 2) := by decide +kernel
theorem dX1_first_27 : decode cX1_first 27 = .ok (.laload, 1) := by decide +kernel
theorem dX1_first_28 : decode cX1_first 28 = .ok (.aload_n 0, 1) := by decide +kernel
theorem dX1_first_29 : decode cX1_first 29 = .ok (.iload 4, 2) := by decide +kernel
theorem dX1_first_31 : decode cX1_first 31 = .ok (.invokevirtual 138, 3) := by decide +kernel
theorem dX1_first_34 : decode cX1_first 34 = .ok (.ldc2_w 146, 3) := by decide +kernel
theorem dX1_first_37 : decode cX1_first 37 = .ok (.ladd, 1) := by decide +kernel
theorem dX1_first_38 : decode cX1_first 38 = .ok (.lcmp, 1) := by decide +kernel
theorem dX1_first_39 : decode cX1_first 39 = .ok (.ifCond .ge 58, 3) := by decide +kernel
theorem dX1_first_42 : decode cX1_first 42 = .ok (.aload_n 0, 1) := by decide +kernel
theorem dX1_first_43 : decode cX1_first 43 = .ok (.iload 5, 2) := by decide +kernel
theorem dX1_first_45 : decode cX1_first 45 = .ok (.invokevirtual 138, 3) := by decide +kernel
theorem dX1_first_48 : decode cX1_first 48 = .ok (.lload_n 2, 1) := by decide +kernel
theorem dX1_first_49 : decode cX1_first 49 = .ok (.lcmp, 1) := by decide +kernel
theorem dX1_first_50 : decode cX1_first 50 = .ok (.ifCond .lt 24, 3) := by decide +kernel
theorem dX1_first_53 : decode cX1_first 53 = .ok (.iload 4, 2) := by decide +kernel
theorem dX1_first_55 : decode cX1_first 55 = .ok (.iconst (-1), 1) := by decide +kernel
theorem dX1_first_56 : decode cX1_first 56 = .ok (.if_icmp .eq 14, 3) := by decide +kernel
theorem dX1_first_59 : decode cX1_first 59 = .ok (.aload_n 0, 1) := by decide +kernel
theorem dX1_first_60 : decode cX1_first 60 = .ok (.iload 5, 2) := by decide +kernel
theorem dX1_first_62 : decode cX1_first 62 = .ok (.iload 4, 2) := by decide +kernel
theorem dX1_first_64 : decode cX1_first 64 = .ok (.invokevirtual 148, 3) := by decide +kernel
theorem dX1_first_67 : decode cX1_first 67 = .ok (.ifCond .eq 7, 3) := by decide +kernel
theorem dX1_first_70 : decode cX1_first 70 = .ok (.iconst 1, 1) := by decide +kernel
theorem dX1_first_71 : decode cX1_first 71 = .ok (.goto 4, 3) := by decide +kernel
theorem dX1_first_74 : decode cX1_first 74 = .ok (.iconst 0, 1) := by decide +kernel
theorem dX1_first_75 : decode cX1_first 75 = .ok (.istore 6, 2) := by decide +kernel
theorem dX1_first_77 : decode cX1_first 77 = .ok (.iload 6, 2) := by decide +kernel
theorem dX1_first_79 : decode cX1_first 79 = .ok (.ifCond .eq 8, 3) := by decide +kernel
theorem dX1_first_82 : decode cX1_first 82 = .ok (.iload 5, 2) := by decide +kernel
theorem dX1_first_84 : decode cX1_first 84 = .ok (.goto 5, 3) := by decide +kernel
theorem dX1_first_87 : decode cX1_first 87 = .ok (.iload 4, 2) := by decide +kernel
theorem dX1_first_89 : decode cX1_first 89 = .ok (.istore 4, 2) := by decide +kernel
theorem dX1_first_91 : decode cX1_first 91 = .ok (.iinc 5 1, 3) := by decide +kernel
theorem dX1_first_94 : decode cX1_first 94 = .ok (.goto (-88), 3) := by decide +kernel
theorem dX1_first_97 : decode cX1_first 97 = .ok (.iload 4, 2) := by decide +kernel
theorem dX1_first_99 : decode cX1_first 99 = .ok (.ireturn, 1) := by decide +kernel
abbrev cX1_begin : ByteArray := prog_1_method_23_code
def yX1_begin : MethodName := ⟨RX1, "begin", "(I)J"⟩
theorem dX1_begin_0 : decode cX1_begin 0 = .ok (.aload_n 0, 1) := by decide +kernel
theorem dX1_begin_1 : decode cX1_begin 1 = .ok (.getfield 59, 3) := by decide +kernel
theorem dX1_begin_4 : decode cX1_begin 4 = .ok (.iload_n 1, 1) := by decide +kernel
theorem dX1_begin_5 : decode cX1_begin 5 = .ok (.laload, 1) := by decide +kernel
theorem dX1_begin_6 : decode cX1_begin 6 = .ok (.aload_n 0, 1) := by decide +kernel
theorem dX1_begin_7 : decode cX1_begin 7 = .ok (.getfield 41, 3) := by decide +kernel
theorem dX1_begin_10 : decode cX1_begin 10 = .ok (.aload_n 0, 1) := by decide +kernel
theorem dX1_begin_11 : decode cX1_begin 11 = .ok (.getfield 56, 3) := by decide +kernel
theorem dX1_begin_14 : decode cX1_begin 14 = .ok (.iload_n 1, 1) := by decide +kernel
theorem dX1_begin_15 : decode cX1_begin 15 = .ok (.iaload, 1) := by decide +kernel
theorem dX1_begin_16 : decode cX1_begin 16 = .ok (.iaload, 1) := by decide +kernel
theorem dX1_begin_17 : decode cX1_begin 17 = .ok (.i2l, 1) := by decide +kernel
theorem dX1_begin_18 : decode cX1_begin 18 = .ok (.lsub, 1) := by decide +kernel
theorem dX1_begin_19 : decode cX1_begin 19 = .ok (.lconst 1, 1) := by decide +kernel
theorem dX1_begin_20 : decode cX1_begin 20 = .ok (.ladd, 1) := by decide +kernel
theorem dX1_begin_21 : decode cX1_begin 21 = .ok (.lreturn, 1) := by decide +kernel
abbrev cX1_isBefore : ByteArray := prog_1_method_24_code
def yX1_isBefore : MethodName := ⟨RX1, "isBefore", "(II)Z"⟩
theorem dX1_isBefore_0 : decode cX1_isBefore 0 = .ok (.aload_n 0, 1) := by decide +kernel
theorem dX1_isBefore_1 : decode cX1_isBefore 1 = .ok (.iload_n 1, 1) := by decide +kernel
theorem dX1_isBefore_2 : decode cX1_isBefore 2 = .ok (.invokevirtual 138, 3) := by decide +kernel
theorem dX1_isBefore_5 : decode cX1_isBefore 5 = .ok (.aload_n 0, 1) := by decide +kernel
theorem dX1_isBefore_6 : decode cX1_isBefore 6 = .ok (.iload_n 2, 1) := by decide +kernel
theorem dX1_isBefore_7 : decode cX1_isBefore 7 = .ok (.invokevirtual 138, 3) := by decide +kernel
theorem dX1_isBefore_10 : decode cX1_isBefore 10 = .ok (.lcmp, 1) := by decide +kernel
theorem dX1_isBefore_11 : decode cX1_isBefore 11 = .ok (.ifCond .eq 23, 3) := by decide +kernel
theorem dX1_isBefore_14 : decode cX1_isBefore 14 = .ok (.aload_n 0, 1) := by decide +kernel
theorem dX1_isBefore_15 : decode cX1_isBefore 15 = .ok (.iload_n 1, 1) := by decide +kernel
theorem dX1_isBefore_16 : decode cX1_isBefore 16 = .ok (.invokevirtual 138, 3) := by decide +kernel
theorem dX1_isBefore_19 : decode cX1_isBefore 19 = .ok (.aload_n 0, 1) := by decide +kernel
theorem dX1_isBefore_20 : decode cX1_isBefore 20 = .ok (.iload_n 2, 1) := by decide +kernel
theorem dX1_isBefore_21 : decode cX1_isBefore 21 = .ok (.invokevirtual 138, 3) := by decide +kernel
theorem dX1_isBefore_24 : decode cX1_isBefore 24 = .ok (.lcmp, 1) := by decide +kernel
theorem dX1_isBefore_25 : decode cX1_isBefore 25 = .ok (.ifCond .ge 7, 3) := by decide +kernel
theorem dX1_isBefore_28 : decode cX1_isBefore 28 = .ok (.iconst 1, 1) := by decide +kernel
theorem dX1_isBefore_29 : decode cX1_isBefore 29 = .ok (.goto 4, 3) := by decide +kernel
theorem dX1_isBefore_32 : decode cX1_isBefore 32 = .ok (.iconst 0, 1) := by decide +kernel
theorem dX1_isBefore_33 : decode cX1_isBefore 33 = .ok (.ireturn, 1) := by decide +kernel
theorem dX1_isBefore_34 : decode cX1_isBefore 34 = .ok (.aload_n 0, 1) := by decide +kernel
theorem dX1_isBefore_35 : decode cX1_isBefore 35 = .ok (.getfield 59, 3) := by decide +kernel
theorem dX1_isBefore_38 : decode cX1_isBefore 38 = .ok (.iload_n 1, 1) := by decide +kernel
theorem dX1_isBefore_39 : decode cX1_isBefore 39 = .ok (.laload, 1) := by decide +kernel
theorem dX1_isBefore_40 : decode cX1_isBefore 40 = .ok (.aload_n 0, 1) := by decide +kernel
theorem dX1_isBefore_41 : decode cX1_isBefore 41 = .ok (.getfield 59, 3) := by decide +kernel
theorem dX1_isBefore_44 : decode cX1_isBefore 44 = .ok (.iload_n 2, 1) := by decide +kernel
theorem dX1_isBefore_45 : decode cX1_isBefore 45 = .ok (.laload, 1) := by decide +kernel
theorem dX1_isBefore_46 : decode cX1_isBefore 46 = .ok (.lcmp, 1) := by decide +kernel
theorem dX1_isBefore_47 : decode cX1_isBefore 47 = .ok (.ifCond .eq 27, 3) := by decide +kernel
theorem dX1_isBefore_50 : decode cX1_isBefore 50 = .ok (.aload_n 0, 1) := by decide +kernel
theorem dX1_isBefore_51 : decode cX1_isBefore 51 = .ok (.getfield 59, 3) := by decide +kernel
theorem dX1_isBefore_54 : decode cX1_isBefore 54 = .ok (.iload_n 1, 1) := by decide +kernel
theorem dX1_isBefore_55 : decode cX1_isBefore 55 = .ok (.laload, 1) := by decide +kernel
theorem dX1_isBefore_56 : decode cX1_isBefore 56 = .ok (.aload_n 0, 1) := by decide +kernel
theorem dX1_isBefore_57 : decode cX1_isBefore 57 = .ok (.getfield 59, 3) := by decide +kernel
theorem dX1_isBefore_60 : decode cX1_isBefore 60 = .ok (.iload_n 2, 1) := by decide +kernel
theorem dX1_isBefore_61 : decode cX1_isBefore 61 = .ok (.laload, 1) := by decide +kernel
theorem dX1_isBefore_62 : decode cX1_isBefore 62 = .ok (.lcmp, 1) := by decide +kernel
theorem dX1_isBefore_63 : decode cX1_isBefore 63 = .ok (.ifCond .le 7, 3) := by decide +kernel
theorem dX1_isBefore_66 : decode cX1_isBefore 66 = .ok (.iconst 1, 1) := by decide +kernel
theorem dX1_isBefore_67 : decode cX1_isBefore 67 = .ok (.goto 27, 3) := by decide +kernel
theorem dX1_isBefore_70 : decode cX1_isBefore 70 = .ok (.iconst 0, 1) := by decide +kernel
theorem dX1_isBefore_71 : decode cX1_isBefore 71 = .ok (.goto 23, 3) := by decide +kernel
theorem dX1_isBefore_74 : decode cX1_isBefore 74 = .ok (.aload_n 0, 1) := by decide +kernel
theorem dX1_isBefore_75 : decode cX1_isBefore 75 = .ok (.getfield 56, 3) := by decide +kernel
theorem dX1_isBefore_78 : decode cX1_isBefore 78 = .ok (.iload_n 1, 1) := by decide +kernel
theorem dX1_isBefore_79 : decode cX1_isBefore 79 = .ok (.iaload, 1) := by decide +kernel
theorem dX1_isBefore_80 : decode cX1_isBefore 80 = .ok (.aload_n 0, 1) := by decide +kernel
theorem dX1_isBefore_81 : decode cX1_isBefore 81 = .ok (.getfield 56, 3) := by decide +kernel
theorem dX1_isBefore_84 : decode cX1_isBefore 84 = .ok (.iload_n 2, 1) := by decide +kernel
theorem dX1_isBefore_85 : decode cX1_isBefore 85 = .ok (.iaload, 1) := by decide +kernel
theorem dX1_isBefore_86 : decode cX1_isBefore 86 = .ok (.if_icmp .ge 7, 3) := by decide +kernel
theorem dX1_isBefore_89 : decode cX1_isBefore 89 = .ok (.iconst 1, 1) := by decide +kernel
theorem dX1_isBefore_90 : decode cX1_isBefore 90 = .ok (.goto 4, 3) := by decide +kernel
theorem dX1_isBefore_93 : decode cX1_isBefore 93 = .ok (.iconst 0, 1) := by decide +kernel
theorem dX1_isBefore_94 : decode cX1_isBefore 94 = .ok (.ireturn, 1) := by decide +kernel
abbrev cX1_picked : ByteArray := prog_1_method_27_code
def yX1_picked : MethodName := ⟨RX1, "picked", "(I)I"⟩
theorem dX1_picked_0 : decode cX1_picked 0 = .ok (.iload_n 1, 1) := by decide +kernel
theorem dX1_picked_1 : decode cX1_picked 1 = .ok (.ifCond .lt 11, 3) := by decide +kernel
theorem dX1_picked_4 : decode cX1_picked 4 = .ok (.iload_n 1, 1) := by decide +kernel
theorem dX1_picked_5 : decode cX1_picked 5 = .ok (.aload_n 0, 1) := by decide +kernel
theorem dX1_picked_6 : decode cX1_picked 6 = .ok (.getfield 105, 3) := by decide +kernel
theorem dX1_picked_9 : decode cX1_picked 9 = .ok (.if_icmp .lt 7, 3) := by decide +kernel
theorem dX1_picked_12 : decode cX1_picked 12 = .ok (.iconst (-1), 1) := by decide +kernel
theorem dX1_picked_13 : decode cX1_picked 13 = .ok (.goto 9, 3) := by decide +kernel
theorem dX1_picked_16 : decode cX1_picked 16 = .ok (.aload_n 0, 1) := by decide +kernel
theorem dX1_picked_17 : decode cX1_picked 17 = .ok (.getfield 63, 3) := by decide +kernel
theorem dX1_picked_20 : decode cX1_picked 20 = .ok (.iload_n 1, 1) := by decide +kernel
theorem dX1_picked_21 : decode cX1_picked 21 = .ok (.iaload, 1) := by decide +kernel
theorem dX1_picked_22 : decode cX1_picked 22 = .ok (.ireturn, 1) := by decide +kernel
theorem q17 : (Jvm.Cond.initialized "ScanDesk") ∈ lw_all := lw_g (lw_at lw_m1 1 rfl) rfl
theorem q21 : (Jvm.Cond.instantiable "ScanDesk" (29 : Nat)) ∈ lw_all := lw_g (lw_at lw_m1 5 rfl) rfl
theorem q23 : (Jvm.Cond.instanceMethod ({ cls := "ScanDesk", name := "<init>", desc := "(I)V" } : Jvm.MethodName)) ∈ lw_all := lw_g (lw_at lw_m1 7 rfl) rfl
theorem q24 : (Jvm.Cond.code ({ cls := "ScanDesk", name := "<init>", desc := "(I)V" } : Jvm.MethodName) prog_1_method_1_code (2 : Nat) (Option.none : Option Jvm.ClassFile.FieldType)) ∈ lw_all := lw_g (lw_at lw_m1 8 rfl) rfl
theorem q25 : (Jvm.Cond.methodLink "ScanDesk" (3 : Nat) ({ cls := "java/lang/Object", name := "<init>", desc := "()V" } : Jvm.MethodName)) ∈ lw_all := lw_g (lw_at lw_m1 9 rfl) rfl
theorem q28 : (Jvm.Cond.methodLink "ScanDesk" (66 : Nat) ({ cls := "java/lang/Math", name := "min", desc := "(II)I" } : Jvm.MethodName)) ∈ lw_all := lw_g (lw_at lw_m1 12 rfl) rfl
theorem q31 : (Jvm.Cond.methodLink "ScanDesk" (72 : Nat) ({ cls := "java/lang/Math", name := "max", desc := "(II)I" } : Jvm.MethodName)) ∈ lw_all := lw_g (lw_at lw_m1 15 rfl) rfl
theorem q34 : (Jvm.Cond.methodLink "ScanDesk" (78 : Nat) ({ cls := "ScanDesk", name := "clear", desc := "(III)V" } : Jvm.MethodName)) ∈ lw_all := lw_g (lw_at lw_m1 18 rfl) rfl
theorem q35 : (Jvm.Cond.privateMethod ({ cls := "ScanDesk", name := "clear", desc := "(III)V" } : Jvm.MethodName)) ∈ lw_tbl := lw_at lw_m1 19 rfl
theorem q36 : (Jvm.Cond.instanceMethod ({ cls := "ScanDesk", name := "clear", desc := "(III)V" } : Jvm.MethodName)) ∈ lw_all := lw_g (lw_at lw_m1 20 rfl) rfl
theorem q37 : (Jvm.Cond.code ({ cls := "ScanDesk", name := "clear", desc := "(III)V" } : Jvm.MethodName) prog_1_method_2_code (4 : Nat) (Option.none : Option Jvm.ClassFile.FieldType)) ∈ lw_all := lw_g (lw_at lw_m1 21 rfl) rfl
theorem q38 : (Jvm.Cond.fieldLink "ScanDesk" (75 : Nat) "ScanDesk" "room" "I") ∈ lw_all := lw_g (lw_at lw_m1 22 rfl) rfl
theorem q39 : (Jvm.Cond.fieldLink "ScanDesk" (9 : Nat) "ScanDesk" "labels" "[I") ∈ lw_all := lw_g (lw_at lw_m1 23 rfl) rfl
theorem q40 : (Jvm.Cond.fieldLink "ScanDesk" (13 : Nat) "ScanDesk" "children" "[I") ∈ lw_all := lw_g (lw_at lw_m1 24 rfl) rfl
theorem q41 : (Jvm.Cond.fieldLink "ScanDesk" (16 : Nat) "ScanDesk" "brothers" "[I") ∈ lw_all := lw_g (lw_at lw_m1 25 rfl) rfl
theorem q42 : (Jvm.Cond.fieldLink "ScanDesk" (19 : Nat) "ScanDesk" "depths" "[I") ∈ lw_all := lw_g (lw_at lw_m1 26 rfl) rfl
theorem q43 : (Jvm.Cond.fieldLink "ScanDesk" (22 : Nat) "ScanDesk" "words" "[I") ∈ lw_all := lw_g (lw_at lw_m1 27 rfl) rfl
theorem q44 : (Jvm.Cond.fieldLink "ScanDesk" (25 : Nat) "ScanDesk" "links" "[I") ∈ lw_all := lw_g (lw_at lw_m1 28 rfl) rfl
theorem q45 : (Jvm.Cond.fieldLink "ScanDesk" (28 : Nat) "ScanDesk" "whole" "[I") ∈ lw_all := lw_g (lw_at lw_m1 29 rfl) rfl
theorem q46 : (Jvm.Cond.fieldLink "ScanDesk" (31 : Nat) "ScanDesk" "row" "[I") ∈ lw_all := lw_g (lw_at lw_m1 30 rfl) rfl
theorem q47 : (Jvm.Cond.fieldLink "ScanDesk" (34 : Nat) "ScanDesk" "nodes" "I") ∈ lw_all := lw_g (lw_at lw_m1 31 rfl) rfl
theorem q48 : (Jvm.Cond.fieldLink "ScanDesk" (82 : Nat) "ScanDesk" "isBuilt" "Z") ∈ lw_all := lw_g (lw_at lw_m1 32 rfl) rfl
theorem q49 : (Jvm.Cond.fieldLink "ScanDesk" (38 : Nat) "ScanDesk" "alike" "[I") ∈ lw_all := lw_g (lw_at lw_m1 33 rfl) rfl
theorem q50 : (Jvm.Cond.fieldLink "ScanDesk" (41 : Nat) "ScanDesk" "lengths" "[I") ∈ lw_all := lw_g (lw_at lw_m1 34 rfl) rfl
theorem q51 : (Jvm.Cond.fieldLink "ScanDesk" (44 : Nat) "ScanDesk" "counts" "[I") ∈ lw_all := lw_g (lw_at lw_m1 35 rfl) rfl
theorem q52 : (Jvm.Cond.fieldLink "ScanDesk" (92 : Nat) "ScanDesk" "wordCount" "I") ∈ lw_all := lw_g (lw_at lw_m1 36 rfl) rfl
theorem q53 : (Jvm.Cond.fieldLink "ScanDesk" (47 : Nat) "ScanDesk" "next" "[I") ∈ lw_all := lw_g (lw_at lw_m1 37 rfl) rfl
theorem q54 : (Jvm.Cond.fieldLink "ScanDesk" (86 : Nat) "ScanDesk" "nextLength" "I") ∈ lw_all := lw_g (lw_at lw_m1 38 rfl) rfl
theorem q55 : (Jvm.Cond.fieldLink "ScanDesk" (112 : Nat) "ScanDesk" "now" "I") ∈ lw_all := lw_g (lw_at lw_m1 39 rfl) rfl
theorem q56 : (Jvm.Cond.fieldLink "ScanDesk" (118 : Nat) "ScanDesk" "place" "J") ∈ lw_all := lw_g (lw_at lw_m1 40 rfl) rfl
theorem q57 : (Jvm.Cond.fieldLink "ScanDesk" (108 : Nat) "ScanDesk" "steps" "J") ∈ lw_all := lw_g (lw_at lw_m1 41 rfl) rfl
theorem q58 : (Jvm.Cond.fieldLink "ScanDesk" (50 : Nat) "ScanDesk" "line" "I") ∈ lw_all := lw_g (lw_at lw_m1 42 rfl) rfl
theorem q59 : (Jvm.Cond.fieldLink "ScanDesk" (124 : Nat) "ScanDesk" "lastLine" "I") ∈ lw_all := lw_g (lw_at lw_m1 43 rfl) rfl
theorem q60 : (Jvm.Cond.fieldLink "ScanDesk" (53 : Nat) "ScanDesk" "lineRow" "[I") ∈ lw_all := lw_g (lw_at lw_m1 44 rfl) rfl
theorem q61 : (Jvm.Cond.fieldLink "ScanDesk" (127 : Nat) "ScanDesk" "lineCount" "I") ∈ lw_all := lw_g (lw_at lw_m1 45 rfl) rfl
theorem q62 : (Jvm.Cond.fieldLink "ScanDesk" (56 : Nat) "ScanDesk" "foundWords" "[I") ∈ lw_all := lw_g (lw_at lw_m1 46 rfl) rfl
theorem q63 : (Jvm.Cond.fieldLink "ScanDesk" (59 : Nat) "ScanDesk" "foundEnds" "[J") ∈ lw_all := lw_g (lw_at lw_m1 47 rfl) rfl
theorem q64 : (Jvm.Cond.fieldLink "ScanDesk" (98 : Nat) "ScanDesk" "found" "I") ∈ lw_all := lw_g (lw_at lw_m1 48 rfl) rfl
theorem q65 : (Jvm.Cond.fieldLink "ScanDesk" (63 : Nat) "ScanDesk" "picks" "[I") ∈ lw_all := lw_g (lw_at lw_m1 49 rfl) rfl
theorem q66 : (Jvm.Cond.fieldLink "ScanDesk" (105 : Nat) "ScanDesk" "pickCount" "I") ∈ lw_all := lw_g (lw_at lw_m1 50 rfl) rfl
theorem q67 : (Jvm.Cond.laysFinal "ScanDesk" "ScanDesk" "room" "I") ∈ lw_all := lw_g (lw_at lw_m1 51 rfl) rfl
theorem q68 : (Jvm.Cond.soleField "ScanDesk" "room") ∈ lw_all := lw_g (lw_at lw_m1 52 rfl) rfl
theorem q69 : (Jvm.Cond.laysFinal "ScanDesk" "ScanDesk" "labels" "[I") ∈ lw_all := lw_g (lw_at lw_m1 53 rfl) rfl
theorem q70 : (Jvm.Cond.soleField "ScanDesk" "labels") ∈ lw_all := lw_g (lw_at lw_m1 54 rfl) rfl
theorem q71 : (Jvm.Cond.laysFinal "ScanDesk" "ScanDesk" "children" "[I") ∈ lw_all := lw_g (lw_at lw_m1 55 rfl) rfl
theorem q72 : (Jvm.Cond.soleField "ScanDesk" "children") ∈ lw_all := lw_g (lw_at lw_m1 56 rfl) rfl
theorem q73 : (Jvm.Cond.laysFinal "ScanDesk" "ScanDesk" "brothers" "[I") ∈ lw_all := lw_g (lw_at lw_m1 57 rfl) rfl
theorem q74 : (Jvm.Cond.soleField "ScanDesk" "brothers") ∈ lw_all := lw_g (lw_at lw_m1 58 rfl) rfl
theorem q75 : (Jvm.Cond.laysFinal "ScanDesk" "ScanDesk" "depths" "[I") ∈ lw_all := lw_g (lw_at lw_m1 59 rfl) rfl
theorem q76 : (Jvm.Cond.soleField "ScanDesk" "depths") ∈ lw_all := lw_g (lw_at lw_m1 60 rfl) rfl
theorem q77 : (Jvm.Cond.laysFinal "ScanDesk" "ScanDesk" "words" "[I") ∈ lw_all := lw_g (lw_at lw_m1 61 rfl) rfl
theorem q78 : (Jvm.Cond.soleField "ScanDesk" "words") ∈ lw_all := lw_g (lw_at lw_m1 62 rfl) rfl
theorem q79 : (Jvm.Cond.laysFinal "ScanDesk" "ScanDesk" "links" "[I") ∈ lw_all := lw_g (lw_at lw_m1 63 rfl) rfl
theorem q80 : (Jvm.Cond.soleField "ScanDesk" "links") ∈ lw_all := lw_g (lw_at lw_m1 64 rfl) rfl
theorem q81 : (Jvm.Cond.laysFinal "ScanDesk" "ScanDesk" "whole" "[I") ∈ lw_all := lw_g (lw_at lw_m1 65 rfl) rfl
theorem q82 : (Jvm.Cond.soleField "ScanDesk" "whole") ∈ lw_all := lw_g (lw_at lw_m1 66 rfl) rfl
theorem q83 : (Jvm.Cond.laysFinal "ScanDesk" "ScanDesk" "row" "[I") ∈ lw_all := lw_g (lw_at lw_m1 67 rfl) rfl
theorem q84 : (Jvm.Cond.soleField "ScanDesk" "row") ∈ lw_all := lw_g (lw_at lw_m1 68 rfl) rfl
theorem q85 : (Jvm.Cond.lays "ScanDesk" "ScanDesk" "nodes" "I") ∈ lw_all := lw_g (lw_at lw_m1 69 rfl) rfl
theorem q86 : (Jvm.Cond.soleField "ScanDesk" "nodes") ∈ lw_all := lw_g (lw_at lw_m1 70 rfl) rfl
theorem q87 : (Jvm.Cond.lays "ScanDesk" "ScanDesk" "isBuilt" "Z") ∈ lw_all := lw_g (lw_at lw_m1 71 rfl) rfl
theorem q88 : (Jvm.Cond.soleField "ScanDesk" "isBuilt") ∈ lw_all := lw_g (lw_at lw_m1 72 rfl) rfl
theorem q89 : (Jvm.Cond.laysFinal "ScanDesk" "ScanDesk" "alike" "[I") ∈ lw_all := lw_g (lw_at lw_m1 73 rfl) rfl
theorem q90 : (Jvm.Cond.soleField "ScanDesk" "alike") ∈ lw_all := lw_g (lw_at lw_m1 74 rfl) rfl
theorem q91 : (Jvm.Cond.laysFinal "ScanDesk" "ScanDesk" "lengths" "[I") ∈ lw_all := lw_g (lw_at lw_m1 75 rfl) rfl
theorem q92 : (Jvm.Cond.soleField "ScanDesk" "lengths") ∈ lw_all := lw_g (lw_at lw_m1 76 rfl) rfl
theorem q93 : (Jvm.Cond.laysFinal "ScanDesk" "ScanDesk" "counts" "[I") ∈ lw_all := lw_g (lw_at lw_m1 77 rfl) rfl
theorem q94 : (Jvm.Cond.soleField "ScanDesk" "counts") ∈ lw_all := lw_g (lw_at lw_m1 78 rfl) rfl
theorem q95 : (Jvm.Cond.lays "ScanDesk" "ScanDesk" "wordCount" "I") ∈ lw_all := lw_g (lw_at lw_m1 79 rfl) rfl
theorem q96 : (Jvm.Cond.soleField "ScanDesk" "wordCount") ∈ lw_all := lw_g (lw_at lw_m1 80 rfl) rfl
theorem q97 : (Jvm.Cond.laysFinal "ScanDesk" "ScanDesk" "next" "[I") ∈ lw_all := lw_g (lw_at lw_m1 81 rfl) rfl
theorem q98 : (Jvm.Cond.soleField "ScanDesk" "next") ∈ lw_all := lw_g (lw_at lw_m1 82 rfl) rfl
theorem q99 : (Jvm.Cond.lays "ScanDesk" "ScanDesk" "nextLength" "I") ∈ lw_all := lw_g (lw_at lw_m1 83 rfl) rfl
theorem q100 : (Jvm.Cond.soleField "ScanDesk" "nextLength") ∈ lw_all := lw_g (lw_at lw_m1 84 rfl) rfl
theorem q101 : (Jvm.Cond.lays "ScanDesk" "ScanDesk" "now" "I") ∈ lw_all := lw_g (lw_at lw_m1 85 rfl) rfl
theorem q102 : (Jvm.Cond.soleField "ScanDesk" "now") ∈ lw_all := lw_g (lw_at lw_m1 86 rfl) rfl
theorem q103 : (Jvm.Cond.lays "ScanDesk" "ScanDesk" "place" "J") ∈ lw_all := lw_g (lw_at lw_m1 87 rfl) rfl
theorem q104 : (Jvm.Cond.soleField "ScanDesk" "place") ∈ lw_all := lw_g (lw_at lw_m1 88 rfl) rfl
theorem q105 : (Jvm.Cond.lays "ScanDesk" "ScanDesk" "steps" "J") ∈ lw_all := lw_g (lw_at lw_m1 89 rfl) rfl
theorem q106 : (Jvm.Cond.soleField "ScanDesk" "steps") ∈ lw_all := lw_g (lw_at lw_m1 90 rfl) rfl
theorem q107 : (Jvm.Cond.lays "ScanDesk" "ScanDesk" "line" "I") ∈ lw_all := lw_g (lw_at lw_m1 91 rfl) rfl
theorem q108 : (Jvm.Cond.soleField "ScanDesk" "line") ∈ lw_all := lw_g (lw_at lw_m1 92 rfl) rfl
theorem q109 : (Jvm.Cond.lays "ScanDesk" "ScanDesk" "lastLine" "I") ∈ lw_all := lw_g (lw_at lw_m1 93 rfl) rfl
theorem q110 : (Jvm.Cond.soleField "ScanDesk" "lastLine") ∈ lw_all := lw_g (lw_at lw_m1 94 rfl) rfl
theorem q111 : (Jvm.Cond.laysFinal "ScanDesk" "ScanDesk" "lineRow" "[I") ∈ lw_all := lw_g (lw_at lw_m1 95 rfl) rfl
theorem q112 : (Jvm.Cond.soleField "ScanDesk" "lineRow") ∈ lw_all := lw_g (lw_at lw_m1 96 rfl) rfl
theorem q113 : (Jvm.Cond.lays "ScanDesk" "ScanDesk" "lineCount" "I") ∈ lw_all := lw_g (lw_at lw_m1 97 rfl) rfl
theorem q114 : (Jvm.Cond.soleField "ScanDesk" "lineCount") ∈ lw_all := lw_g (lw_at lw_m1 98 rfl) rfl
theorem q115 : (Jvm.Cond.laysFinal "ScanDesk" "ScanDesk" "foundWords" "[I") ∈ lw_all := lw_g (lw_at lw_m1 99 rfl) rfl
theorem q116 : (Jvm.Cond.soleField "ScanDesk" "foundWords") ∈ lw_all := lw_g (lw_at lw_m1 100 rfl) rfl
theorem q117 : (Jvm.Cond.laysFinal "ScanDesk" "ScanDesk" "foundEnds" "[J") ∈ lw_all := lw_g (lw_at lw_m1 101 rfl) rfl
theorem q118 : (Jvm.Cond.soleField "ScanDesk" "foundEnds") ∈ lw_all := lw_g (lw_at lw_m1 102 rfl) rfl
theorem q119 : (Jvm.Cond.lays "ScanDesk" "ScanDesk" "found" "I") ∈ lw_all := lw_g (lw_at lw_m1 103 rfl) rfl
theorem q120 : (Jvm.Cond.soleField "ScanDesk" "found") ∈ lw_all := lw_g (lw_at lw_m1 104 rfl) rfl
theorem q121 : (Jvm.Cond.laysFinal "ScanDesk" "ScanDesk" "picks" "[I") ∈ lw_all := lw_g (lw_at lw_m1 105 rfl) rfl
theorem q122 : (Jvm.Cond.soleField "ScanDesk" "picks") ∈ lw_all := lw_g (lw_at lw_m1 106 rfl) rfl
theorem q123 : (Jvm.Cond.lays "ScanDesk" "ScanDesk" "pickCount" "I") ∈ lw_all := lw_g (lw_at lw_m1 107 rfl) rfl
theorem q124 : (Jvm.Cond.soleField "ScanDesk" "pickCount") ∈ lw_all := lw_g (lw_at lw_m1 108 rfl) rfl
theorem q125 : (Jvm.Cond.superclass "ScanDesk" "java/lang/Object") ∈ lw_all := lw_g (lw_at lw_m1 109 rfl) rfl
theorem q129 : (Jvm.Cond.instanceMethod ({ cls := "ScanDesk", name := "put", desc := "(I)I" } : Jvm.MethodName)) ∈ lw_all := lw_g (lw_at lw_m1 113 rfl) rfl
theorem q130 : (Jvm.Cond.selects "ScanDesk" ({ cls := "ScanDesk", name := "put", desc := "(I)I" } : Jvm.MethodName) ({ cls := "ScanDesk", name := "put", desc := "(I)I" } : Jvm.MethodName)) ∈ lw_all := lw_g (lw_at lw_m1 114 rfl) rfl
theorem q131 : (Jvm.Cond.code ({ cls := "ScanDesk", name := "put", desc := "(I)I" } : Jvm.MethodName) prog_1_method_3_code (2 : Nat) (Option.some Jvm.ClassFile.FieldType.int)) ∈ lw_all := lw_g (lw_at lw_m1 115 rfl) rfl
theorem q133 : (Jvm.Cond.instanceMethod ({ cls := "ScanDesk", name := "add", desc := "()I" } : Jvm.MethodName)) ∈ lw_all := lw_g (lw_at lw_m1 117 rfl) rfl
theorem q134 : (Jvm.Cond.selects "ScanDesk" ({ cls := "ScanDesk", name := "add", desc := "()I" } : Jvm.MethodName) ({ cls := "ScanDesk", name := "add", desc := "()I" } : Jvm.MethodName)) ∈ lw_all := lw_g (lw_at lw_m1 118 rfl) rfl
theorem q135 : (Jvm.Cond.code ({ cls := "ScanDesk", name := "add", desc := "()I" } : Jvm.MethodName) prog_1_method_5_code (5 : Nat) (Option.some Jvm.ClassFile.FieldType.int)) ∈ lw_all := lw_g (lw_at lw_m1 119 rfl) rfl
theorem q136 : (Jvm.Cond.methodLink "ScanDesk" (89 : Nat) ({ cls := "ScanDesk", name := "child", desc := "(II)I" } : Jvm.MethodName)) ∈ lw_all := lw_g (lw_at lw_m1 120 rfl) rfl
theorem q137 : (Jvm.Cond.privateMethod ({ cls := "ScanDesk", name := "child", desc := "(II)I" } : Jvm.MethodName)) ∈ lw_tbl := lw_at lw_m1 121 rfl
theorem q138 : (Jvm.Cond.instanceMethod ({ cls := "ScanDesk", name := "child", desc := "(II)I" } : Jvm.MethodName)) ∈ lw_all := lw_g (lw_at lw_m1 122 rfl) rfl
theorem q139 : (Jvm.Cond.code ({ cls := "ScanDesk", name := "child", desc := "(II)I" } : Jvm.MethodName) prog_1_method_4_code (4 : Nat) (Option.some Jvm.ClassFile.FieldType.int)) ∈ lw_all := lw_g (lw_at lw_m1 123 rfl) rfl
theorem q141 : (Jvm.Cond.instanceMethod ({ cls := "ScanDesk", name := "build", desc := "()I" } : Jvm.MethodName)) ∈ lw_all := lw_g (lw_at lw_m1 125 rfl) rfl
theorem q142 : (Jvm.Cond.selects "ScanDesk" ({ cls := "ScanDesk", name := "build", desc := "()I" } : Jvm.MethodName) ({ cls := "ScanDesk", name := "build", desc := "()I" } : Jvm.MethodName)) ∈ lw_all := lw_g (lw_at lw_m1 126 rfl) rfl
theorem q143 : (Jvm.Cond.code ({ cls := "ScanDesk", name := "build", desc := "()I" } : Jvm.MethodName) prog_1_method_6_code (5 : Nat) (Option.some Jvm.ClassFile.FieldType.int)) ∈ lw_all := lw_g (lw_at lw_m1 127 rfl) rfl
theorem q144 : (Jvm.Cond.methodLink "ScanDesk" (95 : Nat) ({ cls := "ScanDesk", name := "follow", desc := "(II)I" } : Jvm.MethodName)) ∈ lw_all := lw_g (lw_at lw_m1 128 rfl) rfl
theorem q145 : (Jvm.Cond.privateMethod ({ cls := "ScanDesk", name := "follow", desc := "(II)I" } : Jvm.MethodName)) ∈ lw_tbl := lw_at lw_m1 129 rfl
theorem q146 : (Jvm.Cond.instanceMethod ({ cls := "ScanDesk", name := "follow", desc := "(II)I" } : Jvm.MethodName)) ∈ lw_all := lw_g (lw_at lw_m1 130 rfl) rfl
theorem q147 : (Jvm.Cond.code ({ cls := "ScanDesk", name := "follow", desc := "(II)I" } : Jvm.MethodName) prog_1_method_7_code (5 : Nat) (Option.some Jvm.ClassFile.FieldType.int)) ∈ lw_all := lw_g (lw_at lw_m1 131 rfl) rfl
theorem q149 : (Jvm.Cond.instanceMethod ({ cls := "ScanDesk", name := "text", desc := "(IIIIII)I" } : Jvm.MethodName)) ∈ lw_all := lw_g (lw_at lw_m1 133 rfl) rfl
theorem q150 : (Jvm.Cond.selects "ScanDesk" ({ cls := "ScanDesk", name := "text", desc := "(IIIIII)I" } : Jvm.MethodName) ({ cls := "ScanDesk", name := "text", desc := "(IIIIII)I" } : Jvm.MethodName)) ∈ lw_all := lw_g (lw_at lw_m1 134 rfl) rfl
theorem q151 : (Jvm.Cond.code ({ cls := "ScanDesk", name := "text", desc := "(IIIIII)I" } : Jvm.MethodName) prog_1_method_8_code (10 : Nat) (Option.some Jvm.ClassFile.FieldType.int)) ∈ lw_all := lw_g (lw_at lw_m1 135 rfl) rfl
theorem q152 : (Jvm.Cond.methodLink "ScanDesk" (101 : Nat) ({ cls := "ScanDesk", name := "come", desc := "(I)V" } : Jvm.MethodName)) ∈ lw_all := lw_g (lw_at lw_m1 136 rfl) rfl
theorem q153 : (Jvm.Cond.privateMethod ({ cls := "ScanDesk", name := "come", desc := "(I)V" } : Jvm.MethodName)) ∈ lw_tbl := lw_at lw_m1 137 rfl
theorem q154 : (Jvm.Cond.instanceMethod ({ cls := "ScanDesk", name := "come", desc := "(I)V" } : Jvm.MethodName)) ∈ lw_all := lw_g (lw_at lw_m1 138 rfl) rfl
theorem q155 : (Jvm.Cond.code ({ cls := "ScanDesk", name := "come", desc := "(I)V" } : Jvm.MethodName) prog_1_method_9_code (3 : Nat) (Option.none : Option Jvm.ClassFile.FieldType)) ∈ lw_all := lw_g (lw_at lw_m1 139 rfl) rfl
theorem q156 : (Jvm.Cond.methodLink "ScanDesk" (115 : Nat) ({ cls := "ScanDesk", name := "tell", desc := "()V" } : Jvm.MethodName)) ∈ lw_all := lw_g (lw_at lw_m1 140 rfl) rfl
theorem q157 : (Jvm.Cond.privateMethod ({ cls := "ScanDesk", name := "tell", desc := "()V" } : Jvm.MethodName)) ∈ lw_tbl := lw_at lw_m1 141 rfl
theorem q158 : (Jvm.Cond.instanceMethod ({ cls := "ScanDesk", name := "tell", desc := "()V" } : Jvm.MethodName)) ∈ lw_all := lw_g (lw_at lw_m1 142 rfl) rfl
theorem q159 : (Jvm.Cond.code ({ cls := "ScanDesk", name := "tell", desc := "()V" } : Jvm.MethodName) prog_1_method_10_code (3 : Nat) (Option.none : Option Jvm.ClassFile.FieldType)) ∈ lw_all := lw_g (lw_at lw_m1 143 rfl) rfl
theorem q160 : (Jvm.Cond.methodLink "ScanDesk" (121 : Nat) ({ cls := "ScanDesk", name := "keep", desc := "(I)V" } : Jvm.MethodName)) ∈ lw_all := lw_g (lw_at lw_m1 144 rfl) rfl
theorem q161 : (Jvm.Cond.privateMethod ({ cls := "ScanDesk", name := "keep", desc := "(I)V" } : Jvm.MethodName)) ∈ lw_tbl := lw_at lw_m1 145 rfl
theorem q162 : (Jvm.Cond.instanceMethod ({ cls := "ScanDesk", name := "keep", desc := "(I)V" } : Jvm.MethodName)) ∈ lw_all := lw_g (lw_at lw_m1 146 rfl) rfl
theorem q163 : (Jvm.Cond.code ({ cls := "ScanDesk", name := "keep", desc := "(I)V" } : Jvm.MethodName) prog_1_method_11_code (2 : Nat) (Option.none : Option Jvm.ClassFile.FieldType)) ∈ lw_all := lw_g (lw_at lw_m1 147 rfl) rfl
theorem q165 : (Jvm.Cond.instanceMethod ({ cls := "ScanDesk", name := "skip", desc := "(J)Z" } : Jvm.MethodName)) ∈ lw_all := lw_g (lw_at lw_m1 149 rfl) rfl
theorem q166 : (Jvm.Cond.selects "ScanDesk" ({ cls := "ScanDesk", name := "skip", desc := "(J)Z" } : Jvm.MethodName) ({ cls := "ScanDesk", name := "skip", desc := "(J)Z" } : Jvm.MethodName)) ∈ lw_all := lw_g (lw_at lw_m1 150 rfl) rfl
theorem q167 : (Jvm.Cond.code ({ cls := "ScanDesk", name := "skip", desc := "(J)Z" } : Jvm.MethodName) prog_1_method_12_code (3 : Nat) (Option.some Jvm.ClassFile.FieldType.boolean)) ∈ lw_all := lw_g (lw_at lw_m1 151 rfl) rfl
theorem q168 : (Jvm.Cond.constantLong "ScanDesk" (130 : Nat) (4611686018427387904 : Int64)) ∈ lw_all := lw_g (lw_at lw_m1 152 rfl) rfl
theorem q170 : (Jvm.Cond.instanceMethod ({ cls := "ScanDesk", name := "place", desc := "()J" } : Jvm.MethodName)) ∈ lw_all := lw_g (lw_at lw_m1 154 rfl) rfl
theorem q171 : (Jvm.Cond.selects "ScanDesk" ({ cls := "ScanDesk", name := "place", desc := "()J" } : Jvm.MethodName) ({ cls := "ScanDesk", name := "place", desc := "()J" } : Jvm.MethodName)) ∈ lw_all := lw_g (lw_at lw_m1 155 rfl) rfl
theorem q172 : (Jvm.Cond.code ({ cls := "ScanDesk", name := "place", desc := "()J" } : Jvm.MethodName) prog_1_method_13_code (1 : Nat) (Option.some Jvm.ClassFile.FieldType.long)) ∈ lw_all := lw_g (lw_at lw_m1 156 rfl) rfl
theorem q174 : (Jvm.Cond.instanceMethod ({ cls := "ScanDesk", name := "found", desc := "()I" } : Jvm.MethodName)) ∈ lw_all := lw_g (lw_at lw_m1 158 rfl) rfl
theorem q175 : (Jvm.Cond.selects "ScanDesk" ({ cls := "ScanDesk", name := "found", desc := "()I" } : Jvm.MethodName) ({ cls := "ScanDesk", name := "found", desc := "()I" } : Jvm.MethodName)) ∈ lw_all := lw_g (lw_at lw_m1 159 rfl) rfl
theorem q176 : (Jvm.Cond.code ({ cls := "ScanDesk", name := "found", desc := "()I" } : Jvm.MethodName) prog_1_method_14_code (1 : Nat) (Option.some Jvm.ClassFile.FieldType.int)) ∈ lw_all := lw_g (lw_at lw_m1 160 rfl) rfl
theorem q178 : (Jvm.Cond.instanceMethod ({ cls := "ScanDesk", name := "word", desc := "(I)I" } : Jvm.MethodName)) ∈ lw_all := lw_g (lw_at lw_m1 162 rfl) rfl
theorem q179 : (Jvm.Cond.selects "ScanDesk" ({ cls := "ScanDesk", name := "word", desc := "(I)I" } : Jvm.MethodName) ({ cls := "ScanDesk", name := "word", desc := "(I)I" } : Jvm.MethodName)) ∈ lw_all := lw_g (lw_at lw_m1 163 rfl) rfl
theorem q180 : (Jvm.Cond.code ({ cls := "ScanDesk", name := "word", desc := "(I)I" } : Jvm.MethodName) prog_1_method_16_code (2 : Nat) (Option.some Jvm.ClassFile.FieldType.int)) ∈ lw_all := lw_g (lw_at lw_m1 164 rfl) rfl
theorem q181 : (Jvm.Cond.methodLink "ScanDesk" (132 : Nat) ({ cls := "ScanDesk", name := "isFound", desc := "(I)Z" } : Jvm.MethodName)) ∈ lw_all := lw_g (lw_at lw_m1 165 rfl) rfl
theorem q182 : (Jvm.Cond.privateMethod ({ cls := "ScanDesk", name := "isFound", desc := "(I)Z" } : Jvm.MethodName)) ∈ lw_tbl := lw_at lw_m1 166 rfl
theorem q183 : (Jvm.Cond.instanceMethod ({ cls := "ScanDesk", name := "isFound", desc := "(I)Z" } : Jvm.MethodName)) ∈ lw_all := lw_g (lw_at lw_m1 167 rfl) rfl
theorem q184 : (Jvm.Cond.code ({ cls := "ScanDesk", name := "isFound", desc := "(I)Z" } : Jvm.MethodName) prog_1_method_15_code (2 : Nat) (Option.some Jvm.ClassFile.FieldType.boolean)) ∈ lw_all := lw_g (lw_at lw_m1 168 rfl) rfl
theorem q186 : (Jvm.Cond.instanceMethod ({ cls := "ScanDesk", name := "end", desc := "(I)J" } : Jvm.MethodName)) ∈ lw_all := lw_g (lw_at lw_m1 170 rfl) rfl
theorem q187 : (Jvm.Cond.selects "ScanDesk" ({ cls := "ScanDesk", name := "end", desc := "(I)J" } : Jvm.MethodName) ({ cls := "ScanDesk", name := "end", desc := "(I)J" } : Jvm.MethodName)) ∈ lw_all := lw_g (lw_at lw_m1 171 rfl) rfl
theorem q188 : (Jvm.Cond.code ({ cls := "ScanDesk", name := "end", desc := "(I)J" } : Jvm.MethodName) prog_1_method_17_code (2 : Nat) (Option.some Jvm.ClassFile.FieldType.long)) ∈ lw_all := lw_g (lw_at lw_m1 172 rfl) rfl
theorem q189 : (Jvm.Cond.constantLong "ScanDesk" (136 : Nat) (-1 : Int64)) ∈ lw_all := lw_g (lw_at lw_m1 173 rfl) rfl
theorem q191 : (Jvm.Cond.instanceMethod ({ cls := "ScanDesk", name := "count", desc := "(I)I" } : Jvm.MethodName)) ∈ lw_all := lw_g (lw_at lw_m1 175 rfl) rfl
theorem q192 : (Jvm.Cond.selects "ScanDesk" ({ cls := "ScanDesk", name := "count", desc := "(I)I" } : Jvm.MethodName) ({ cls := "ScanDesk", name := "count", desc := "(I)I" } : Jvm.MethodName)) ∈ lw_all := lw_g (lw_at lw_m1 176 rfl) rfl
theorem q193 : (Jvm.Cond.code ({ cls := "ScanDesk", name := "count", desc := "(I)I" } : Jvm.MethodName) prog_1_method_18_code (2 : Nat) (Option.some Jvm.ClassFile.FieldType.int)) ∈ lw_all := lw_g (lw_at lw_m1 177 rfl) rfl
theorem q195 : (Jvm.Cond.instanceMethod ({ cls := "ScanDesk", name := "lines", desc := "()I" } : Jvm.MethodName)) ∈ lw_all := lw_g (lw_at lw_m1 179 rfl) rfl
theorem q196 : (Jvm.Cond.selects "ScanDesk" ({ cls := "ScanDesk", name := "lines", desc := "()I" } : Jvm.MethodName) ({ cls := "ScanDesk", name := "lines", desc := "()I" } : Jvm.MethodName)) ∈ lw_all := lw_g (lw_at lw_m1 180 rfl) rfl
theorem q197 : (Jvm.Cond.code ({ cls := "ScanDesk", name := "lines", desc := "()I" } : Jvm.MethodName) prog_1_method_19_code (1 : Nat) (Option.some Jvm.ClassFile.FieldType.int)) ∈ lw_all := lw_g (lw_at lw_m1 181 rfl) rfl
theorem q199 : (Jvm.Cond.instanceMethod ({ cls := "ScanDesk", name := "line", desc := "(I)I" } : Jvm.MethodName)) ∈ lw_all := lw_g (lw_at lw_m1 183 rfl) rfl
theorem q200 : (Jvm.Cond.selects "ScanDesk" ({ cls := "ScanDesk", name := "line", desc := "(I)I" } : Jvm.MethodName) ({ cls := "ScanDesk", name := "line", desc := "(I)I" } : Jvm.MethodName)) ∈ lw_all := lw_g (lw_at lw_m1 184 rfl) rfl
theorem q201 : (Jvm.Cond.code ({ cls := "ScanDesk", name := "line", desc := "(I)I" } : Jvm.MethodName) prog_1_method_20_code (2 : Nat) (Option.some Jvm.ClassFile.FieldType.int)) ∈ lw_all := lw_g (lw_at lw_m1 185 rfl) rfl
theorem q203 : (Jvm.Cond.instanceMethod ({ cls := "ScanDesk", name := "steps", desc := "()J" } : Jvm.MethodName)) ∈ lw_all := lw_g (lw_at lw_m1 187 rfl) rfl
theorem q204 : (Jvm.Cond.selects "ScanDesk" ({ cls := "ScanDesk", name := "steps", desc := "()J" } : Jvm.MethodName) ({ cls := "ScanDesk", name := "steps", desc := "()J" } : Jvm.MethodName)) ∈ lw_all := lw_g (lw_at lw_m1 188 rfl) rfl
theorem q205 : (Jvm.Cond.code ({ cls := "ScanDesk", name := "steps", desc := "()J" } : Jvm.MethodName) prog_1_method_21_code (1 : Nat) (Option.some Jvm.ClassFile.FieldType.long)) ∈ lw_all := lw_g (lw_at lw_m1 189 rfl) rfl
theorem q207 : (Jvm.Cond.instanceMethod ({ cls := "ScanDesk", name := "state", desc := "()I" } : Jvm.MethodName)) ∈ lw_all := lw_g (lw_at lw_m1 191 rfl) rfl
theorem q208 : (Jvm.Cond.selects "ScanDesk" ({ cls := "ScanDesk", name := "state", desc := "()I" } : Jvm.MethodName) ({ cls := "ScanDesk", name := "state", desc := "()I" } : Jvm.MethodName)) ∈ lw_all := lw_g (lw_at lw_m1 192 rfl) rfl
theorem q209 : (Jvm.Cond.code ({ cls := "ScanDesk", name := "state", desc := "()I" } : Jvm.MethodName) prog_1_method_22_code (1 : Nat) (Option.some Jvm.ClassFile.FieldType.int)) ∈ lw_all := lw_g (lw_at lw_m1 193 rfl) rfl
theorem q211 : (Jvm.Cond.instanceMethod ({ cls := "ScanDesk", name := "pick", desc := "()I" } : Jvm.MethodName)) ∈ lw_all := lw_g (lw_at lw_m1 195 rfl) rfl
theorem q212 : (Jvm.Cond.selects "ScanDesk" ({ cls := "ScanDesk", name := "pick", desc := "()I" } : Jvm.MethodName) ({ cls := "ScanDesk", name := "pick", desc := "()I" } : Jvm.MethodName)) ∈ lw_all := lw_g (lw_at lw_m1 196 rfl) rfl
theorem q213 : (Jvm.Cond.code ({ cls := "ScanDesk", name := "pick", desc := "()I" } : Jvm.MethodName) prog_1_method_25_code (2 : Nat) (Option.some Jvm.ClassFile.FieldType.int)) ∈ lw_all := lw_g (lw_at lw_m1 197 rfl) rfl
theorem q214 : (Jvm.Cond.methodLink "ScanDesk" (142 : Nat) ({ cls := "ScanDesk", name := "first", desc := "(IJ)I" } : Jvm.MethodName)) ∈ lw_all := lw_g (lw_at lw_m1 198 rfl) rfl
theorem q215 : (Jvm.Cond.privateMethod ({ cls := "ScanDesk", name := "first", desc := "(IJ)I" } : Jvm.MethodName)) ∈ lw_tbl := lw_at lw_m1 199 rfl
theorem q216 : (Jvm.Cond.instanceMethod ({ cls := "ScanDesk", name := "first", desc := "(IJ)I" } : Jvm.MethodName)) ∈ lw_all := lw_g (lw_at lw_m1 200 rfl) rfl
theorem q217 : (Jvm.Cond.code ({ cls := "ScanDesk", name := "first", desc := "(IJ)I" } : Jvm.MethodName) prog_1_method_26_code (7 : Nat) (Option.some Jvm.ClassFile.FieldType.int)) ∈ lw_all := lw_g (lw_at lw_m1 201 rfl) rfl
theorem q218 : (Jvm.Cond.methodLink "ScanDesk" (138 : Nat) ({ cls := "ScanDesk", name := "begin", desc := "(I)J" } : Jvm.MethodName)) ∈ lw_all := lw_g (lw_at lw_m1 202 rfl) rfl
theorem q219 : (Jvm.Cond.privateMethod ({ cls := "ScanDesk", name := "begin", desc := "(I)J" } : Jvm.MethodName)) ∈ lw_tbl := lw_at lw_m1 203 rfl
theorem q220 : (Jvm.Cond.instanceMethod ({ cls := "ScanDesk", name := "begin", desc := "(I)J" } : Jvm.MethodName)) ∈ lw_all := lw_g (lw_at lw_m1 204 rfl) rfl
theorem q221 : (Jvm.Cond.code ({ cls := "ScanDesk", name := "begin", desc := "(I)J" } : Jvm.MethodName) prog_1_method_23_code (2 : Nat) (Option.some Jvm.ClassFile.FieldType.long)) ∈ lw_all := lw_g (lw_at lw_m1 205 rfl) rfl
theorem q222 : (Jvm.Cond.constantLong "ScanDesk" (146 : Nat) (40 : Int64)) ∈ lw_all := lw_g (lw_at lw_m1 206 rfl) rfl
theorem q223 : (Jvm.Cond.methodLink "ScanDesk" (148 : Nat) ({ cls := "ScanDesk", name := "isBefore", desc := "(II)Z" } : Jvm.MethodName)) ∈ lw_all := lw_g (lw_at lw_m1 207 rfl) rfl
theorem q224 : (Jvm.Cond.privateMethod ({ cls := "ScanDesk", name := "isBefore", desc := "(II)Z" } : Jvm.MethodName)) ∈ lw_tbl := lw_at lw_m1 208 rfl
theorem q225 : (Jvm.Cond.instanceMethod ({ cls := "ScanDesk", name := "isBefore", desc := "(II)Z" } : Jvm.MethodName)) ∈ lw_all := lw_g (lw_at lw_m1 209 rfl) rfl
theorem q226 : (Jvm.Cond.code ({ cls := "ScanDesk", name := "isBefore", desc := "(II)Z" } : Jvm.MethodName) prog_1_method_24_code (3 : Nat) (Option.some Jvm.ClassFile.FieldType.boolean)) ∈ lw_all := lw_g (lw_at lw_m1 210 rfl) rfl
theorem q228 : (Jvm.Cond.instanceMethod ({ cls := "ScanDesk", name := "picked", desc := "(I)I" } : Jvm.MethodName)) ∈ lw_all := lw_g (lw_at lw_m1 212 rfl) rfl
theorem q229 : (Jvm.Cond.selects "ScanDesk" ({ cls := "ScanDesk", name := "picked", desc := "(I)I" } : Jvm.MethodName) ({ cls := "ScanDesk", name := "picked", desc := "(I)I" } : Jvm.MethodName)) ∈ lw_all := lw_g (lw_at lw_m1 213 rfl) rfl
theorem q230 : (Jvm.Cond.code ({ cls := "ScanDesk", name := "picked", desc := "(I)I" } : Jvm.MethodName) prog_1_method_27_code (2 : Nat) (Option.some Jvm.ClassFile.FieldType.int)) ∈ lw_all := lw_g (lw_at lw_m1 214 rfl) rfl
theorem in_X1 : ∀ w ∈ wsX10, w ∈ lw_all := lw_in wsX10 [67, 69, 71, 73, 75, 77, 79, 81, 83, 85, 87, 89, 91, 93, 95, 97, 99, 101, 103, 105, 107, 109, 111, 113, 115, 117, 119, 121, 123] (by decide +kernel) (by decide +kernel)
end
section
/-! ScanDeskModel -/
set_option maxRecDepth 100000
def RX2 : String := "ScanDeskModel"
def TX2 : u_T := fun k => match k with
  | 0 => ("ScanDeskModel", "room", "I", true)
  | 1 => ("ScanDeskModel", "built", "Z", false)
  | 2 => ("ScanDeskModel", "prefixes", "I", false)
  | 3 => ("ScanDeskModel", "words", "I", false)
  | 4 => ("ScanDeskModel", "bytes", "[I", true)
  | 5 => ("ScanDeskModel", "lengths", "[I", true)
  | 6 => ("ScanDeskModel", "draft", "[I", true)
  | 7 => ("ScanDeskModel", "drafted", "I", false)
  | 8 => ("ScanDeskModel", "last", "[I", true)
  | 9 => ("ScanDeskModel", "state", "I", false)
  | 10 => ("ScanDeskModel", "steps", "J", false)
  | 11 => ("ScanDeskModel", "place", "J", false)
  | 12 => ("ScanDeskModel", "line", "I", false)
  | 13 => ("ScanDeskModel", "found", "I", false)
  | 14 => ("ScanDeskModel", "word", "[I", true)
  | 15 => ("ScanDeskModel", "end", "[J", true)
  | 16 => ("ScanDeskModel", "lineOf", "[I", true)
  | 17 => ("ScanDeskModel", "picks", "I", false)
  | 18 => ("ScanDeskModel", "isPicked", "Z", false)
  | _ => ("ScanDeskModel", "picked", "[I", true)
def tyX2 : Nat → FieldType := fun k => match k with
  | 0 => .int
  | 1 => .boolean
  | 2 => .int
  | 3 => .int
  | 4 => .array .int
  | 5 => .array .int
  | 6 => .array .int
  | 7 => .int
  | 8 => .array .int
  | 9 => .int
  | 10 => .long
  | 11 => .long
  | 12 => .int
  | 13 => .int
  | 14 => .array .int
  | 15 => .array .long
  | 16 => .array .int
  | 17 => .int
  | 18 => .boolean
  | _ => .array .int
abbrev wsX20 : List Cond := u_ws RX2 TX2 20
set_option maxRecDepth 100000 in
theorem nmX2 : ∀ a, a < 20 → ∀ b, b < 20 → a ≠ b → (TX2 a).2.1 ≠ (TX2 b).2.1 := by decide +kernel
set_option maxRecDepth 100000 in
theorem tyX2_ok : ∀ k, k < 20 → parseFieldDescriptor (TX2 k).2.2.1 = some (tyX2 k) := by decide +kernel
abbrev cX2_init : ByteArray := prog_3_method_1_code
def yX2_init : MethodName := ⟨RX2, "<init>", "(I)V"⟩
theorem dX2_init_0 : decode cX2_init 0 = .ok (.aload_n 0, 1) := by decide +kernel
theorem dX2_init_1 : decode cX2_init 1 = .ok (.invokespecial 1, 3) := by decide +kernel
theorem dX2_init_4 : decode cX2_init 4 = .ok (.aload_n 0, 1) := by decide +kernel
theorem dX2_init_5 : decode cX2_init 5 = .ok (.iconst 1, 1) := by decide +kernel
theorem dX2_init_6 : decode cX2_init 6 = .ok (.putfield 7, 3) := by decide +kernel
theorem dX2_init_9 : decode cX2_init 9 = .ok (.aload_n 0, 1) := by decide +kernel
theorem dX2_init_10 : decode cX2_init 10 = .ok (.sipush 2400, 3) := by decide +kernel
theorem dX2_init_13 : decode cX2_init 13 = .ok (.newarray .int, 2) := by decide +kernel
theorem dX2_init_15 : decode cX2_init 15 = .ok (.putfield 13, 3) := by decide +kernel
theorem dX2_init_18 : decode cX2_init 18 = .ok (.aload_n 0, 1) := by decide +kernel
theorem dX2_init_19 : decode cX2_init 19 = .ok (.bipush 60, 2) := by decide +kernel
theorem dX2_init_21 : decode cX2_init 21 = .ok (.newarray .int, 2) := by decide +kernel
theorem dX2_init_23 : decode cX2_init 23 = .ok (.putfield 17, 3) := by decide +kernel
theorem dX2_init_26 : decode cX2_init 26 = .ok (.aload_n 0, 1) := by decide +kernel
theorem dX2_init_27 : decode cX2_init 27 = .ok (.bipush 40, 2) := by decide +kernel
theorem dX2_init_29 : decode cX2_init 29 = .ok (.newarray .int, 2) := by decide +kernel
theorem dX2_init_31 : decode cX2_init 31 = .ok (.putfield 20, 3) := by decide +kernel
theorem dX2_init_34 : decode cX2_init 34 = .ok (.aload_n 0, 1) := by decide +kernel
theorem dX2_init_35 : decode cX2_init 35 = .ok (.bipush 64, 2) := by decide +kernel
theorem dX2_init_37 : decode cX2_init 37 = .ok (.newarray .int, 2) := by decide +kernel
theorem dX2_init_39 : decode cX2_init 39 = .ok (.putfield 23, 3) := by decide +kernel
theorem dX2_init_42 : decode cX2_init 42 = .ok (.aload_n 0, 1) := by decide +kernel
theorem dX2_init_43 : decode cX2_init 43 = .ok (.iconst 1, 1) := by decide +kernel
theorem dX2_init_44 : decode cX2_init 44 = .ok (.putfield 26, 3) := by decide +kernel
theorem dX2_init_47 : decode cX2_init 47 = .ok (.aload_n 0, 1) := by decide +kernel
theorem dX2_init_48 : decode cX2_init 48 = .ok (.sipush 4400, 3) := by decide +kernel
theorem dX2_init_51 : decode cX2_init 51 = .ok (.newarray .int, 2) := by decide +kernel
theorem dX2_init_53 : decode cX2_init 53 = .ok (.putfield 29, 3) := by decide +kernel
theorem dX2_init_56 : decode cX2_init 56 = .ok (.aload_n 0, 1) := by decide +kernel
theorem dX2_init_57 : decode cX2_init 57 = .ok (.sipush 4400, 3) := by decide +kernel
theorem dX2_init_60 : decode cX2_init 60 = .ok (.newarray .long, 2) := by decide +kernel
theorem dX2_init_62 : decode cX2_init 62 = .ok (.putfield 32, 3) := by decide +kernel
theorem dX2_init_65 : decode cX2_init 65 = .ok (.aload_n 0, 1) := by decide +kernel
theorem dX2_init_66 : decode cX2_init 66 = .ok (.sipush 4400, 3) := by decide +kernel
theorem dX2_init_69 : decode cX2_init 69 = .ok (.newarray .int, 2) := by decide +kernel
theorem dX2_init_71 : decode cX2_init 71 = .ok (.putfield 36, 3) := by decide +kernel
theorem dX2_init_74 : decode cX2_init 74 = .ok (.aload_n 0, 1) := by decide +kernel
theorem dX2_init_75 : decode cX2_init 75 = .ok (.sipush 4400, 3) := by decide +kernel
theorem dX2_init_78 : decode cX2_init 78 = .ok (.newarray .int, 2) := by decide +kernel
theorem dX2_init_80 : decode cX2_init 80 = .ok (.putfield 39, 3) := by decide +kernel
theorem dX2_init_83 : decode cX2_init 83 = .ok (.aload_n 0, 1) := by decide +kernel
theorem dX2_init_84 : decode cX2_init 84 = .ok (.iload_n 1, 1) := by decide +kernel
theorem dX2_init_85 : decode cX2_init 85 = .ok (.iconst 1, 1) := by decide +kernel
theorem dX2_init_86 : decode cX2_init 86 = .ok (.if_icmp .ge 7, 3) := by decide +kernel
theorem dX2_init_89 : decode cX2_init 89 = .ok (.iconst 1, 1) := by decide +kernel
theorem dX2_init_90 : decode cX2_init 90 = .ok (.goto 17, 3) := by decide +kernel
theorem dX2_init_93 : decode cX2_init 93 = .ok (.iload_n 1, 1) := by decide +kernel
theorem dX2_init_94 : decode cX2_init 94 = .ok (.sipush 2000, 3) := by decide +kernel
theorem dX2_init_97 : decode cX2_init 97 = .ok (.if_icmp .le 9, 3) := by decide +kernel
theorem dX2_init_100 : decode cX2_init 100 = .ok (.sipush 2000, 3) := by decide +kernel
theorem dX2_init_103 : decode cX2_init 103 = .ok (.goto 4, 3) := by decide +kernel
theorem dX2_init_106 : decode cX2_init 106 = .ok (.iload_n 1, 1) := by decide +kernel
theorem dX2_init_107 : decode cX2_init 107 = .ok (.putfield 42, 3) := by decide +kernel
theorem dX2_init_110 : decode cX2_init 110 = .ok (.return_, 1) := by decide +kernel
abbrev cX2_put : ByteArray := prog_3_method_2_code
def yX2_put : MethodName := ⟨RX2, "put", "(I)I"⟩
theorem dX2_put_0 : decode cX2_put 0 = .ok (.aload_n 0, 1) := by decide +kernel
theorem dX2_put_1 : decode cX2_put 1 = .ok (.getfield 45, 3) := by decide +kernel
theorem dX2_put_4 : decode cX2_put 4 = .ok (.bipush 40, 2) := by decide +kernel
theorem dX2_put_6 : decode cX2_put 6 = .ok (.if_icmp .eq 27, 3) := by decide +kernel
theorem dX2_put_9 : decode cX2_put 9 = .ok (.iload_n 1, 1) := by decide +kernel
theorem dX2_put_10 : decode cX2_put 10 = .ok (.ifCond .lt 23, 3) := by decide +kernel
theorem dX2_put_13 : decode cX2_put 13 = .ok (.iload_n 1, 1) := by decide +kernel
theorem dX2_put_14 : decode cX2_put 14 = .ok (.sipush 255, 3) := by decide +kernel
theorem dX2_put_17 : decode cX2_put 17 = .ok (.if_icmp .gt 16, 3) := by decide +kernel
theorem dX2_put_20 : decode cX2_put 20 = .ok (.iload_n 1, 1) := by decide +kernel
theorem dX2_put_21 : decode cX2_put 21 = .ok (.bipush 10, 2) := by decide +kernel
theorem dX2_put_23 : decode cX2_put 23 = .ok (.if_icmp .eq 10, 3) := by decide +kernel
theorem dX2_put_26 : decode cX2_put 26 = .ok (.aload_n 0, 1) := by decide +kernel
theorem dX2_put_27 : decode cX2_put 27 = .ok (.getfield 48, 3) := by decide +kernel
theorem dX2_put_30 : decode cX2_put 30 = .ok (.ifCond .eq 5, 3) := by decide +kernel
theorem dX2_put_33 : decode cX2_put 33 = .ok (.iconst (-1), 1) := by decide +kernel
theorem dX2_put_34 : decode cX2_put 34 = .ok (.ireturn, 1) := by decide +kernel
theorem dX2_put_35 : decode cX2_put 35 = .ok (.aload_n 0, 1) := by decide +kernel
theorem dX2_put_36 : decode cX2_put 36 = .ok (.getfield 20, 3) := by decide +kernel
theorem dX2_put_39 : decode cX2_put 39 = .ok (.aload_n 0, 1) := by decide +kernel
theorem dX2_put_40 : decode cX2_put 40 = .ok (.getfield 45, 3) := by decide +kernel
theorem dX2_put_43 : decode cX2_put 43 = .ok (.iload_n 1, 1) := by decide +kernel
theorem dX2_put_44 : decode cX2_put 44 = .ok (.iastore, 1) := by decide +kernel
theorem dX2_put_45 : decode cX2_put 45 = .ok (.aload_n 0, 1) := by decide +kernel
theorem dX2_put_46 : decode cX2_put 46 = .ok (.dup, 1) := by decide +kernel
theorem dX2_put_47 : decode cX2_put 47 = .ok (.getfield 45, 3) := by decide +kernel
theorem dX2_put_50 : decode cX2_put 50 = .ok (.iconst 1, 1) := by decide +kernel
theorem dX2_put_51 : decode cX2_put 51 = .ok (.iadd, 1) := by decide +kernel
theorem dX2_put_52 : decode cX2_put 52 = .ok (.putfield 45, 3) := by decide +kernel
theorem dX2_put_55 : decode cX2_put 55 = .ok (.aload_n 0, 1) := by decide +kernel
theorem dX2_put_56 : decode cX2_put 56 = .ok (.getfield 45, 3) := by decide +kernel
theorem dX2_put_59 : decode cX2_put 59 = .ok (.ireturn, 1) := by decide +kernel
abbrev cX2_add : ByteArray := prog_3_method_3_code
def yX2_add : MethodName := ⟨RX2, "add", "()I"⟩
theorem dX2_add_0 : decode cX2_add 0 = .ok (.aload_n 0, 1) := by decide +kernel
theorem dX2_add_1 : decode cX2_add 1 = .ok (.getfield 48, 3) := by decide +kernel
theorem dX2_add_4 : decode cX2_add 4 = .ok (.ifCond .eq 5, 3) := by decide +kernel
theorem dX2_add_7 : decode cX2_add 7 = .ok (.iconst (-1), 1) := by decide +kernel
theorem dX2_add_8 : decode cX2_add 8 = .ok (.ireturn, 1) := by decide +kernel
theorem dX2_add_9 : decode cX2_add 9 = .ok (.aload_n 0, 1) := by decide +kernel
theorem dX2_add_10 : decode cX2_add 10 = .ok (.getfield 45, 3) := by decide +kernel
theorem dX2_add_13 : decode cX2_add 13 = .ok (.istore_n 1, 1) := by decide +kernel
theorem dX2_add_14 : decode cX2_add 14 = .ok (.aload_n 0, 1) := by decide +kernel
theorem dX2_add_15 : decode cX2_add 15 = .ok (.iconst 0, 1) := by decide +kernel
theorem dX2_add_16 : decode cX2_add 16 = .ok (.putfield 45, 3) := by decide +kernel
theorem dX2_add_19 : decode cX2_add 19 = .ok (.iconst 0, 1) := by decide +kernel
theorem dX2_add_20 : decode cX2_add 20 = .ok (.istore_n 2, 1) := by decide +kernel
theorem dX2_add_21 : decode cX2_add 21 = .ok (.iconst 0, 1) := by decide +kernel
theorem dX2_add_22 : decode cX2_add 22 = .ok (.istore_n 3, 1) := by decide +kernel
theorem dX2_add_23 : decode cX2_add 23 = .ok (.iload_n 3, 1) := by decide +kernel
theorem dX2_add_24 : decode cX2_add 24 = .ok (.aload_n 0, 1) := by decide +kernel
theorem dX2_add_25 : decode cX2_add 25 = .ok (.getfield 52, 3) := by decide +kernel
theorem dX2_add_28 : decode cX2_add 28 = .ok (.if_icmp .ge 70, 3) := by decide +kernel
theorem dX2_add_31 : decode cX2_add 31 = .ok (.iconst 0, 1) := by decide +kernel
theorem dX2_add_32 : decode cX2_add 32 = .ok (.istore 4, 2) := by decide +kernel
theorem dX2_add_34 : decode cX2_add 34 = .ok (.iload 4, 2) := by decide +kernel
theorem dX2_add_36 : decode cX2_add 36 = .ok (.iload_n 1, 1) := by decide +kernel
theorem dX2_add_37 : decode cX2_add 37 = .ok (.if_icmp .ge 42, 3) := by decide +kernel
theorem dX2_add_40 : decode cX2_add 40 = .ok (.iload 4, 2) := by decide +kernel
theorem dX2_add_42 : decode cX2_add 42 = .ok (.aload_n 0, 1) := by decide +kernel
theorem dX2_add_43 : decode cX2_add 43 = .ok (.getfield 17, 3) := by decide +kernel
theorem dX2_add_46 : decode cX2_add 46 = .ok (.iload_n 3, 1) := by decide +kernel
theorem dX2_add_47 : decode cX2_add 47 = .ok (.iaload, 1) := by decide +kernel
theorem dX2_add_48 : decode cX2_add 48 = .ok (.if_icmp .ge 31, 3) := by decide +kernel
theorem dX2_add_51 : decode cX2_add 51 = .ok (.aload_n 0, 1) := by decide +kernel
theorem dX2_add_52 : decode cX2_add 52 = .ok (.getfield 13, 3) := by decide +kernel
theorem dX2_add_55 : decode cX2_add 55 = .ok (.bipush 40, 2) := by decide +kernel
theorem dX2_add_57 : decode cX2_add 57 = .ok (.iload_n 3, 1) := by decide +kernel
theorem dX2_add_58 : decode cX2_add 58 = .ok (.imul, 1) := by decide +kernel
theorem dX2_add_59 : decode cX2_add 59 = .ok (.iload 4, 2) := by decide +kernel
theorem dX2_add_61 : decode cX2_add 61 = .ok (.iadd, 1) := by decide +kernel
theorem dX2_add_62 : decode cX2_add 62 = .ok (.iaload, 1) := by decide +kernel
theorem dX2_add_63 : decode cX2_add 63 = .ok (.aload_n 0, 1) := by decide +kernel
theorem dX2_add_64 : decode cX2_add 64 = .ok (.getfield 20, 3) := by decide +kernel
theorem dX2_add_67 : decode cX2_add 67 = .ok (.iload 4, 2) := by decide +kernel
theorem dX2_add_69 : decode cX2_add 69 = .ok (.iaload, 1) := by decide +kernel
theorem dX2_add_70 : decode cX2_add 70 = .ok (.if_icmp .ne 9, 3) := by decide +kernel
theorem dX2_add_73 : decode cX2_add 73 = .ok (.iinc 4 1, 3) := by decide +kernel
theorem dX2_add_76 : decode cX2_add 76 = .ok (.goto (-42), 3) := by decide +kernel
theorem dX2_add_79 : decode cX2_add 79 = .ok (.iload 4, 2) := by decide +kernel
theorem dX2_add_81 : decode cX2_add 81 = .ok (.iload_n 2, 1) := by decide +kernel
theorem dX2_add_82 : decode cX2_add 82 = .ok (.if_icmp .le 8, 3) := by decide +kernel
theorem dX2_add_85 : decode cX2_add 85 = .ok (.iload 4, 2) := by decide +kernel
theorem dX2_add_87 : decode cX2_add 87 = .ok (.goto 4, 3) := by decide +kernel
theorem dX2_add_90 : decode cX2_add 90 = .ok (.iload_n 2, 1) := by decide +kernel
theorem dX2_add_91 : decode cX2_add 91 = .ok (.istore_n 2, 1) := by decide +kernel
theorem dX2_add_92 : decode cX2_add 92 = .ok (.iinc 3 1, 3) := by decide +kernel
theorem dX2_add_95 : decode cX2_add 95 = .ok (.goto (-72), 3) := by decide +kernel
theorem dX2_add_98 : decode cX2_add 98 = .ok (.iload_n 1, 1) := by decide +kernel
theorem dX2_add_99 : decode cX2_add 99 = .ok (.ifCond .eq 27, 3) := by decide +kernel
theorem dX2_add_102 : decode cX2_add 102 = .ok (.aload_n 0, 1) := by decide +kernel
theorem dX2_add_103 : decode cX2_add 103 = .ok (.getfield 52, 3) := by decide +kernel
theorem dX2_add_106 : decode cX2_add 106 = .ok (.bipush 60, 2) := by decide +kernel
theorem dX2_add_108 : decode cX2_add 108 = .ok (.if_icmp .eq 18, 3) := by decide +kernel
theorem dX2_add_111 : decode cX2_add 111 = .ok (.aload_n 0, 1) := by decide +kernel
theorem dX2_add_112 : decode cX2_add 112 = .ok (.getfield 7, 3) := by decide +kernel
theorem dX2_add_115 : decode cX2_add 115 = .ok (.iload_n 1, 1) := by decide +kernel
theorem dX2_add_116 : decode cX2_add 116 = .ok (.iadd, 1) := by decide +kernel
theorem dX2_add_117 : decode cX2_add 117 = .ok (.iload_n 2, 1) := by decide +kernel
theorem dX2_add_118 : decode cX2_add 118 = .ok (.isub, 1) := by decide +kernel
theorem dX2_add_119 : decode cX2_add 119 = .ok (.aload_n 0, 1) := by decide +kernel
theorem dX2_add_120 : decode cX2_add 120 = .ok (.getfield 42, 3) := by decide +kernel
theorem dX2_add_123 : decode cX2_add 123 = .ok (.if_icmp .le 5, 3) := by decide +kernel
theorem dX2_add_126 : decode cX2_add 126 = .ok (.iconst (-1), 1) := by decide +kernel
theorem dX2_add_127 : decode cX2_add 127 = .ok (.ireturn, 1) := by decide +kernel
theorem dX2_add_128 : decode cX2_add 128 = .ok (.aload_n 0, 1) := by decide +kernel
theorem dX2_add_129 : decode cX2_add 129 = .ok (.dup, 1) := by decide +kernel
theorem dX2_add_130 : decode cX2_add 130 = .ok (.getfield 7, 3) := by decide +kernel
theorem dX2_add_133 : decode cX2_add 133 = .ok (.iload_n 1, 1) := by decide +kernel
theorem dX2_add_134 : decode cX2_add 134 = .ok (.iload_n 2, 1) := by decide +kernel
theorem dX2_add_135 : decode cX2_add 135 = .ok (.isub, 1) := by decide +kernel
theorem dX2_add_136 : decode cX2_add 136 = .ok (.iadd, 1) := by decide +kernel
theorem dX2_add_137 : decode cX2_add 137 = .ok (.putfield 7, 3) := by decide +kernel
theorem dX2_add_140 : decode cX2_add 140 = .ok (.iconst 0, 1) := by decide +kernel
theorem dX2_add_141 : decode cX2_add 141 = .ok (.istore_n 3, 1) := by decide +kernel
theorem dX2_add_142 : decode cX2_add 142 = .ok (.iload_n 3, 1) := by decide +kernel
theorem dX2_add_143 : decode cX2_add 143 = .ok (.iload_n 1, 1) := by decide +kernel
theorem dX2_add_144 : decode cX2_add 144 = .ok (.if_icmp .ge 29, 3) := by decide +kernel
theorem dX2_add_147 : decode cX2_add 147 = .ok (.aload_n 0, 1) := by decide +kernel
theorem dX2_add_148 : decode cX2_add 148 = .ok (.getfield 13, 3) := by decide +kernel
theorem dX2_add_151 : decode cX2_add 151 = .ok (.bipush 40, 2) := by decide +kernel
theorem dX2_add_153 : decode cX2_add 153 = .ok (.aload_n 0, 1) := by decide +kernel
theorem dX2_add_154 : decode cX2_add 154 = .ok (.getfield 52, 3) := by decide +kernel
theorem dX2_add_157 : decode cX2_add 157 = .ok (.imul, 1) := by decide +kernel
theorem dX2_add_158 : decode cX2_add 158 = .ok (.iload_n 3, 1) := by decide +kernel
theorem dX2_add_159 : decode cX2_add 159 = .ok (.iadd, 1) := by decide +kernel
theorem dX2_add_160 : decode cX2_add 160 = .ok (.aload_n 0, 1) := by decide +kernel
theorem dX2_add_161 : decode cX2_add 161 = .ok (.getfield 20, 3) := by decide +kernel
theorem dX2_add_164 : decode cX2_add 164 = .ok (.iload_n 3, 1) := by decide +kernel
theorem dX2_add_165 : decode cX2_add 165 = .ok (.iaload, 1) := by decide +kernel
theorem dX2_add_166 : decode cX2_add 166 = .ok (.iastore, 1) := by decide +kernel
theorem dX2_add_167 : decode cX2_add 167 = .ok (.iinc 3 1, 3) := by decide +kernel
theorem dX2_add_170 : decode cX2_add 170 = .ok (.goto (-28), 3) := by decide +kernel
theorem dX2_add_173 : decode cX2_add 173 = .ok (.aload_n 0, 1) := by decide +kernel
theorem dX2_add_174 : decode cX2_add 174 = .ok (.getfield 17, 3) := by decide +kernel
theorem dX2_add_177 : decode cX2_add 177 = .ok (.aload_n 0, 1) := by decide +kernel
theorem dX2_add_178 : decode cX2_add 178 = .ok (.getfield 52, 3) := by decide +kernel
theorem dX2_add_181 : decode cX2_add 181 = .ok (.iload_n 1, 1) := by decide +kernel
theorem dX2_add_182 : decode cX2_add 182 = .ok (.iastore, 1) := by decide +kernel
theorem dX2_add_183 : decode cX2_add 183 = .ok (.aload_n 0, 1) := by decide +kernel
theorem dX2_add_184 : decode cX2_add 184 = .ok (.dup, 1) := by decide +kernel
theorem dX2_add_185 : decode cX2_add 185 = .ok (.getfield 52, 3) := by decide +kernel
theorem dX2_add_188 : decode cX2_add 188 = .ok (.iconst 1, 1) := by decide +kernel
theorem dX2_add_189 : decode cX2_add 189 = .ok (.iadd, 1) := by decide +kernel
theorem dX2_add_190 : decode cX2_add 190 = .ok (.putfield 52, 3) := by decide +kernel
theorem dX2_add_193 : decode cX2_add 193 = .ok (.aload_n 0, 1) := by decide +kernel
theorem dX2_add_194 : decode cX2_add 194 = .ok (.getfield 52, 3) := by decide +kernel
theorem dX2_add_197 : decode cX2_add 197 = .ok (.iconst 1, 1) := by decide +kernel
theorem dX2_add_198 : decode cX2_add 198 = .ok (.isub, 1) := by decide +kernel
theorem dX2_add_199 : decode cX2_add 199 = .ok (.ireturn, 1) := by decide +kernel
abbrev cX2_build : ByteArray := prog_3_method_4_code
def yX2_build : MethodName := ⟨RX2, "build", "()I"⟩
theorem dX2_build_0 : decode cX2_build 0 = .ok (.aload_n 0, 1) := by decide +kernel
theorem dX2_build_1 : decode cX2_build 1 = .ok (.getfield 48, 3) := by decide +kernel
theorem dX2_build_4 : decode cX2_build 4 = .ok (.ifCond .eq 5, 3) := by decide +kernel
theorem dX2_build_7 : decode cX2_build 7 = .ok (.iconst (-1), 1) := by decide +kernel
theorem dX2_build_8 : decode cX2_build 8 = .ok (.ireturn, 1) := by decide +kernel
theorem dX2_build_9 : decode cX2_build 9 = .ok (.aload_n 0, 1) := by decide +kernel
theorem dX2_build_10 : decode cX2_build 10 = .ok (.iconst 1, 1) := by decide +kernel
theorem dX2_build_11 : decode cX2_build 11 = .ok (.putfield 48, 3) := by decide +kernel
theorem dX2_build_14 : decode cX2_build 14 = .ok (.aload_n 0, 1) := by decide +kernel
theorem dX2_build_15 : decode cX2_build 15 = .ok (.getfield 7, 3) := by decide +kernel
theorem dX2_build_18 : decode cX2_build 18 = .ok (.ireturn, 1) := by decide +kernel
abbrev cX2_text : ByteArray := prog_3_method_9_code
def yX2_text : MethodName := ⟨RX2, "text", "(IIIIII)I"⟩
theorem dX2_text_0 : decode cX2_text 0 = .ok (.aload_n 0, 1) := by decide +kernel
theorem dX2_text_1 : decode cX2_text 1 = .ok (.getfield 48, 3) := by decide +kernel
theorem dX2_text_4 : decode cX2_text 4 = .ok (.ifCond .eq 25, 3) := by decide +kernel
theorem dX2_text_7 : decode cX2_text 7 = .ok (.iload 6, 2) := by decide +kernel
theorem dX2_text_9 : decode cX2_text 9 = .ok (.ifCond .lt 20, 3) := by decide +kernel
theorem dX2_text_12 : decode cX2_text 12 = .ok (.iload 6, 2) := by decide +kernel
theorem dX2_text_14 : decode cX2_text 14 = .ok (.bipush 20, 2) := by decide +kernel
theorem dX2_text_16 : decode cX2_text 16 = .ok (.if_icmp .gt 13, 3) := by decide +kernel
theorem dX2_text_19 : decode cX2_text 19 = .ok (.aload_n 0, 1) := by decide +kernel
theorem dX2_text_20 : decode cX2_text 20 = .ok (.getfield 76, 3) := by decide +kernel
theorem dX2_text_23 : decode cX2_text 23 = .ok (.sipush 3000, 3) := by decide +kernel
theorem dX2_text_26 : decode cX2_text 26 = .ok (.if_icmp .le 5, 3) := by decide +kernel
theorem dX2_text_29 : decode cX2_text 29 = .ok (.iconst (-1), 1) := by decide +kernel
theorem dX2_text_30 : decode cX2_text 30 = .ok (.ireturn, 1) := by decide +kernel
theorem dX2_text_31 : decode cX2_text 31 = .ok (.aload_n 0, 1) := by decide +kernel
theorem dX2_text_32 : decode cX2_text 32 = .ok (.getfield 76, 3) := by decide +kernel
theorem dX2_text_35 : decode cX2_text 35 = .ok (.istore 7, 2) := by decide +kernel
theorem dX2_text_37 : decode cX2_text 37 = .ok (.iconst 0, 1) := by decide +kernel
theorem dX2_text_38 : decode cX2_text 38 = .ok (.istore 8, 2) := by decide +kernel
theorem dX2_text_40 : decode cX2_text 40 = .ok (.iload 8, 2) := by decide +kernel
theorem dX2_text_42 : decode cX2_text 42 = .ok (.iload 6, 2) := by decide +kernel
theorem dX2_text_44 : decode cX2_text 44 = .ok (.if_icmp .ge 78, 3) := by decide +kernel
theorem dX2_text_47 : decode cX2_text 47 = .ok (.iload 8, 2) := by decide +kernel
theorem dX2_text_49 : decode cX2_text 49 = .ok (.iconst 4, 1) := by decide +kernel
theorem dX2_text_50 : decode cX2_text 50 = .ok (.if_icmp .ge 7, 3) := by decide +kernel
theorem dX2_text_53 : decode cX2_text 53 = .ok (.iload_n 1, 1) := by decide +kernel
theorem dX2_text_54 : decode cX2_text 54 = .ok (.goto 39, 3) := by decide +kernel
theorem dX2_text_57 : decode cX2_text 57 = .ok (.iload 8, 2) := by decide +kernel
theorem dX2_text_59 : decode cX2_text 59 = .ok (.bipush 8, 2) := by decide +kernel
theorem dX2_text_61 : decode cX2_text 61 = .ok (.if_icmp .ge 7, 3) := by decide +kernel
theorem dX2_text_64 : decode cX2_text 64 = .ok (.iload_n 2, 1) := by decide +kernel
theorem dX2_text_65 : decode cX2_text 65 = .ok (.goto 28, 3) := by decide +kernel
theorem dX2_text_68 : decode cX2_text 68 = .ok (.iload 8, 2) := by decide +kernel
theorem dX2_text_70 : decode cX2_text 70 = .ok (.bipush 12, 2) := by decide +kernel
theorem dX2_text_72 : decode cX2_text 72 = .ok (.if_icmp .ge 7, 3) := by decide +kernel
theorem dX2_text_75 : decode cX2_text 75 = .ok (.iload_n 3, 1) := by decide +kernel
theorem dX2_text_76 : decode cX2_text 76 = .ok (.goto 17, 3) := by decide +kernel
theorem dX2_text_79 : decode cX2_text 79 = .ok (.iload 8, 2) := by decide +kernel
theorem dX2_text_81 : decode cX2_text 81 = .ok (.bipush 16, 2) := by decide +kernel
theorem dX2_text_83 : decode cX2_text 83 = .ok (.if_icmp .ge 8, 3) := by decide +kernel
theorem dX2_text_86 : decode cX2_text 86 = .ok (.iload 4, 2) := by decide +kernel
theorem dX2_text_88 : decode cX2_text 88 = .ok (.goto 5, 3) := by decide +kernel
theorem dX2_text_91 : decode cX2_text 91 = .ok (.iload 5, 2) := by decide +kernel
theorem dX2_text_93 : decode cX2_text 93 = .ok (.istore 9, 2) := by decide +kernel
theorem dX2_text_95 : decode cX2_text 95 = .ok (.aload_n 0, 1) := by decide +kernel
theorem dX2_text_96 : decode cX2_text 96 = .ok (.iload 9, 2) := by decide +kernel
theorem dX2_text_98 : decode cX2_text 98 = .ok (.bipush 24, 2) := by decide +kernel
theorem dX2_text_100 : decode cX2_text 100 = .ok (.bipush 8, 2) := by decide +kernel
theorem dX2_text_102 : decode cX2_text 102 = .ok (.iload 8, 2) := by decide +kernel
theorem dX2_text_104 : decode cX2_text 104 = .ok (.iconst 4, 1) := by decide +kernel
theorem dX2_text_105 : decode cX2_text 105 = .ok (.irem, 1) := by decide +kernel
theorem dX2_text_106 : decode cX2_text 106 = .ok (.imul, 1) := by decide +kernel
theorem dX2_text_107 : decode cX2_text 107 = .ok (.isub, 1) := by decide +kernel
theorem dX2_text_108 : decode cX2_text 108 = .ok (.ishr, 1) := by decide +kernel
theorem dX2_text_109 : decode cX2_text 109 = .ok (.sipush 255, 3) := by decide +kernel
theorem dX2_text_112 : decode cX2_text 112 = .ok (.iand, 1) := by decide +kernel
theorem dX2_text_113 : decode cX2_text 113 = .ok (.invokevirtual 79, 3) := by decide +kernel
theorem dX2_text_116 : decode cX2_text 116 = .ok (.iinc 8 1, 3) := by decide +kernel
theorem dX2_text_119 : decode cX2_text 119 = .ok (.goto (-79), 3) := by decide +kernel
theorem dX2_text_122 : decode cX2_text 122 = .ok (.aload_n 0, 1) := by decide +kernel
theorem dX2_text_123 : decode cX2_text 123 = .ok (.aload_n 0, 1) := by decide +kernel
theorem dX2_text_124 : decode cX2_text 124 = .ok (.getfield 83, 3) := by decide +kernel
theorem dX2_text_127 : decode cX2_text 127 = .ok (.ifCond .eq 12, 3) := by decide +kernel
theorem dX2_text_130 : decode cX2_text 130 = .ok (.iload 6, 2) := by decide +kernel
theorem dX2_text_132 : decode cX2_text 132 = .ok (.ifCond .ne 7, 3) := by decide +kernel
theorem dX2_text_135 : decode cX2_text 135 = .ok (.iconst 1, 1) := by decide +kernel
theorem dX2_text_136 : decode cX2_text 136 = .ok (.goto 4, 3) := by decide +kernel
theorem dX2_text_139 : decode cX2_text 139 = .ok (.iconst 0, 1) := by decide +kernel
theorem dX2_text_140 : decode cX2_text 140 = .ok (.putfield 83, 3) := by decide +kernel
theorem dX2_text_143 : decode cX2_text 143 = .ok (.aload_n 0, 1) := by decide +kernel
theorem dX2_text_144 : decode cX2_text 144 = .ok (.getfield 76, 3) := by decide +kernel
theorem dX2_text_147 : decode cX2_text 147 = .ok (.iload 7, 2) := by decide +kernel
theorem dX2_text_149 : decode cX2_text 149 = .ok (.isub, 1) := by decide +kernel
theorem dX2_text_150 : decode cX2_text 150 = .ok (.ireturn, 1) := by decide +kernel
abbrev cX2_come : ByteArray := prog_3_method_7_code
def yX2_come : MethodName := ⟨RX2, "come", "(I)V"⟩
theorem dX2_come_0 : decode cX2_come 0 = .ok (.aload_n 0, 1) := by decide +kernel
theorem dX2_come_1 : decode cX2_come 1 = .ok (.dup, 1) := by decide +kernel
theorem dX2_come_2 : decode cX2_come 2 = .ok (.getfield 58, 3) := by decide +kernel
theorem dX2_come_5 : decode cX2_come 5 = .ok (.lconst 1, 1) := by decide +kernel
theorem dX2_come_6 : decode cX2_come 6 = .ok (.ladd, 1) := by decide +kernel
theorem dX2_come_7 : decode cX2_come 7 = .ok (.putfield 58, 3) := by decide +kernel
theorem dX2_come_10 : decode cX2_come 10 = .ok (.iload_n 1, 1) := by decide +kernel
theorem dX2_come_11 : decode cX2_come 11 = .ok (.bipush 10, 2) := by decide +kernel
theorem dX2_come_13 : decode cX2_come 13 = .ok (.if_icmp .ne 29, 3) := by decide +kernel
theorem dX2_come_16 : decode cX2_come 16 = .ok (.aload_n 0, 1) := by decide +kernel
theorem dX2_come_17 : decode cX2_come 17 = .ok (.iconst 0, 1) := by decide +kernel
theorem dX2_come_18 : decode cX2_come 18 = .ok (.putfield 55, 3) := by decide +kernel
theorem dX2_come_21 : decode cX2_come 21 = .ok (.aload_n 0, 1) := by decide +kernel
theorem dX2_come_22 : decode cX2_come 22 = .ok (.dup, 1) := by decide +kernel
theorem dX2_come_23 : decode cX2_come 23 = .ok (.getfield 26, 3) := by decide +kernel
theorem dX2_come_26 : decode cX2_come 26 = .ok (.iconst 1, 1) := by decide +kernel
theorem dX2_come_27 : decode cX2_come 27 = .ok (.iadd, 1) := by decide +kernel
theorem dX2_come_28 : decode cX2_come 28 = .ok (.putfield 26, 3) := by decide +kernel
theorem dX2_come_31 : decode cX2_come 31 = .ok (.aload_n 0, 1) := by decide +kernel
theorem dX2_come_32 : decode cX2_come 32 = .ok (.dup, 1) := by decide +kernel
theorem dX2_come_33 : decode cX2_come 33 = .ok (.getfield 62, 3) := by decide +kernel
theorem dX2_come_36 : decode cX2_come 36 = .ok (.lconst 1, 1) := by decide +kernel
theorem dX2_come_37 : decode cX2_come 37 = .ok (.ladd, 1) := by decide +kernel
theorem dX2_come_38 : decode cX2_come 38 = .ok (.putfield 62, 3) := by decide +kernel
theorem dX2_come_41 : decode cX2_come 41 = .ok (.return_, 1) := by decide +kernel
theorem dX2_come_42 : decode cX2_come 42 = .ok (.bipush 63, 2) := by decide +kernel
theorem dX2_come_44 : decode cX2_come 44 = .ok (.istore_n 2, 1) := by decide +kernel
theorem dX2_come_45 : decode cX2_come 45 = .ok (.iload_n 2, 1) := by decide +kernel
theorem dX2_come_46 : decode cX2_come 46 = .ok (.ifCond .le 23, 3) := by decide +kernel
theorem dX2_come_49 : decode cX2_come 49 = .ok (.aload_n 0, 1) := by decide +kernel
theorem dX2_come_50 : decode cX2_come 50 = .ok (.getfield 23, 3) := by decide +kernel
theorem dX2_come_53 : decode cX2_come 53 = .ok (.iload_n 2, 1) := by decide +kernel
theorem dX2_come_54 : decode cX2_come 54 = .ok (.aload_n 0, 1) := by decide +kernel
theorem dX2_come_55 : decode cX2_come 55 = .ok (.getfield 23, 3) := by decide +kernel
theorem dX2_come_58 : decode cX2_come 58 = .ok (.iload_n 2, 1) := by decide +kernel
theorem dX2_come_59 : decode cX2_come 59 = .ok (.iconst 1, 1) := by decide +kernel
theorem dX2_come_60 : decode cX2_come 60 = .ok (.isub, 1) := by decide +kernel
theorem dX2_come_61 : decode cX2_come 61 = .ok (.iaload, 1) := by decide +kernel
theorem dX2_come_62 : decode cX2_come 62 = .ok (.iastore, 1) := by decide +kernel
theorem dX2_come_63 : decode cX2_come 63 = .ok (.iinc 2 (-1), 3) := by decide +kernel
theorem dX2_come_66 : decode cX2_come 66 = .ok (.goto (-21), 3) := by decide +kernel
theorem dX2_come_69 : decode cX2_come 69 = .ok (.aload_n 0, 1) := by decide +kernel
theorem dX2_come_70 : decode cX2_come 70 = .ok (.getfield 23, 3) := by decide +kernel
theorem dX2_come_73 : decode cX2_come 73 = .ok (.iconst 0, 1) := by decide +kernel
theorem dX2_come_74 : decode cX2_come 74 = .ok (.iload_n 1, 1) := by decide +kernel
theorem dX2_come_75 : decode cX2_come 75 = .ok (.iastore, 1) := by decide +kernel
theorem dX2_come_76 : decode cX2_come 76 = .ok (.aload_n 0, 1) := by decide +kernel
theorem dX2_come_77 : decode cX2_come 77 = .ok (.aload_n 0, 1) := by decide +kernel
theorem dX2_come_78 : decode cX2_come 78 = .ok (.getfield 55, 3) := by decide +kernel
theorem dX2_come_81 : decode cX2_come 81 = .ok (.iconst 1, 1) := by decide +kernel
theorem dX2_come_82 : decode cX2_come 82 = .ok (.iadd, 1) := by decide +kernel
theorem dX2_come_83 : decode cX2_come 83 = .ok (.invokevirtual 65, 3) := by decide +kernel
theorem dX2_come_86 : decode cX2_come 86 = .ok (.ifCond .ne 35, 3) := by decide +kernel
theorem dX2_come_89 : decode cX2_come 89 = .ok (.aload_n 0, 1) := by decide +kernel
theorem dX2_come_90 : decode cX2_come 90 = .ok (.getfield 55, 3) := by decide +kernel
theorem dX2_come_93 : decode cX2_come 93 = .ok (.ifCond .le 28, 3) := by decide +kernel
theorem dX2_come_96 : decode cX2_come 96 = .ok (.aload_n 0, 1) := by decide +kernel
theorem dX2_come_97 : decode cX2_come 97 = .ok (.aload_n 0, 1) := by decide +kernel
theorem dX2_come_98 : decode cX2_come 98 = .ok (.aload_n 0, 1) := by decide +kernel
theorem dX2_come_99 : decode cX2_come 99 = .ok (.getfield 55, 3) := by decide +kernel
theorem dX2_come_102 : decode cX2_come 102 = .ok (.invokevirtual 69, 3) := by decide +kernel
theorem dX2_come_105 : decode cX2_come 105 = .ok (.putfield 55, 3) := by decide +kernel
theorem dX2_come_108 : decode cX2_come 108 = .ok (.aload_n 0, 1) := by decide +kernel
theorem dX2_come_109 : decode cX2_come 109 = .ok (.dup, 1) := by decide +kernel
theorem dX2_come_110 : decode cX2_come 110 = .ok (.getfield 58, 3) := by decide +kernel
theorem dX2_come_113 : decode cX2_come 113 = .ok (.lconst 1, 1) := by decide +kernel
theorem dX2_come_114 : decode cX2_come 114 = .ok (.ladd, 1) := by decide +kernel
theorem dX2_come_115 : decode cX2_come 115 = .ok (.putfield 58, 3) := by decide +kernel
theorem dX2_come_118 : decode cX2_come 118 = .ok (.goto (-42), 3) := by decide +kernel
theorem dX2_come_121 : decode cX2_come 121 = .ok (.aload_n 0, 1) := by decide +kernel
theorem dX2_come_122 : decode cX2_come 122 = .ok (.aload_n 0, 1) := by decide +kernel
theorem dX2_come_123 : decode cX2_come 123 = .ok (.aload_n 0, 1) := by decide +kernel
theorem dX2_come_124 : decode cX2_come 124 = .ok (.getfield 55, 3) := by decide +kernel
theorem dX2_come_127 : decode cX2_come 127 = .ok (.iconst 1, 1) := by decide +kernel
theorem dX2_come_128 : decode cX2_come 128 = .ok (.iadd, 1) := by decide +kernel
theorem dX2_come_129 : decode cX2_come 129 = .ok (.invokevirtual 65, 3) := by decide +kernel
theorem dX2_come_132 : decode cX2_come 132 = .ok (.ifCond .eq 12, 3) := by decide +kernel
theorem dX2_come_135 : decode cX2_come 135 = .ok (.aload_n 0, 1) := by decide +kernel
theorem dX2_come_136 : decode cX2_come 136 = .ok (.getfield 55, 3) := by decide +kernel
theorem dX2_come_139 : decode cX2_come 139 = .ok (.iconst 1, 1) := by decide +kernel
theorem dX2_come_140 : decode cX2_come 140 = .ok (.iadd, 1) := by decide +kernel
theorem dX2_come_141 : decode cX2_come 141 = .ok (.goto 4, 3) := by decide +kernel
theorem dX2_come_144 : decode cX2_come 144 = .ok (.iconst 0, 1) := by decide +kernel
theorem dX2_come_145 : decode cX2_come 145 = .ok (.putfield 55, 3) := by decide +kernel
theorem dX2_come_148 : decode cX2_come 148 = .ok (.aload_n 0, 1) := by decide +kernel
theorem dX2_come_149 : decode cX2_come 149 = .ok (.getfield 55, 3) := by decide +kernel
theorem dX2_come_152 : decode cX2_come 152 = .ok (.istore_n 2, 1) := by decide +kernel
theorem dX2_come_153 : decode cX2_come 153 = .ok (.iload_n 2, 1) := by decide +kernel
theorem dX2_come_154 : decode cX2_come 154 = .ok (.ifCond .le 89, 3) := by decide +kernel
theorem dX2_come_157 : decode cX2_come 157 = .ok (.iconst 0, 1) := by decide +kernel
theorem dX2_come_158 : decode cX2_come 158 = .ok (.istore_n 3, 1) := by decide +kernel
theorem dX2_come_159 : decode cX2_come 159 = .ok (.iload_n 3, 1) := by decide +kernel
theorem dX2_come_160 : decode cX2_come 160 = .ok (.aload_n 0, 1) := by decide +kernel
theorem dX2_come_161 : decode cX2_come 161 = .ok (.getfield 52, 3) := by decide +kernel
theorem dX2_come_164 : decode cX2_come 164 = .ok (.if_icmp .ge 73, 3) := by decide +kernel
theorem dX2_come_167 : decode cX2_come 167 = .ok (.aload_n 0, 1) := by decide +kernel
theorem dX2_come_168 : decode cX2_come 168 = .ok (.getfield 17, 3) := by decide +kernel
theorem dX2_come_171 : decode cX2_come 171 = .ok (.iload_n 3, 1) := by decide +kernel
theorem dX2_come_172 : decode cX2_come 172 = .ok (.iaload, 1) := by decide +kernel
theorem dX2_come_173 : decode cX2_come 173 = .ok (.iload_n 2, 1) := by decide +kernel
theorem dX2_come_174 : decode cX2_come 174 = .ok (.if_icmp .ne 57, 3) := by decide +kernel
theorem dX2_come_177 : decode cX2_come 177 = .ok (.aload_n 0, 1) := by decide +kernel
theorem dX2_come_178 : decode cX2_come 178 = .ok (.iload_n 3, 1) := by decide +kernel
theorem dX2_come_179 : decode cX2_come 179 = .ok (.invokevirtual 73, 3) := by decide +kernel
theorem dX2_come_182 : decode cX2_come 182 = .ok (.ifCond .eq 49, 3) := by decide +kernel
theorem dX2_come_185 : decode cX2_come 185 = .ok (.aload_n 0, 1) := by decide +kernel
theorem dX2_come_186 : decode cX2_come 186 = .ok (.getfield 29, 3) := by decide +kernel
theorem dX2_come_189 : decode cX2_come 189 = .ok (.aload_n 0, 1) := by decide +kernel
theorem dX2_come_190 : decode cX2_come 190 = .ok (.getfield 76, 3) := by decide +kernel
theorem dX2_come_193 : decode cX2_come 193 = .ok (.iload_n 3, 1) := by decide +kernel
theorem dX2_come_194 : decode cX2_come 194 = .ok (.iastore, 1) := by decide +kernel
theorem dX2_come_195 : decode cX2_come 195 = .ok (.aload_n 0, 1) := by decide +kernel
theorem dX2_come_196 : decode cX2_come 196 = .ok (.getfield 32, 3) := by decide +kernel
theorem dX2_come_199 : decode cX2_come 199 = .ok (.aload_n 0, 1) := by decide +kernel
theorem dX2_come_200 : decode cX2_come 200 = .ok (.getfield 76, 3) := by decide +kernel
theorem dX2_come_203 : decode cX2_come 203 = .ok (.aload_n 0, 1) := by decide +kernel
theorem dX2_come_204 : decode cX2_come 204 = .ok (.getfield 62, 3) := by decide +kernel
theorem dX2_come_207 : decode cX2_come 207 = .ok (.lastore, 1) := by decide +kernel
theorem dX2_come_208 : decode cX2_come 208 = .ok (.aload_n 0, 1) := by decide +kernel
theorem dX2_come_209 : decode cX2_come 209 = .ok (.getfield 36, 3) := by decide +kernel
theorem dX2_come_212 : decode cX2_come 212 = .ok (.aload_n 0, 1) := by decide +kernel
theorem dX2_come_213 : decode cX2_come 213 = .ok (.getfield 76, 3) := by decide +kernel
theorem dX2_come_216 : decode cX2_come 216 = .ok (.aload_n 0, 1) := by decide +kernel
theorem dX2_come_217 : decode cX2_come 217 = .ok (.getfield 26, 3) := by decide +kernel
theorem dX2_come_220 : decode cX2_come 220 = .ok (.iastore, 1) := by decide +kernel
theorem dX2_come_221 : decode cX2_come 221 = .ok (.aload_n 0, 1) := by decide +kernel
theorem dX2_come_222 : decode cX2_come 222 = .ok (.dup, 1) := by decide +kernel
theorem dX2_come_223 : decode cX2_come 223 = .ok (.getfield 76, 3) := by decide +kernel
theorem dX2_come_226 : decode cX2_come 226 = .ok (.iconst 1, 1) := by decide +kernel
theorem dX2_come_227 : decode cX2_come 227 = .ok (.iadd, 1) := by decide +kernel
theorem dX2_come_228 : decode cX2_come 228 = .ok (.putfield 76, 3) := by decide +kernel
theorem dX2_come_231 : decode cX2_come 231 = .ok (.iinc 3 1, 3) := by decide +kernel
theorem dX2_come_234 : decode cX2_come 234 = .ok (.goto (-75), 3) := by decide +kernel
theorem dX2_come_237 : decode cX2_come 237 = .ok (.iinc 2 (-1), 3) := by decide +kernel
theorem dX2_come_240 : decode cX2_come 240 = .ok (.goto (-87), 3) := by decide +kernel
theorem dX2_come_243 : decode cX2_come 243 = .ok (.aload_n 0, 1) := by decide +kernel
theorem dX2_come_244 : decode cX2_come 244 = .ok (.dup, 1) := by decide +kernel
theorem dX2_come_245 : decode cX2_come 245 = .ok (.getfield 62, 3) := by decide +kernel
theorem dX2_come_248 : decode cX2_come 248 = .ok (.lconst 1, 1) := by decide +kernel
theorem dX2_come_249 : decode cX2_come 249 = .ok (.ladd, 1) := by decide +kernel
theorem dX2_come_250 : decode cX2_come 250 = .ok (.putfield 62, 3) := by decide +kernel
theorem dX2_come_253 : decode cX2_come 253 = .ok (.return_, 1) := by decide +kernel
abbrev cX2_isPrefix : ByteArray := prog_3_method_5_code
def yX2_isPrefix : MethodName := ⟨RX2, "isPrefix", "(I)Z"⟩
theorem dX2_isPrefix_0 : decode cX2_isPrefix 0 = .ok (.iload_n 1, 1) := by decide +kernel
theorem dX2_isPrefix_1 : decode cX2_isPrefix 1 = .ok (.ifCond .ne 5, 3) := by decide +kernel
theorem dX2_isPrefix_4 : decode cX2_isPrefix 4 = .ok (.iconst 1, 1) := by decide +kernel
theorem dX2_isPrefix_5 : decode cX2_isPrefix 5 = .ok (.ireturn, 1) := by decide +kernel
theorem dX2_isPrefix_6 : decode cX2_isPrefix 6 = .ok (.iconst 0, 1) := by decide +kernel
theorem dX2_isPrefix_7 : decode cX2_isPrefix 7 = .ok (.istore_n 2, 1) := by decide +kernel
theorem dX2_isPrefix_8 : decode cX2_isPrefix 8 = .ok (.iload_n 2, 1) := by decide +kernel
theorem dX2_isPrefix_9 : decode cX2_isPrefix 9 = .ok (.aload_n 0, 1) := by decide +kernel
theorem dX2_isPrefix_10 : decode cX2_isPrefix 10 = .ok (.getfield 52, 3) := by decide +kernel
theorem dX2_isPrefix_13 : decode cX2_isPrefix 13 = .ok (.if_icmp .ge 82, 3) := by decide +kernel
theorem dX2_isPrefix_16 : decode cX2_isPrefix 16 = .ok (.aload_n 0, 1) := by decide +kernel
theorem dX2_isPrefix_17 : decode cX2_isPrefix 17 = .ok (.getfield 17, 3) := by decide +kernel
theorem dX2_isPrefix_20 : decode cX2_isPrefix 20 = .ok (.iload_n 2, 1) := by decide +kernel
theorem dX2_isPrefix_21 : decode cX2_isPrefix 21 = .ok (.iaload, 1) := by decide +kernel
theorem dX2_isPrefix_22 : decode cX2_isPrefix 22 = .ok (.iload_n 1, 1) := by decide +kernel
theorem dX2_isPrefix_23 : decode cX2_isPrefix 23 = .ok (.if_icmp .lt 7, 3) := by decide +kernel
theorem dX2_isPrefix_26 : decode cX2_isPrefix 26 = .ok (.iconst 1, 1) := by decide +kernel
theorem dX2_isPrefix_27 : decode cX2_isPrefix 27 = .ok (.goto 4, 3) := by decide +kernel
theorem dX2_isPrefix_30 : decode cX2_isPrefix 30 = .ok (.iconst 0, 1) := by decide +kernel
theorem dX2_isPrefix_31 : decode cX2_isPrefix 31 = .ok (.istore_n 3, 1) := by decide +kernel
theorem dX2_isPrefix_32 : decode cX2_isPrefix 32 = .ok (.iconst 0, 1) := by decide +kernel
theorem dX2_isPrefix_33 : decode cX2_isPrefix 33 = .ok (.istore 4, 2) := by decide +kernel
theorem dX2_isPrefix_35 : decode cX2_isPrefix 35 = .ok (.iload 4, 2) := by decide +kernel
theorem dX2_isPrefix_37 : decode cX2_isPrefix 37 = .ok (.iload_n 1, 1) := by decide +kernel
theorem dX2_isPrefix_38 : decode cX2_isPrefix 38 = .ok (.if_icmp .ge 45, 3) := by decide +kernel
theorem dX2_isPrefix_41 : decode cX2_isPrefix 41 = .ok (.iload_n 3, 1) := by decide +kernel
theorem dX2_isPrefix_42 : decode cX2_isPrefix 42 = .ok (.ifCond .eq 41, 3) := by decide +kernel
theorem dX2_isPrefix_45 : decode cX2_isPrefix 45 = .ok (.aload_n 0, 1) := by decide +kernel
theorem dX2_isPrefix_46 : decode cX2_isPrefix 46 = .ok (.getfield 13, 3) := by decide +kernel
theorem dX2_isPrefix_49 : decode cX2_isPrefix 49 = .ok (.bipush 40, 2) := by decide +kernel
theorem dX2_isPrefix_51 : decode cX2_isPrefix 51 = .ok (.iload_n 2, 1) := by decide +kernel
theorem dX2_isPrefix_52 : decode cX2_isPrefix 52 = .ok (.imul, 1) := by decide +kernel
theorem dX2_isPrefix_53 : decode cX2_isPrefix 53 = .ok (.iload 4, 2) := by decide +kernel
theorem dX2_isPrefix_55 : decode cX2_isPrefix 55 = .ok (.iadd, 1) := by decide +kernel
theorem dX2_isPrefix_56 : decode cX2_isPrefix 56 = .ok (.iaload, 1) := by decide +kernel
theorem dX2_isPrefix_57 : decode cX2_isPrefix 57 = .ok (.aload_n 0, 1) := by decide +kernel
theorem dX2_isPrefix_58 : decode cX2_isPrefix 58 = .ok (.getfield 23, 3) := by decide +kernel
theorem dX2_isPrefix_61 : decode cX2_isPrefix 61 = .ok (.iload_n 1, 1) := by decide +kernel
theorem dX2_isPrefix_62 : decode cX2_isPrefix 62 = .ok (.iconst 1, 1) := by decide +kernel
theorem dX2_isPrefix_63 : decode cX2_isPrefix 63 = .ok (.isub, 1) := by decide +kernel
theorem dX2_isPrefix_64 : decode cX2_isPrefix 64 = .ok (.iload 4, 2) := by decide +kernel
theorem dX2_isPrefix_66 : decode cX2_isPrefix 66 = .ok (.isub, 1) := by decide +kernel
theorem dX2_isPrefix_67 : decode cX2_isPrefix 67 = .ok (.iaload, 1) := by decide +kernel
theorem dX2_isPrefix_68 : decode cX2_isPrefix 68 = .ok (.if_icmp .ne 7, 3) := by decide +kernel
theorem dX2_isPrefix_71 : decode cX2_isPrefix 71 = .ok (.iconst 1, 1) := by decide +kernel
theorem dX2_isPrefix_72 : decode cX2_isPrefix 72 = .ok (.goto 4, 3) := by decide +kernel
theorem dX2_isPrefix_75 : decode cX2_isPrefix 75 = .ok (.iconst 0, 1) := by decide +kernel
theorem dX2_isPrefix_76 : decode cX2_isPrefix 76 = .ok (.istore_n 3, 1) := by decide +kernel
theorem dX2_isPrefix_77 : decode cX2_isPrefix 77 = .ok (.iinc 4 1, 3) := by decide +kernel
theorem dX2_isPrefix_80 : decode cX2_isPrefix 80 = .ok (.goto (-45), 3) := by decide +kernel
theorem dX2_isPrefix_83 : decode cX2_isPrefix 83 = .ok (.iload_n 3, 1) := by decide +kernel
theorem dX2_isPrefix_84 : decode cX2_isPrefix 84 = .ok (.ifCond .eq 5, 3) := by decide +kernel
theorem dX2_isPrefix_87 : decode cX2_isPrefix 87 = .ok (.iconst 1, 1) := by decide +kernel
theorem dX2_isPrefix_88 : decode cX2_isPrefix 88 = .ok (.ireturn, 1) := by decide +kernel
theorem dX2_isPrefix_89 : decode cX2_isPrefix 89 = .ok (.iinc 2 1, 3) := by decide +kernel
theorem dX2_isPrefix_92 : decode cX2_isPrefix 92 = .ok (.goto (-84), 3) := by decide +kernel
theorem dX2_isPrefix_95 : decode cX2_isPrefix 95 = .ok (.iconst 0, 1) := by decide +kernel
theorem dX2_isPrefix_96 : decode cX2_isPrefix 96 = .ok (.ireturn, 1) := by decide +kernel
abbrev cX2_shorter : ByteArray := prog_3_method_8_code
def yX2_shorter : MethodName := ⟨RX2, "shorter", "(I)I"⟩
theorem dX2_shorter_0 : decode cX2_shorter 0 = .ok (.iload_n 1, 1) := by decide +kernel
theorem dX2_shorter_1 : decode cX2_shorter 1 = .ok (.iconst 1, 1) := by decide +kernel
theorem dX2_shorter_2 : decode cX2_shorter 2 = .ok (.isub, 1) := by decide +kernel
theorem dX2_shorter_3 : decode cX2_shorter 3 = .ok (.istore_n 2, 1) := by decide +kernel
theorem dX2_shorter_4 : decode cX2_shorter 4 = .ok (.iload_n 2, 1) := by decide +kernel
theorem dX2_shorter_5 : decode cX2_shorter 5 = .ok (.ifCond .le 100, 3) := by decide +kernel
theorem dX2_shorter_8 : decode cX2_shorter 8 = .ok (.iconst 0, 1) := by decide +kernel
theorem dX2_shorter_9 : decode cX2_shorter 9 = .ok (.istore_n 3, 1) := by decide +kernel
theorem dX2_shorter_10 : decode cX2_shorter 10 = .ok (.iload_n 3, 1) := by decide +kernel
theorem dX2_shorter_11 : decode cX2_shorter 11 = .ok (.aload_n 0, 1) := by decide +kernel
theorem dX2_shorter_12 : decode cX2_shorter 12 = .ok (.getfield 52, 3) := by decide +kernel
theorem dX2_shorter_15 : decode cX2_shorter 15 = .ok (.if_icmp .ge 84, 3) := by decide +kernel
theorem dX2_shorter_18 : decode cX2_shorter 18 = .ok (.aload_n 0, 1) := by decide +kernel
theorem dX2_shorter_19 : decode cX2_shorter 19 = .ok (.getfield 17, 3) := by decide +kernel
theorem dX2_shorter_22 : decode cX2_shorter 22 = .ok (.iload_n 3, 1) := by decide +kernel
theorem dX2_shorter_23 : decode cX2_shorter 23 = .ok (.iaload, 1) := by decide +kernel
theorem dX2_shorter_24 : decode cX2_shorter 24 = .ok (.iload_n 2, 1) := by decide +kernel
theorem dX2_shorter_25 : decode cX2_shorter 25 = .ok (.if_icmp .lt 7, 3) := by decide +kernel
theorem dX2_shorter_28 : decode cX2_shorter 28 = .ok (.iconst 1, 1) := by decide +kernel
theorem dX2_shorter_29 : decode cX2_shorter 29 = .ok (.goto 4, 3) := by decide +kernel
theorem dX2_shorter_32 : decode cX2_shorter 32 = .ok (.iconst 0, 1) := by decide +kernel
theorem dX2_shorter_33 : decode cX2_shorter 33 = .ok (.istore 4, 2) := by decide +kernel
theorem dX2_shorter_35 : decode cX2_shorter 35 = .ok (.iconst 0, 1) := by decide +kernel
theorem dX2_shorter_36 : decode cX2_shorter 36 = .ok (.istore 5, 2) := by decide +kernel
theorem dX2_shorter_38 : decode cX2_shorter 38 = .ok (.iload 5, 2) := by decide +kernel
theorem dX2_shorter_40 : decode cX2_shorter 40 = .ok (.iload_n 2, 1) := by decide +kernel
theorem dX2_shorter_41 : decode cX2_shorter 41 = .ok (.if_icmp .ge 45, 3) := by decide +kernel
theorem dX2_shorter_44 : decode cX2_shorter 44 = .ok (.iload 4, 2) := by decide +kernel
theorem dX2_shorter_46 : decode cX2_shorter 46 = .ok (.ifCond .eq 40, 3) := by decide +kernel
theorem dX2_shorter_49 : decode cX2_shorter 49 = .ok (.aload_n 0, 1) := by decide +kernel
theorem dX2_shorter_50 : decode cX2_shorter 50 = .ok (.getfield 13, 3) := by decide +kernel
theorem dX2_shorter_53 : decode cX2_shorter 53 = .ok (.bipush 40, 2) := by decide +kernel
theorem dX2_shorter_55 : decode cX2_shorter 55 = .ok (.iload_n 3, 1) := by decide +kernel
theorem dX2_shorter_56 : decode cX2_shorter 56 = .ok (.imul, 1) := by decide +kernel
theorem dX2_shorter_57 : decode cX2_shorter 57 = .ok (.iload 5, 2) := by decide +kernel
theorem dX2_shorter_59 : decode cX2_shorter 59 = .ok (.iadd, 1) := by decide +kernel
theorem dX2_shorter_60 : decode cX2_shorter 60 = .ok (.iaload, 1) := by decide +kernel
theorem dX2_shorter_61 : decode cX2_shorter 61 = .ok (.aload_n 0, 1) := by decide +kernel
theorem dX2_shorter_62 : decode cX2_shorter 62 = .ok (.getfield 23, 3) := by decide +kernel
theorem dX2_shorter_65 : decode cX2_shorter 65 = .ok (.iload_n 2, 1) := by decide +kernel
theorem dX2_shorter_66 : decode cX2_shorter 66 = .ok (.iload 5, 2) := by decide +kernel
theorem dX2_shorter_68 : decode cX2_shorter 68 = .ok (.isub, 1) := by decide +kernel
theorem dX2_shorter_69 : decode cX2_shorter 69 = .ok (.iaload, 1) := by decide +kernel
theorem dX2_shorter_70 : decode cX2_shorter 70 = .ok (.if_icmp .ne 7, 3) := by decide +kernel
theorem dX2_shorter_73 : decode cX2_shorter 73 = .ok (.iconst 1, 1) := by decide +kernel
theorem dX2_shorter_74 : decode cX2_shorter 74 = .ok (.goto 4, 3) := by decide +kernel
theorem dX2_shorter_77 : decode cX2_shorter 77 = .ok (.iconst 0, 1) := by decide +kernel
theorem dX2_shorter_78 : decode cX2_shorter 78 = .ok (.istore 4, 2) := by decide +kernel
theorem dX2_shorter_80 : decode cX2_shorter 80 = .ok (.iinc 5 1, 3) := by decide +kernel
theorem dX2_shorter_83 : decode cX2_shorter 83 = .ok (.goto (-45), 3) := by decide +kernel
theorem dX2_shorter_86 : decode cX2_shorter 86 = .ok (.iload 4, 2) := by decide +kernel
theorem dX2_shorter_88 : decode cX2_shorter 88 = .ok (.ifCond .eq 5, 3) := by decide +kernel
theorem dX2_shorter_91 : decode cX2_shorter 91 = .ok (.iload_n 2, 1) := by decide +kernel
theorem dX2_shorter_92 : decode cX2_shorter 92 = .ok (.ireturn, 1) := by decide +kernel
theorem dX2_shorter_93 : decode cX2_shorter 93 = .ok (.iinc 3 1, 3) := by decide +kernel
theorem dX2_shorter_96 : decode cX2_shorter 96 = .ok (.goto (-86), 3) := by decide +kernel
theorem dX2_shorter_99 : decode cX2_shorter 99 = .ok (.iinc 2 (-1), 3) := by decide +kernel
theorem dX2_shorter_102 : decode cX2_shorter 102 = .ok (.goto (-98), 3) := by decide +kernel
theorem dX2_shorter_105 : decode cX2_shorter 105 = .ok (.iconst 0, 1) := by decide +kernel
theorem dX2_shorter_106 : decode cX2_shorter 106 = .ok (.ireturn, 1) := by decide +kernel
abbrev cX2_isWord : ByteArray := prog_3_method_6_code
def yX2_isWord : MethodName := ⟨RX2, "isWord", "(I)Z"⟩
theorem dX2_isWord_0 : decode cX2_isWord 0 = .ok (.aload_n 0, 1) := by decide +kernel
theorem dX2_isWord_1 : decode cX2_isWord 1 = .ok (.getfield 17, 3) := by decide +kernel
theorem dX2_isWord_4 : decode cX2_isWord 4 = .ok (.iload_n 1, 1) := by decide +kernel
theorem dX2_isWord_5 : decode cX2_isWord 5 = .ok (.iaload, 1) := by decide +kernel
theorem dX2_isWord_6 : decode cX2_isWord 6 = .ok (.aload_n 0, 1) := by decide +kernel
theorem dX2_isWord_7 : decode cX2_isWord 7 = .ok (.getfield 55, 3) := by decide +kernel
theorem dX2_isWord_10 : decode cX2_isWord 10 = .ok (.if_icmp .gt 7, 3) := by decide +kernel
theorem dX2_isWord_13 : decode cX2_isWord 13 = .ok (.iconst 1, 1) := by decide +kernel
theorem dX2_isWord_14 : decode cX2_isWord 14 = .ok (.goto 4, 3) := by decide +kernel
theorem dX2_isWord_17 : decode cX2_isWord 17 = .ok (.iconst 0, 1) := by decide +kernel
theorem dX2_isWord_18 : decode cX2_isWord 18 = .ok (.istore_n 2, 1) := by decide +kernel
theorem dX2_isWord_19 : decode cX2_isWord 19 = .ok (.iconst 0, 1) := by decide +kernel
theorem dX2_isWord_20 : decode cX2_isWord 20 = .ok (.istore_n 3, 1) := by decide +kernel
theorem dX2_isWord_21 : decode cX2_isWord 21 = .ok (.iload_n 3, 1) := by decide +kernel
theorem dX2_isWord_22 : decode cX2_isWord 22 = .ok (.aload_n 0, 1) := by decide +kernel
theorem dX2_isWord_23 : decode cX2_isWord 23 = .ok (.getfield 17, 3) := by decide +kernel
theorem dX2_isWord_26 : decode cX2_isWord 26 = .ok (.iload_n 1, 1) := by decide +kernel
theorem dX2_isWord_27 : decode cX2_isWord 27 = .ok (.iaload, 1) := by decide +kernel
theorem dX2_isWord_28 : decode cX2_isWord 28 = .ok (.if_icmp .ge 48, 3) := by decide +kernel
theorem dX2_isWord_31 : decode cX2_isWord 31 = .ok (.iload_n 2, 1) := by decide +kernel
theorem dX2_isWord_32 : decode cX2_isWord 32 = .ok (.ifCond .eq 44, 3) := by decide +kernel
theorem dX2_isWord_35 : decode cX2_isWord 35 = .ok (.aload_n 0, 1) := by decide +kernel
theorem dX2_isWord_36 : decode cX2_isWord 36 = .ok (.getfield 13, 3) := by decide +kernel
theorem dX2_isWord_39 : decode cX2_isWord 39 = .ok (.bipush 40, 2) := by decide +kernel
theorem dX2_isWord_41 : decode cX2_isWord 41 = .ok (.iload_n 1, 1) := by decide +kernel
theorem dX2_isWord_42 : decode cX2_isWord 42 = .ok (.imul, 1) := by decide +kernel
theorem dX2_isWord_43 : decode cX2_isWord 43 = .ok (.iload_n 3, 1) := by decide +kernel
theorem dX2_isWord_44 : decode cX2_isWord 44 = .ok (.iadd, 1) := by decide +kernel
theorem dX2_isWord_45 : decode cX2_isWord 45 = .ok (.iaload, 1) := by decide +kernel
theorem dX2_isWord_46 : decode cX2_isWord 46 = .ok (.aload_n 0, 1) := by decide +kernel
theorem dX2_isWord_47 : decode cX2_isWord 47 = .ok (.getfield 23, 3) := by decide +kernel
theorem dX2_isWord_50 : decode cX2_isWord 50 = .ok (.aload_n 0, 1) := by decide +kernel
theorem dX2_isWord_51 : decode cX2_isWord 51 = .ok (.getfield 17, 3) := by decide +kernel
theorem dX2_isWord_54 : decode cX2_isWord 54 = .ok (.iload_n 1, 1) := by decide +kernel
theorem dX2_isWord_55 : decode cX2_isWord 55 = .ok (.iaload, 1) := by decide +kernel
theorem dX2_isWord_56 : decode cX2_isWord 56 = .ok (.iconst 1, 1) := by decide +kernel
theorem dX2_isWord_57 : decode cX2_isWord 57 = .ok (.isub, 1) := by decide +kernel
theorem dX2_isWord_58 : decode cX2_isWord 58 = .ok (.iload_n 3, 1) := by decide +kernel
theorem dX2_isWord_59 : decode cX2_isWord 59 = .ok (.isub, 1) := by decide +kernel
theorem dX2_isWord_60 : decode cX2_isWord 60 = .ok (.iaload, 1) := by decide +kernel
theorem dX2_isWord_61 : decode cX2_isWord 61 = .ok (.if_icmp .ne 7, 3) := by decide +kernel
theorem dX2_isWord_64 : decode cX2_isWord 64 = .ok (.iconst 1, 1) := by decide +kernel
theorem dX2_isWord_65 : decode cX2_isWord 65 = .ok (.goto 4, 3) := by decide +kernel
theorem dX2_isWord_68 : decode cX2_isWord 68 = .ok (.iconst 0, 1) := by decide +kernel
theorem dX2_isWord_69 : decode cX2_isWord 69 = .ok (.istore_n 2, 1) := by decide +kernel
theorem dX2_isWord_70 : decode cX2_isWord 70 = .ok (.iinc 3 1, 3) := by decide +kernel
theorem dX2_isWord_73 : decode cX2_isWord 73 = .ok (.goto (-52), 3) := by decide +kernel
theorem dX2_isWord_76 : decode cX2_isWord 76 = .ok (.iload_n 2, 1) := by decide +kernel
theorem dX2_isWord_77 : decode cX2_isWord 77 = .ok (.ireturn, 1) := by decide +kernel
abbrev cX2_skip : ByteArray := prog_3_method_10_code
def yX2_skip : MethodName := ⟨RX2, "skip", "(J)Z"⟩
theorem dX2_skip_0 : decode cX2_skip 0 = .ok (.aload_n 0, 1) := by decide +kernel
theorem dX2_skip_1 : decode cX2_skip 1 = .ok (.getfield 48, 3) := by decide +kernel
theorem dX2_skip_4 : decode cX2_skip 4 = .ok (.ifCond .eq 22, 3) := by decide +kernel
theorem dX2_skip_7 : decode cX2_skip 7 = .ok (.lload_n 1, 1) := by decide +kernel
theorem dX2_skip_8 : decode cX2_skip 8 = .ok (.lconst 0, 1) := by decide +kernel
theorem dX2_skip_9 : decode cX2_skip 9 = .ok (.lcmp, 1) := by decide +kernel
theorem dX2_skip_10 : decode cX2_skip 10 = .ok (.ifCond .lt 16, 3) := by decide +kernel
theorem dX2_skip_13 : decode cX2_skip 13 = .ok (.lload_n 1, 1) := by decide +kernel
theorem dX2_skip_14 : decode cX2_skip 14 = .ok (.ldc2_w 86, 3) := by decide +kernel
theorem dX2_skip_17 : decode cX2_skip 17 = .ok (.aload_n 0, 1) := by decide +kernel
theorem dX2_skip_18 : decode cX2_skip 18 = .ok (.getfield 62, 3) := by decide +kernel
theorem dX2_skip_21 : decode cX2_skip 21 = .ok (.lsub, 1) := by decide +kernel
theorem dX2_skip_22 : decode cX2_skip 22 = .ok (.lcmp, 1) := by decide +kernel
theorem dX2_skip_23 : decode cX2_skip 23 = .ok (.ifCond .le 5, 3) := by decide +kernel
theorem dX2_skip_26 : decode cX2_skip 26 = .ok (.iconst 0, 1) := by decide +kernel
theorem dX2_skip_27 : decode cX2_skip 27 = .ok (.ireturn, 1) := by decide +kernel
theorem dX2_skip_28 : decode cX2_skip 28 = .ok (.aload_n 0, 1) := by decide +kernel
theorem dX2_skip_29 : decode cX2_skip 29 = .ok (.dup, 1) := by decide +kernel
theorem dX2_skip_30 : decode cX2_skip 30 = .ok (.getfield 62, 3) := by decide +kernel
theorem dX2_skip_33 : decode cX2_skip 33 = .ok (.lload_n 1, 1) := by decide +kernel
theorem dX2_skip_34 : decode cX2_skip 34 = .ok (.ladd, 1) := by decide +kernel
theorem dX2_skip_35 : decode cX2_skip 35 = .ok (.putfield 62, 3) := by decide +kernel
theorem dX2_skip_38 : decode cX2_skip 38 = .ok (.aload_n 0, 1) := by decide +kernel
theorem dX2_skip_39 : decode cX2_skip 39 = .ok (.iconst 0, 1) := by decide +kernel
theorem dX2_skip_40 : decode cX2_skip 40 = .ok (.putfield 55, 3) := by decide +kernel
theorem dX2_skip_43 : decode cX2_skip 43 = .ok (.iconst 1, 1) := by decide +kernel
theorem dX2_skip_44 : decode cX2_skip 44 = .ok (.ireturn, 1) := by decide +kernel
abbrev cX2_place : ByteArray := prog_3_method_11_code
def yX2_place : MethodName := ⟨RX2, "place", "()J"⟩
theorem dX2_place_0 : decode cX2_place 0 = .ok (.aload_n 0, 1) := by decide +kernel
theorem dX2_place_1 : decode cX2_place 1 = .ok (.getfield 62, 3) := by decide +kernel
theorem dX2_place_4 : decode cX2_place 4 = .ok (.lreturn, 1) := by decide +kernel
abbrev cX2_found : ByteArray := prog_3_method_12_code
def yX2_found : MethodName := ⟨RX2, "found", "()I"⟩
theorem dX2_found_0 : decode cX2_found 0 = .ok (.aload_n 0, 1) := by decide +kernel
theorem dX2_found_1 : decode cX2_found 1 = .ok (.getfield 76, 3) := by decide +kernel
theorem dX2_found_4 : decode cX2_found 4 = .ok (.ireturn, 1) := by decide +kernel
abbrev cX2_word : ByteArray := prog_3_method_14_code
def yX2_word : MethodName := ⟨RX2, "word", "(I)I"⟩
theorem dX2_word_0 : decode cX2_word 0 = .ok (.aload_n 0, 1) := by decide +kernel
theorem dX2_word_1 : decode cX2_word 1 = .ok (.iload_n 1, 1) := by decide +kernel
theorem dX2_word_2 : decode cX2_word 2 = .ok (.invokevirtual 88, 3) := by decide +kernel
theorem dX2_word_5 : decode cX2_word 5 = .ok (.ifCond .eq 12, 3) := by decide +kernel
theorem dX2_word_8 : decode cX2_word 8 = .ok (.aload_n 0, 1) := by decide +kernel
theorem dX2_word_9 : decode cX2_word 9 = .ok (.getfield 29, 3) := by decide +kernel
theorem dX2_word_12 : decode cX2_word 12 = .ok (.iload_n 1, 1) := by decide +kernel
theorem dX2_word_13 : decode cX2_word 13 = .ok (.iaload, 1) := by decide +kernel
theorem dX2_word_14 : decode cX2_word 14 = .ok (.goto 4, 3) := by decide +kernel
theorem dX2_word_17 : decode cX2_word 17 = .ok (.iconst (-1), 1) := by decide +kernel
theorem dX2_word_18 : decode cX2_word 18 = .ok (.ireturn, 1) := by decide +kernel
abbrev cX2_isFound : ByteArray := prog_3_method_13_code
def yX2_isFound : MethodName := ⟨RX2, "isFound", "(I)Z"⟩
theorem dX2_isFound_0 : decode cX2_isFound 0 = .ok (.iload_n 1, 1) := by decide +kernel
theorem dX2_isFound_1 : decode cX2_isFound 1 = .ok (.ifCond .lt 15, 3) := by decide +kernel
theorem dX2_isFound_4 : decode cX2_isFound 4 = .ok (.iload_n 1, 1) := by decide +kernel
theorem dX2_isFound_5 : decode cX2_isFound 5 = .ok (.aload_n 0, 1) := by decide +kernel
theorem dX2_isFound_6 : decode cX2_isFound 6 = .ok (.getfield 76, 3) := by decide +kernel
theorem dX2_isFound_9 : decode cX2_isFound 9 = .ok (.if_icmp .ge 7, 3) := by decide +kernel
theorem dX2_isFound_12 : decode cX2_isFound 12 = .ok (.iconst 1, 1) := by decide +kernel
theorem dX2_isFound_13 : decode cX2_isFound 13 = .ok (.goto 4, 3) := by decide +kernel
theorem dX2_isFound_16 : decode cX2_isFound 16 = .ok (.iconst 0, 1) := by decide +kernel
theorem dX2_isFound_17 : decode cX2_isFound 17 = .ok (.ireturn, 1) := by decide +kernel
abbrev cX2_end : ByteArray := prog_3_method_15_code
def yX2_end : MethodName := ⟨RX2, "end", "(I)J"⟩
theorem dX2_end_0 : decode cX2_end 0 = .ok (.aload_n 0, 1) := by decide +kernel
theorem dX2_end_1 : decode cX2_end 1 = .ok (.iload_n 1, 1) := by decide +kernel
theorem dX2_end_2 : decode cX2_end 2 = .ok (.invokevirtual 88, 3) := by decide +kernel
theorem dX2_end_5 : decode cX2_end 5 = .ok (.ifCond .eq 12, 3) := by decide +kernel
theorem dX2_end_8 : decode cX2_end 8 = .ok (.aload_n 0, 1) := by decide +kernel
theorem dX2_end_9 : decode cX2_end 9 = .ok (.getfield 32, 3) := by decide +kernel
theorem dX2_end_12 : decode cX2_end 12 = .ok (.iload_n 1, 1) := by decide +kernel
theorem dX2_end_13 : decode cX2_end 13 = .ok (.laload, 1) := by decide +kernel
theorem dX2_end_14 : decode cX2_end 14 = .ok (.goto 6, 3) := by decide +kernel
theorem dX2_end_17 : decode cX2_end 17 = .ok (.ldc2_w 91, 3) := by decide +kernel
theorem dX2_end_20 : decode cX2_end 20 = .ok (.lreturn, 1) := by decide +kernel
abbrev cX2_count : ByteArray := prog_3_method_16_code
def yX2_count : MethodName := ⟨RX2, "count", "(I)I"⟩
theorem dX2_count_0 : decode cX2_count 0 = .ok (.iload_n 1, 1) := by decide +kernel
theorem dX2_count_1 : decode cX2_count 1 = .ok (.ifCond .lt 11, 3) := by decide +kernel
theorem dX2_count_4 : decode cX2_count 4 = .ok (.iload_n 1, 1) := by decide +kernel
theorem dX2_count_5 : decode cX2_count 5 = .ok (.aload_n 0, 1) := by decide +kernel
theorem dX2_count_6 : decode cX2_count 6 = .ok (.getfield 52, 3) := by decide +kernel
theorem dX2_count_9 : decode cX2_count 9 = .ok (.if_icmp .lt 5, 3) := by decide +kernel
theorem dX2_count_12 : decode cX2_count 12 = .ok (.iconst (-1), 1) := by decide +kernel
theorem dX2_count_13 : decode cX2_count 13 = .ok (.ireturn, 1) := by decide +kernel
theorem dX2_count_14 : decode cX2_count 14 = .ok (.iconst 0, 1) := by decide +kernel
theorem dX2_count_15 : decode cX2_count 15 = .ok (.istore_n 2, 1) := by decide +kernel
theorem dX2_count_16 : decode cX2_count 16 = .ok (.iconst 0, 1) := by decide +kernel
theorem dX2_count_17 : decode cX2_count 17 = .ok (.istore_n 3, 1) := by decide +kernel
theorem dX2_count_18 : decode cX2_count 18 = .ok (.iload_n 3, 1) := by decide +kernel
theorem dX2_count_19 : decode cX2_count 19 = .ok (.aload_n 0, 1) := by decide +kernel
theorem dX2_count_20 : decode cX2_count 20 = .ok (.getfield 76, 3) := by decide +kernel
theorem dX2_count_23 : decode cX2_count 23 = .ok (.if_icmp .ge 27, 3) := by decide +kernel
theorem dX2_count_26 : decode cX2_count 26 = .ok (.iload_n 2, 1) := by decide +kernel
theorem dX2_count_27 : decode cX2_count 27 = .ok (.aload_n 0, 1) := by decide +kernel
theorem dX2_count_28 : decode cX2_count 28 = .ok (.getfield 29, 3) := by decide +kernel
theorem dX2_count_31 : decode cX2_count 31 = .ok (.iload_n 3, 1) := by decide +kernel
theorem dX2_count_32 : decode cX2_count 32 = .ok (.iaload, 1) := by decide +kernel
theorem dX2_count_33 : decode cX2_count 33 = .ok (.iload_n 1, 1) := by decide +kernel
theorem dX2_count_34 : decode cX2_count 34 = .ok (.if_icmp .ne 7, 3) := by decide +kernel
theorem dX2_count_37 : decode cX2_count 37 = .ok (.iconst 1, 1) := by decide +kernel
theorem dX2_count_38 : decode cX2_count 38 = .ok (.goto 4, 3) := by decide +kernel
theorem dX2_count_41 : decode cX2_count 41 = .ok (.iconst 0, 1) := by decide +kernel
theorem dX2_count_42 : decode cX2_count 42 = .ok (.iadd, 1) := by decide +kernel
theorem dX2_count_43 : decode cX2_count 43 = .ok (.istore_n 2, 1) := by decide +kernel
theorem dX2_count_44 : decode cX2_count 44 = .ok (.iinc 3 1, 3) := by decide +kernel
theorem dX2_count_47 : decode cX2_count 47 = .ok (.goto (-29), 3) := by decide +kernel
theorem dX2_count_50 : decode cX2_count 50 = .ok (.iload_n 2, 1) := by decide +kernel
theorem dX2_count_51 : decode cX2_count 51 = .ok (.ireturn, 1) := by decide +kernel
abbrev cX2_lines : ByteArray := prog_3_method_17_code
def yX2_lines : MethodName := ⟨RX2, "lines", "()I"⟩
theorem dX2_lines_0 : decode cX2_lines 0 = .ok (.iconst 0, 1) := by decide +kernel
theorem dX2_lines_1 : decode cX2_lines 1 = .ok (.istore_n 1, 1) := by decide +kernel
theorem dX2_lines_2 : decode cX2_lines 2 = .ok (.iconst 0, 1) := by decide +kernel
theorem dX2_lines_3 : decode cX2_lines 3 = .ok (.istore_n 2, 1) := by decide +kernel
theorem dX2_lines_4 : decode cX2_lines 4 = .ok (.iload_n 2, 1) := by decide +kernel
theorem dX2_lines_5 : decode cX2_lines 5 = .ok (.aload_n 0, 1) := by decide +kernel
theorem dX2_lines_6 : decode cX2_lines 6 = .ok (.getfield 76, 3) := by decide +kernel
theorem dX2_lines_9 : decode cX2_lines 9 = .ok (.if_icmp .ge 38, 3) := by decide +kernel
theorem dX2_lines_12 : decode cX2_lines 12 = .ok (.iload_n 1, 1) := by decide +kernel
theorem dX2_lines_13 : decode cX2_lines 13 = .ok (.iload_n 2, 1) := by decide +kernel
theorem dX2_lines_14 : decode cX2_lines 14 = .ok (.ifCond .eq 20, 3) := by decide +kernel
theorem dX2_lines_17 : decode cX2_lines 17 = .ok (.aload_n 0, 1) := by decide +kernel
theorem dX2_lines_18 : decode cX2_lines 18 = .ok (.getfield 36, 3) := by decide +kernel
theorem dX2_lines_21 : decode cX2_lines 21 = .ok (.iload_n 2, 1) := by decide +kernel
theorem dX2_lines_22 : decode cX2_lines 22 = .ok (.iaload, 1) := by decide +kernel
theorem dX2_lines_23 : decode cX2_lines 23 = .ok (.aload_n 0, 1) := by decide +kernel
theorem dX2_lines_24 : decode cX2_lines 24 = .ok (.getfield 36, 3) := by decide +kernel
theorem dX2_lines_27 : decode cX2_lines 27 = .ok (.iload_n 2, 1) := by decide +kernel
theorem dX2_lines_28 : decode cX2_lines 28 = .ok (.iconst 1, 1) := by decide +kernel
theorem dX2_lines_29 : decode cX2_lines 29 = .ok (.isub, 1) := by decide +kernel
theorem dX2_lines_30 : decode cX2_lines 30 = .ok (.iaload, 1) := by decide +kernel
theorem dX2_lines_31 : decode cX2_lines 31 = .ok (.if_icmp .eq 7, 3) := by decide +kernel
theorem dX2_lines_34 : decode cX2_lines 34 = .ok (.iconst 1, 1) := by decide +kernel
theorem dX2_lines_35 : decode cX2_lines 35 = .ok (.goto 4, 3) := by decide +kernel
theorem dX2_lines_38 : decode cX2_lines 38 = .ok (.iconst 0, 1) := by decide +kernel
theorem dX2_lines_39 : decode cX2_lines 39 = .ok (.iadd, 1) := by decide +kernel
theorem dX2_lines_40 : decode cX2_lines 40 = .ok (.istore_n 1, 1) := by decide +kernel
theorem dX2_lines_41 : decode cX2_lines 41 = .ok (.iinc 2 1, 3) := by decide +kernel
theorem dX2_lines_44 : decode cX2_lines 44 = .ok (.goto (-40), 3) := by decide +kernel
theorem dX2_lines_47 : decode cX2_lines 47 = .ok (.iload_n 1, 1) := by decide +kernel
theorem dX2_lines_48 : decode cX2_lines 48 = .ok (.ireturn, 1) := by decide +kernel
abbrev cX2_line : ByteArray := prog_3_method_18_code
def yX2_line : MethodName := ⟨RX2, "line", "(I)I"⟩
theorem dX2_line_0 : decode cX2_line 0 = .ok (.iload_n 1, 1) := by decide +kernel
theorem dX2_line_1 : decode cX2_line 1 = .ok (.istore_n 2, 1) := by decide +kernel
theorem dX2_line_2 : decode cX2_line 2 = .ok (.iconst 0, 1) := by decide +kernel
theorem dX2_line_3 : decode cX2_line 3 = .ok (.istore_n 3, 1) := by decide +kernel
theorem dX2_line_4 : decode cX2_line 4 = .ok (.iload_n 3, 1) := by decide +kernel
theorem dX2_line_5 : decode cX2_line 5 = .ok (.aload_n 0, 1) := by decide +kernel
theorem dX2_line_6 : decode cX2_line 6 = .ok (.getfield 76, 3) := by decide +kernel
theorem dX2_line_9 : decode cX2_line 9 = .ok (.if_icmp .ge 48, 3) := by decide +kernel
theorem dX2_line_12 : decode cX2_line 12 = .ok (.iload_n 1, 1) := by decide +kernel
theorem dX2_line_13 : decode cX2_line 13 = .ok (.ifCond .lt 44, 3) := by decide +kernel
theorem dX2_line_16 : decode cX2_line 16 = .ok (.iload_n 3, 1) := by decide +kernel
theorem dX2_line_17 : decode cX2_line 17 = .ok (.ifCond .eq 20, 3) := by decide +kernel
theorem dX2_line_20 : decode cX2_line 20 = .ok (.aload_n 0, 1) := by decide +kernel
theorem dX2_line_21 : decode cX2_line 21 = .ok (.getfield 36, 3) := by decide +kernel
theorem dX2_line_24 : decode cX2_line 24 = .ok (.iload_n 3, 1) := by decide +kernel
theorem dX2_line_25 : decode cX2_line 25 = .ok (.iaload, 1) := by decide +kernel
theorem dX2_line_26 : decode cX2_line 26 = .ok (.aload_n 0, 1) := by decide +kernel
theorem dX2_line_27 : decode cX2_line 27 = .ok (.getfield 36, 3) := by decide +kernel
theorem dX2_line_30 : decode cX2_line 30 = .ok (.iload_n 3, 1) := by decide +kernel
theorem dX2_line_31 : decode cX2_line 31 = .ok (.iconst 1, 1) := by decide +kernel
theorem dX2_line_32 : decode cX2_line 32 = .ok (.isub, 1) := by decide +kernel
theorem dX2_line_33 : decode cX2_line 33 = .ok (.iaload, 1) := by decide +kernel
theorem dX2_line_34 : decode cX2_line 34 = .ok (.if_icmp .eq 17, 3) := by decide +kernel
theorem dX2_line_37 : decode cX2_line 37 = .ok (.iload_n 2, 1) := by decide +kernel
theorem dX2_line_38 : decode cX2_line 38 = .ok (.ifCond .ne 10, 3) := by decide +kernel
theorem dX2_line_41 : decode cX2_line 41 = .ok (.aload_n 0, 1) := by decide +kernel
theorem dX2_line_42 : decode cX2_line 42 = .ok (.getfield 36, 3) := by decide +kernel
theorem dX2_line_45 : decode cX2_line 45 = .ok (.iload_n 3, 1) := by decide +kernel
theorem dX2_line_46 : decode cX2_line 46 = .ok (.iaload, 1) := by decide +kernel
theorem dX2_line_47 : decode cX2_line 47 = .ok (.ireturn, 1) := by decide +kernel
theorem dX2_line_48 : decode cX2_line 48 = .ok (.iinc 2 (-1), 3) := by decide +kernel
theorem dX2_line_51 : decode cX2_line 51 = .ok (.iinc 3 1, 3) := by decide +kernel
theorem dX2_line_54 : decode cX2_line 54 = .ok (.goto (-50), 3) := by decide +kernel
theorem dX2_line_57 : decode cX2_line 57 = .ok (.iconst (-1), 1) := by decide +kernel
theorem dX2_line_58 : decode cX2_line 58 = .ok (.ireturn, 1) := by decide +kernel
abbrev cX2_steps : ByteArray := prog_3_method_19_code
def yX2_steps : MethodName := ⟨RX2, "steps", "()J"⟩
theorem dX2_steps_0 : decode cX2_steps 0 = .ok (.aload_n 0, 1) := by decide +kernel
theorem dX2_steps_1 : decode cX2_steps 1 = .ok (.getfield 58, 3) := by decide +kernel
theorem dX2_steps_4 : decode cX2_steps 4 = .ok (.lreturn, 1) := by decide +kernel
abbrev cX2_state : ByteArray := prog_3_method_20_code
def yX2_state : MethodName := ⟨RX2, "state", "()I"⟩
theorem dX2_state_0 : decode cX2_state 0 = .ok (.aload_n 0, 1) := by decide +kernel
theorem dX2_state_1 : decode cX2_state 1 = .ok (.getfield 55, 3) := by decide +kernel
theorem dX2_state_4 : decode cX2_state 4 = .ok (.ireturn, 1) := by decide +kernel
abbrev cX2_pick : ByteArray := prog_3_method_22_code
def yX2_pick : MethodName := ⟨RX2, "pick", "()I"⟩
theorem dX2_pick_0 : decode cX2_pick 0 = .ok (.aload_n 0, 1) := by decide +kernel
theorem dX2_pick_1 : decode cX2_pick 1 = .ok (.iconst 0, 1) := by decide +kernel
theorem dX2_pick_2 : decode cX2_pick 2 = .ok (.putfield 93, 3) := by decide +kernel
theorem dX2_pick_5 : decode cX2_pick 5 = .ok (.aload_n 0, 1) := by decide +kernel
theorem dX2_pick_6 : decode cX2_pick 6 = .ok (.iconst 1, 1) := by decide +kernel
theorem dX2_pick_7 : decode cX2_pick 7 = .ok (.putfield 83, 3) := by decide +kernel
theorem dX2_pick_10 : decode cX2_pick 10 = .ok (.lconst 0, 1) := by decide +kernel
theorem dX2_pick_11 : decode cX2_pick 11 = .ok (.lstore_n 1, 1) := by decide +kernel
theorem dX2_pick_12 : decode cX2_pick 12 = .ok (.iconst 1, 1) := by decide +kernel
theorem dX2_pick_13 : decode cX2_pick 13 = .ok (.istore_n 3, 1) := by decide +kernel
theorem dX2_pick_14 : decode cX2_pick 14 = .ok (.iload_n 3, 1) := by decide +kernel
theorem dX2_pick_15 : decode cX2_pick 15 = .ok (.ifCond .eq 215, 3) := by decide +kernel
theorem dX2_pick_18 : decode cX2_pick 18 = .ok (.iconst (-1), 1) := by decide +kernel
theorem dX2_pick_19 : decode cX2_pick 19 = .ok (.istore 4, 2) := by decide +kernel
theorem dX2_pick_21 : decode cX2_pick 21 = .ok (.iconst 0, 1) := by decide +kernel
theorem dX2_pick_22 : decode cX2_pick 22 = .ok (.istore 5, 2) := by decide +kernel
theorem dX2_pick_24 : decode cX2_pick 24 = .ok (.iload 5, 2) := by decide +kernel
theorem dX2_pick_26 : decode cX2_pick 26 = .ok (.aload_n 0, 1) := by decide +kernel
theorem dX2_pick_27 : decode cX2_pick 27 = .ok (.getfield 76, 3) := by decide +kernel
theorem dX2_pick_30 : decode cX2_pick 30 = .ok (.if_icmp .ge 150, 3) := by decide +kernel
theorem dX2_pick_33 : decode cX2_pick 33 = .ok (.aload_n 0, 1) := by decide +kernel
theorem dX2_pick_34 : decode cX2_pick 34 = .ok (.iload 5, 2) := by decide +kernel
theorem dX2_pick_36 : decode cX2_pick 36 = .ok (.invokevirtual 96, 3) := by decide +kernel
theorem dX2_pick_39 : decode cX2_pick 39 = .ok (.lload_n 1, 1) := by decide +kernel
theorem dX2_pick_40 : decode cX2_pick 40 = .ok (.lcmp, 1) := by decide +kernel
theorem dX2_pick_41 : decode cX2_pick 41 = .ok (.ifCond .lt 133, 3) := by decide +kernel
theorem dX2_pick_44 : decode cX2_pick 44 = .ok (.iload 4, 2) := by decide +kernel
theorem dX2_pick_46 : decode cX2_pick 46 = .ok (.iconst (-1), 1) := by decide +kernel
theorem dX2_pick_47 : decode cX2_pick 47 = .ok (.if_icmp .eq 106, 3) := by decide +kernel
theorem dX2_pick_50 : decode cX2_pick 50 = .ok (.aload_n 0, 1) := by decide +kernel
theorem dX2_pick_51 : decode cX2_pick 51 = .ok (.iload 5, 2) := by decide +kernel
theorem dX2_pick_53 : decode cX2_pick 53 = .ok (.invokevirtual 96, 3) := by decide +kernel
theorem dX2_pick_56 : decode cX2_pick 56 = .ok (.aload_n 0, 1) := by decide +kernel
theorem dX2_pick_57 : decode cX2_pick 57 = .ok (.iload 4, 2) := by decide +kernel
theorem dX2_pick_59 : decode cX2_pick 59 = .ok (.invokevirtual 96, 3) := by decide +kernel
theorem dX2_pick_62 : decode cX2_pick 62 = .ok (.lcmp, 1) := by decide +kernel
theorem dX2_pick_63 : decode cX2_pick 63 = .ok (.ifCond .lt 90, 3) := by decide +kernel
theorem dX2_pick_66 : decode cX2_pick 66 = .ok (.aload_n 0, 1) := by decide +kernel
theorem dX2_pick_67 : decode cX2_pick 67 = .ok (.iload 5, 2) := by decide +kernel
theorem dX2_pick_69 : decode cX2_pick 69 = .ok (.invokevirtual 96, 3) := by decide +kernel
theorem dX2_pick_72 : decode cX2_pick 72 = .ok (.aload_n 0, 1) := by decide +kernel
theorem dX2_pick_73 : decode cX2_pick 73 = .ok (.iload 4, 2) := by decide +kernel
theorem dX2_pick_75 : decode cX2_pick 75 = .ok (.invokevirtual 96, 3) := by decide +kernel
theorem dX2_pick_78 : decode cX2_pick 78 = .ok (.lcmp, 1) := by decide +kernel
theorem dX2_pick_79 : decode cX2_pick 79 = .ok (.ifCond .ne 78, 3) := by decide +kernel
theorem dX2_pick_82 : decode cX2_pick 82 = .ok (.aload_n 0, 1) := by decide +kernel
theorem dX2_pick_83 : decode cX2_pick 83 = .ok (.getfield 17, 3) := by decide +kernel
theorem dX2_pick_86 : decode cX2_pick 86 = .ok (.aload_n 0, 1) := by decide +kernel
theorem dX2_pick_87 : decode cX2_pick 87 = .ok (.getfield 29, 3) := by decide +kernel
theorem dX2_pick_90 : decode cX2_pick 90 = .ok (.iload 5, 2) := by decide +kernel
theorem dX2_pick_92 : decode cX2_pick 92 = .ok (.iaload, 1) := by decide +kernel
theorem dX2_pick_93 : decode cX2_pick 93 = .ok (.iaload, 1) := by decide +kernel
theorem dX2_pick_94 : decode cX2_pick 94 = .ok (.aload_n 0, 1) := by decide +kernel
theorem dX2_pick_95 : decode cX2_pick 95 = .ok (.getfield 17, 3) := by decide +kernel
theorem dX2_pick_98 : decode cX2_pick 98 = .ok (.aload_n 0, 1) := by decide +kernel
theorem dX2_pick_99 : decode cX2_pick 99 = .ok (.getfield 29, 3) := by decide +kernel
theorem dX2_pick_102 : decode cX2_pick 102 = .ok (.iload 4, 2) := by decide +kernel
theorem dX2_pick_104 : decode cX2_pick 104 = .ok (.iaload, 1) := by decide +kernel
theorem dX2_pick_105 : decode cX2_pick 105 = .ok (.iaload, 1) := by decide +kernel
theorem dX2_pick_106 : decode cX2_pick 106 = .ok (.if_icmp .gt 47, 3) := by decide +kernel
theorem dX2_pick_109 : decode cX2_pick 109 = .ok (.aload_n 0, 1) := by decide +kernel
theorem dX2_pick_110 : decode cX2_pick 110 = .ok (.getfield 17, 3) := by decide +kernel
theorem dX2_pick_113 : decode cX2_pick 113 = .ok (.aload_n 0, 1) := by decide +kernel
theorem dX2_pick_114 : decode cX2_pick 114 = .ok (.getfield 29, 3) := by decide +kernel
theorem dX2_pick_117 : decode cX2_pick 117 = .ok (.iload 5, 2) := by decide +kernel
theorem dX2_pick_119 : decode cX2_pick 119 = .ok (.iaload, 1) := by decide +kernel
theorem dX2_pick_120 : decode cX2_pick 120 = .ok (.iaload, 1) := by decide +kernel
theorem dX2_pick_121 : decode cX2_pick 121 = .ok (.aload_n 0, 1) := by decide +kernel
theorem dX2_pick_122 : decode cX2_pick 122 = .ok (.getfield 17, 3) := by decide +kernel
theorem dX2_pick_125 : decode cX2_pick 125 = .ok (.aload_n 0, 1) := by decide +kernel
theorem dX2_pick_126 : decode cX2_pick 126 = .ok (.getfield 29, 3) := by decide +kernel
theorem dX2_pick_129 : decode cX2_pick 129 = .ok (.iload 4, 2) := by decide +kernel
theorem dX2_pick_131 : decode cX2_pick 131 = .ok (.iaload, 1) := by decide +kernel
theorem dX2_pick_132 : decode cX2_pick 132 = .ok (.iaload, 1) := by decide +kernel
theorem dX2_pick_133 : decode cX2_pick 133 = .ok (.if_icmp .ne 24, 3) := by decide +kernel
theorem dX2_pick_136 : decode cX2_pick 136 = .ok (.aload_n 0, 1) := by decide +kernel
theorem dX2_pick_137 : decode cX2_pick 137 = .ok (.getfield 29, 3) := by decide +kernel
theorem dX2_pick_140 : decode cX2_pick 140 = .ok (.iload 5, 2) := by decide +kernel
theorem dX2_pick_142 : decode cX2_pick 142 = .ok (.iaload, 1) := by decide +kernel
theorem dX2_pick_143 : decode cX2_pick 143 = .ok (.aload_n 0, 1) := by decide +kernel
theorem dX2_pick_144 : decode cX2_pick 144 = .ok (.getfield 29, 3) := by decide +kernel
theorem dX2_pick_147 : decode cX2_pick 147 = .ok (.iload 4, 2) := by decide +kernel
theorem dX2_pick_149 : decode cX2_pick 149 = .ok (.iaload, 1) := by decide +kernel
theorem dX2_pick_150 : decode cX2_pick 150 = .ok (.if_icmp .ge 7, 3) := by decide +kernel
theorem dX2_pick_153 : decode cX2_pick 153 = .ok (.iconst 1, 1) := by decide +kernel
theorem dX2_pick_154 : decode cX2_pick 154 = .ok (.goto 4, 3) := by decide +kernel
theorem dX2_pick_157 : decode cX2_pick 157 = .ok (.iconst 0, 1) := by decide +kernel
theorem dX2_pick_158 : decode cX2_pick 158 = .ok (.istore 6, 2) := by decide +kernel
theorem dX2_pick_160 : decode cX2_pick 160 = .ok (.iload 6, 2) := by decide +kernel
theorem dX2_pick_162 : decode cX2_pick 162 = .ok (.ifCond .eq 8, 3) := by decide +kernel
theorem dX2_pick_165 : decode cX2_pick 165 = .ok (.iload 5, 2) := by decide +kernel
theorem dX2_pick_167 : decode cX2_pick 167 = .ok (.goto 5, 3) := by decide +kernel
theorem dX2_pick_170 : decode cX2_pick 170 = .ok (.iload 4, 2) := by decide +kernel
theorem dX2_pick_172 : decode cX2_pick 172 = .ok (.istore 4, 2) := by decide +kernel
theorem dX2_pick_174 : decode cX2_pick 174 = .ok (.iinc 5 1, 3) := by decide +kernel
theorem dX2_pick_177 : decode cX2_pick 177 = .ok (.goto (-153), 3) := by decide +kernel
theorem dX2_pick_180 : decode cX2_pick 180 = .ok (.iload 4, 2) := by decide +kernel
theorem dX2_pick_182 : decode cX2_pick 182 = .ok (.iconst (-1), 1) := by decide +kernel
theorem dX2_pick_183 : decode cX2_pick 183 = .ok (.if_icmp .eq 7, 3) := by decide +kernel
theorem dX2_pick_186 : decode cX2_pick 186 = .ok (.iconst 1, 1) := by decide +kernel
theorem dX2_pick_187 : decode cX2_pick 187 = .ok (.goto 4, 3) := by decide +kernel
theorem dX2_pick_190 : decode cX2_pick 190 = .ok (.iconst 0, 1) := by decide +kernel
theorem dX2_pick_191 : decode cX2_pick 191 = .ok (.istore_n 3, 1) := by decide +kernel
theorem dX2_pick_192 : decode cX2_pick 192 = .ok (.iload_n 3, 1) := by decide +kernel
theorem dX2_pick_193 : decode cX2_pick 193 = .ok (.ifCond .eq 34, 3) := by decide +kernel
theorem dX2_pick_196 : decode cX2_pick 196 = .ok (.aload_n 0, 1) := by decide +kernel
theorem dX2_pick_197 : decode cX2_pick 197 = .ok (.getfield 39, 3) := by decide +kernel
theorem dX2_pick_200 : decode cX2_pick 200 = .ok (.aload_n 0, 1) := by decide +kernel
theorem dX2_pick_201 : decode cX2_pick 201 = .ok (.getfield 93, 3) := by decide +kernel
theorem dX2_pick_204 : decode cX2_pick 204 = .ok (.iload 4, 2) := by decide +kernel
theorem dX2_pick_206 : decode cX2_pick 206 = .ok (.iastore, 1) := by decide +kernel
theorem dX2_pick_207 : decode cX2_pick 207 = .ok (.aload_n 0, 1) := by decide +kernel
theorem dX2_pick_208 : decode cX2_pick 208 = .ok (.dup, 1) := by decide +kernel
theorem dX2_pick_209 : decode cX2_pick 209 = .ok (.getfield 93, 3) := by decide +kernel
theorem dX2_pick_212 : decode cX2_pick 212 = .ok (.iconst 1, 1) := by decide +kernel
theorem dX2_pick_213 : decode cX2_pick 213 = .ok (.iadd, 1) := by decide +kernel
theorem dX2_pick_214 : decode cX2_pick 214 = .ok (.putfield 93, 3) := by decide +kernel
theorem dX2_pick_217 : decode cX2_pick 217 = .ok (.aload_n 0, 1) := by decide +kernel
theorem dX2_pick_218 : decode cX2_pick 218 = .ok (.getfield 32, 3) := by decide +kernel
theorem dX2_pick_221 : decode cX2_pick 221 = .ok (.iload 4, 2) := by decide +kernel
theorem dX2_pick_223 : decode cX2_pick 223 = .ok (.laload, 1) := by decide +kernel
theorem dX2_pick_224 : decode cX2_pick 224 = .ok (.lconst 1, 1) := by decide +kernel
theorem dX2_pick_225 : decode cX2_pick 225 = .ok (.ladd, 1) := by decide +kernel
theorem dX2_pick_226 : decode cX2_pick 226 = .ok (.lstore_n 1, 1) := by decide +kernel
theorem dX2_pick_227 : decode cX2_pick 227 = .ok (.goto (-213), 3) := by decide +kernel
theorem dX2_pick_230 : decode cX2_pick 230 = .ok (.aload_n 0, 1) := by decide +kernel
theorem dX2_pick_231 : decode cX2_pick 231 = .ok (.getfield 93, 3) := by decide +kernel
theorem dX2_pick_234 : decode cX2_pick 234 = .ok (.ireturn, 1) := by decide +kernel
abbrev cX2_begin : ByteArray := prog_3_method_21_code
def yX2_begin : MethodName := ⟨RX2, "begin", "(I)J"⟩
theorem dX2_begin_0 : decode cX2_begin 0 = .ok (.aload_n 0, 1) := by decide +kernel
theorem dX2_begin_1 : decode cX2_begin 1 = .ok (.getfield 32, 3) := by decide +kernel
theorem dX2_begin_4 : decode cX2_begin 4 = .ok (.iload_n 1, 1) := by decide +kernel
theorem dX2_begin_5 : decode cX2_begin 5 = .ok (.laload, 1) := by decide +kernel
theorem dX2_begin_6 : decode cX2_begin 6 = .ok (.aload_n 0, 1) := by decide +kernel
theorem dX2_begin_7 : decode cX2_begin 7 = .ok (.getfield 17, 3) := by decide +kernel
theorem dX2_begin_10 : decode cX2_begin 10 = .ok (.aload_n 0, 1) := by decide +kernel
theorem dX2_begin_11 : decode cX2_begin 11 = .ok (.getfield 29, 3) := by decide +kernel
theorem dX2_begin_14 : decode cX2_begin 14 = .ok (.iload_n 1, 1) := by decide +kernel
theorem dX2_begin_15 : decode cX2_begin 15 = .ok (.iaload, 1) := by decide +kernel
theorem dX2_begin_16 : decode cX2_begin 16 = .ok (.iaload, 1) := by decide +kernel
theorem dX2_begin_17 : decode cX2_begin 17 = .ok (.i2l, 1) := by decide +kernel
theorem dX2_begin_18 : decode cX2_begin 18 = .ok (.lsub, 1) := by decide +kernel
theorem dX2_begin_19 : decode cX2_begin 19 = .ok (.lconst 1, 1) := by decide +kernel
theorem dX2_begin_20 : decode cX2_begin 20 = .ok (.ladd, 1) := by decide +kernel
theorem dX2_begin_21 : decode cX2_begin 21 = .ok (.lreturn, 1) := by decide +kernel
abbrev cX2_picked : ByteArray := prog_3_method_23_code
def yX2_picked : MethodName := ⟨RX2, "picked", "(I)I"⟩
theorem dX2_picked_0 : decode cX2_picked 0 = .ok (.aload_n 0, 1) := by decide +kernel
theorem dX2_picked_1 : decode cX2_picked 1 = .ok (.getfield 83, 3) := by decide +kernel
theorem dX2_picked_4 : decode cX2_picked 4 = .ok (.ifCond .eq 15, 3) := by decide +kernel
theorem dX2_picked_7 : decode cX2_picked 7 = .ok (.iload_n 1, 1) := by decide +kernel
theorem dX2_picked_8 : decode cX2_picked 8 = .ok (.ifCond .lt 11, 3) := by decide +kernel
theorem dX2_picked_11 : decode cX2_picked 11 = .ok (.iload_n 1, 1) := by decide +kernel
theorem dX2_picked_12 : decode cX2_picked 12 = .ok (.aload_n 0, 1) := by decide +kernel
theorem dX2_picked_13 : decode cX2_picked 13 = .ok (.getfield 93, 3) := by decide +kernel
theorem dX2_picked_16 : decode cX2_picked 16 = .ok (.if_icmp .lt 7, 3) := by decide +kernel
theorem dX2_picked_19 : decode cX2_picked 19 = .ok (.iconst (-1), 1) := by decide +kernel
theorem dX2_picked_20 : decode cX2_picked 20 = .ok (.goto 9, 3) := by decide +kernel
theorem dX2_picked_23 : decode cX2_picked 23 = .ok (.aload_n 0, 1) := by decide +kernel
theorem dX2_picked_24 : decode cX2_picked 24 = .ok (.getfield 39, 3) := by decide +kernel
theorem dX2_picked_27 : decode cX2_picked 27 = .ok (.iload_n 1, 1) := by decide +kernel
theorem dX2_picked_28 : decode cX2_picked 28 = .ok (.iaload, 1) := by decide +kernel
theorem dX2_picked_29 : decode cX2_picked 29 = .ok (.ireturn, 1) := by decide +kernel
theorem q19 : (Jvm.Cond.initialized "ScanDeskModel") ∈ lw_all := lw_g (lw_at lw_m1 3 rfl) rfl
theorem q235 : (Jvm.Cond.instantiable "ScanDeskModel" (20 : Nat)) ∈ lw_all := lw_g (lw_at lw_m1 219 rfl) rfl
theorem q237 : (Jvm.Cond.instanceMethod ({ cls := "ScanDeskModel", name := "<init>", desc := "(I)V" } : Jvm.MethodName)) ∈ lw_all := lw_g (lw_at lw_m1 221 rfl) rfl
theorem q238 : (Jvm.Cond.code ({ cls := "ScanDeskModel", name := "<init>", desc := "(I)V" } : Jvm.MethodName) prog_3_method_1_code (2 : Nat) (Option.none : Option Jvm.ClassFile.FieldType)) ∈ lw_all := lw_g (lw_at lw_m1 222 rfl) rfl
theorem q239 : (Jvm.Cond.methodLink "ScanDeskModel" (1 : Nat) ({ cls := "java/lang/Object", name := "<init>", desc := "()V" } : Jvm.MethodName)) ∈ lw_all := lw_g (lw_at lw_m1 223 rfl) rfl
theorem q240 : (Jvm.Cond.fieldLink "ScanDeskModel" (42 : Nat) "ScanDeskModel" "room" "I") ∈ lw_all := lw_g (lw_at lw_m1 224 rfl) rfl
theorem q241 : (Jvm.Cond.fieldLink "ScanDeskModel" (48 : Nat) "ScanDeskModel" "built" "Z") ∈ lw_all := lw_g (lw_at lw_m1 225 rfl) rfl
theorem q242 : (Jvm.Cond.fieldLink "ScanDeskModel" (7 : Nat) "ScanDeskModel" "prefixes" "I") ∈ lw_all := lw_g (lw_at lw_m1 226 rfl) rfl
theorem q243 : (Jvm.Cond.fieldLink "ScanDeskModel" (52 : Nat) "ScanDeskModel" "words" "I") ∈ lw_all := lw_g (lw_at lw_m1 227 rfl) rfl
theorem q244 : (Jvm.Cond.fieldLink "ScanDeskModel" (13 : Nat) "ScanDeskModel" "bytes" "[I") ∈ lw_all := lw_g (lw_at lw_m1 228 rfl) rfl
theorem q245 : (Jvm.Cond.fieldLink "ScanDeskModel" (17 : Nat) "ScanDeskModel" "lengths" "[I") ∈ lw_all := lw_g (lw_at lw_m1 229 rfl) rfl
theorem q246 : (Jvm.Cond.fieldLink "ScanDeskModel" (20 : Nat) "ScanDeskModel" "draft" "[I") ∈ lw_all := lw_g (lw_at lw_m1 230 rfl) rfl
theorem q247 : (Jvm.Cond.fieldLink "ScanDeskModel" (45 : Nat) "ScanDeskModel" "drafted" "I") ∈ lw_all := lw_g (lw_at lw_m1 231 rfl) rfl
theorem q248 : (Jvm.Cond.fieldLink "ScanDeskModel" (23 : Nat) "ScanDeskModel" "last" "[I") ∈ lw_all := lw_g (lw_at lw_m1 232 rfl) rfl
theorem q249 : (Jvm.Cond.fieldLink "ScanDeskModel" (55 : Nat) "ScanDeskModel" "state" "I") ∈ lw_all := lw_g (lw_at lw_m1 233 rfl) rfl
theorem q250 : (Jvm.Cond.fieldLink "ScanDeskModel" (58 : Nat) "ScanDeskModel" "steps" "J") ∈ lw_all := lw_g (lw_at lw_m1 234 rfl) rfl
theorem q251 : (Jvm.Cond.fieldLink "ScanDeskModel" (62 : Nat) "ScanDeskModel" "place" "J") ∈ lw_all := lw_g (lw_at lw_m1 235 rfl) rfl
theorem q252 : (Jvm.Cond.fieldLink "ScanDeskModel" (26 : Nat) "ScanDeskModel" "line" "I") ∈ lw_all := lw_g (lw_at lw_m1 236 rfl) rfl
theorem q253 : (Jvm.Cond.fieldLink "ScanDeskModel" (76 : Nat) "ScanDeskModel" "found" "I") ∈ lw_all := lw_g (lw_at lw_m1 237 rfl) rfl
theorem q254 : (Jvm.Cond.fieldLink "ScanDeskModel" (29 : Nat) "ScanDeskModel" "word" "[I") ∈ lw_all := lw_g (lw_at lw_m1 238 rfl) rfl
theorem q255 : (Jvm.Cond.fieldLink "ScanDeskModel" (32 : Nat) "ScanDeskModel" "end" "[J") ∈ lw_all := lw_g (lw_at lw_m1 239 rfl) rfl
theorem q256 : (Jvm.Cond.fieldLink "ScanDeskModel" (36 : Nat) "ScanDeskModel" "lineOf" "[I") ∈ lw_all := lw_g (lw_at lw_m2 0 rfl) rfl
theorem q257 : (Jvm.Cond.fieldLink "ScanDeskModel" (93 : Nat) "ScanDeskModel" "picks" "I") ∈ lw_all := lw_g (lw_at lw_m2 1 rfl) rfl
theorem q258 : (Jvm.Cond.fieldLink "ScanDeskModel" (83 : Nat) "ScanDeskModel" "isPicked" "Z") ∈ lw_all := lw_g (lw_at lw_m2 2 rfl) rfl
theorem q259 : (Jvm.Cond.fieldLink "ScanDeskModel" (39 : Nat) "ScanDeskModel" "picked" "[I") ∈ lw_all := lw_g (lw_at lw_m2 3 rfl) rfl
theorem q260 : (Jvm.Cond.laysFinal "ScanDeskModel" "ScanDeskModel" "room" "I") ∈ lw_all := lw_g (lw_at lw_m2 4 rfl) rfl
theorem q261 : (Jvm.Cond.soleField "ScanDeskModel" "room") ∈ lw_all := lw_g (lw_at lw_m2 5 rfl) rfl
theorem q262 : (Jvm.Cond.lays "ScanDeskModel" "ScanDeskModel" "built" "Z") ∈ lw_all := lw_g (lw_at lw_m2 6 rfl) rfl
theorem q263 : (Jvm.Cond.soleField "ScanDeskModel" "built") ∈ lw_all := lw_g (lw_at lw_m2 7 rfl) rfl
theorem q264 : (Jvm.Cond.lays "ScanDeskModel" "ScanDeskModel" "prefixes" "I") ∈ lw_all := lw_g (lw_at lw_m2 8 rfl) rfl
theorem q265 : (Jvm.Cond.soleField "ScanDeskModel" "prefixes") ∈ lw_all := lw_g (lw_at lw_m2 9 rfl) rfl
theorem q266 : (Jvm.Cond.lays "ScanDeskModel" "ScanDeskModel" "words" "I") ∈ lw_all := lw_g (lw_at lw_m2 10 rfl) rfl
theorem q267 : (Jvm.Cond.soleField "ScanDeskModel" "words") ∈ lw_all := lw_g (lw_at lw_m2 11 rfl) rfl
theorem q268 : (Jvm.Cond.laysFinal "ScanDeskModel" "ScanDeskModel" "bytes" "[I") ∈ lw_all := lw_g (lw_at lw_m2 12 rfl) rfl
theorem q269 : (Jvm.Cond.soleField "ScanDeskModel" "bytes") ∈ lw_all := lw_g (lw_at lw_m2 13 rfl) rfl
theorem q270 : (Jvm.Cond.laysFinal "ScanDeskModel" "ScanDeskModel" "lengths" "[I") ∈ lw_all := lw_g (lw_at lw_m2 14 rfl) rfl
theorem q271 : (Jvm.Cond.soleField "ScanDeskModel" "lengths") ∈ lw_all := lw_g (lw_at lw_m2 15 rfl) rfl
theorem q272 : (Jvm.Cond.laysFinal "ScanDeskModel" "ScanDeskModel" "draft" "[I") ∈ lw_all := lw_g (lw_at lw_m2 16 rfl) rfl
theorem q273 : (Jvm.Cond.soleField "ScanDeskModel" "draft") ∈ lw_all := lw_g (lw_at lw_m2 17 rfl) rfl
theorem q274 : (Jvm.Cond.lays "ScanDeskModel" "ScanDeskModel" "drafted" "I") ∈ lw_all := lw_g (lw_at lw_m2 18 rfl) rfl
theorem q275 : (Jvm.Cond.soleField "ScanDeskModel" "drafted") ∈ lw_all := lw_g (lw_at lw_m2 19 rfl) rfl
theorem q276 : (Jvm.Cond.laysFinal "ScanDeskModel" "ScanDeskModel" "last" "[I") ∈ lw_all := lw_g (lw_at lw_m2 20 rfl) rfl
theorem q277 : (Jvm.Cond.soleField "ScanDeskModel" "last") ∈ lw_all := lw_g (lw_at lw_m2 21 rfl) rfl
theorem q278 : (Jvm.Cond.lays "ScanDeskModel" "ScanDeskModel" "state" "I") ∈ lw_all := lw_g (lw_at lw_m2 22 rfl) rfl
theorem q279 : (Jvm.Cond.soleField "ScanDeskModel" "state") ∈ lw_all := lw_g (lw_at lw_m2 23 rfl) rfl
theorem q280 : (Jvm.Cond.lays "ScanDeskModel" "ScanDeskModel" "steps" "J") ∈ lw_all := lw_g (lw_at lw_m2 24 rfl) rfl
theorem q281 : (Jvm.Cond.soleField "ScanDeskModel" "steps") ∈ lw_all := lw_g (lw_at lw_m2 25 rfl) rfl
theorem q282 : (Jvm.Cond.lays "ScanDeskModel" "ScanDeskModel" "place" "J") ∈ lw_all := lw_g (lw_at lw_m2 26 rfl) rfl
theorem q283 : (Jvm.Cond.soleField "ScanDeskModel" "place") ∈ lw_all := lw_g (lw_at lw_m2 27 rfl) rfl
theorem q284 : (Jvm.Cond.lays "ScanDeskModel" "ScanDeskModel" "line" "I") ∈ lw_all := lw_g (lw_at lw_m2 28 rfl) rfl
theorem q285 : (Jvm.Cond.soleField "ScanDeskModel" "line") ∈ lw_all := lw_g (lw_at lw_m2 29 rfl) rfl
theorem q286 : (Jvm.Cond.lays "ScanDeskModel" "ScanDeskModel" "found" "I") ∈ lw_all := lw_g (lw_at lw_m2 30 rfl) rfl
theorem q287 : (Jvm.Cond.soleField "ScanDeskModel" "found") ∈ lw_all := lw_g (lw_at lw_m2 31 rfl) rfl
theorem q288 : (Jvm.Cond.laysFinal "ScanDeskModel" "ScanDeskModel" "word" "[I") ∈ lw_all := lw_g (lw_at lw_m2 32 rfl) rfl
theorem q289 : (Jvm.Cond.soleField "ScanDeskModel" "word") ∈ lw_all := lw_g (lw_at lw_m2 33 rfl) rfl
theorem q290 : (Jvm.Cond.laysFinal "ScanDeskModel" "ScanDeskModel" "end" "[J") ∈ lw_all := lw_g (lw_at lw_m2 34 rfl) rfl
theorem q291 : (Jvm.Cond.soleField "ScanDeskModel" "end") ∈ lw_all := lw_g (lw_at lw_m2 35 rfl) rfl
theorem q292 : (Jvm.Cond.laysFinal "ScanDeskModel" "ScanDeskModel" "lineOf" "[I") ∈ lw_all := lw_g (lw_at lw_m2 36 rfl) rfl
theorem q293 : (Jvm.Cond.soleField "ScanDeskModel" "lineOf") ∈ lw_all := lw_g (lw_at lw_m2 37 rfl) rfl
theorem q294 : (Jvm.Cond.lays "ScanDeskModel" "ScanDeskModel" "picks" "I") ∈ lw_all := lw_g (lw_at lw_m2 38 rfl) rfl
theorem q295 : (Jvm.Cond.soleField "ScanDeskModel" "picks") ∈ lw_all := lw_g (lw_at lw_m2 39 rfl) rfl
theorem q296 : (Jvm.Cond.lays "ScanDeskModel" "ScanDeskModel" "isPicked" "Z") ∈ lw_all := lw_g (lw_at lw_m2 40 rfl) rfl
theorem q297 : (Jvm.Cond.soleField "ScanDeskModel" "isPicked") ∈ lw_all := lw_g (lw_at lw_m2 41 rfl) rfl
theorem q298 : (Jvm.Cond.laysFinal "ScanDeskModel" "ScanDeskModel" "picked" "[I") ∈ lw_all := lw_g (lw_at lw_m2 42 rfl) rfl
theorem q299 : (Jvm.Cond.soleField "ScanDeskModel" "picked") ∈ lw_all := lw_g (lw_at lw_m2 43 rfl) rfl
theorem q300 : (Jvm.Cond.superclass "ScanDeskModel" "java/lang/Object") ∈ lw_all := lw_g (lw_at lw_m2 44 rfl) rfl
theorem q302 : (Jvm.Cond.instanceMethod ({ cls := "ScanDeskModel", name := "put", desc := "(I)I" } : Jvm.MethodName)) ∈ lw_all := lw_g (lw_at lw_m2 46 rfl) rfl
theorem q303 : (Jvm.Cond.selects "ScanDeskModel" ({ cls := "ScanDeskModel", name := "put", desc := "(I)I" } : Jvm.MethodName) ({ cls := "ScanDeskModel", name := "put", desc := "(I)I" } : Jvm.MethodName)) ∈ lw_all := lw_g (lw_at lw_m2 47 rfl) rfl
theorem q304 : (Jvm.Cond.code ({ cls := "ScanDeskModel", name := "put", desc := "(I)I" } : Jvm.MethodName) prog_3_method_2_code (2 : Nat) (Option.some Jvm.ClassFile.FieldType.int)) ∈ lw_all := lw_g (lw_at lw_m2 48 rfl) rfl
theorem q306 : (Jvm.Cond.instanceMethod ({ cls := "ScanDeskModel", name := "add", desc := "()I" } : Jvm.MethodName)) ∈ lw_all := lw_g (lw_at lw_m2 50 rfl) rfl
theorem q307 : (Jvm.Cond.selects "ScanDeskModel" ({ cls := "ScanDeskModel", name := "add", desc := "()I" } : Jvm.MethodName) ({ cls := "ScanDeskModel", name := "add", desc := "()I" } : Jvm.MethodName)) ∈ lw_all := lw_g (lw_at lw_m2 51 rfl) rfl
theorem q308 : (Jvm.Cond.code ({ cls := "ScanDeskModel", name := "add", desc := "()I" } : Jvm.MethodName) prog_3_method_3_code (5 : Nat) (Option.some Jvm.ClassFile.FieldType.int)) ∈ lw_all := lw_g (lw_at lw_m2 52 rfl) rfl
theorem q310 : (Jvm.Cond.instanceMethod ({ cls := "ScanDeskModel", name := "build", desc := "()I" } : Jvm.MethodName)) ∈ lw_all := lw_g (lw_at lw_m2 54 rfl) rfl
theorem q311 : (Jvm.Cond.selects "ScanDeskModel" ({ cls := "ScanDeskModel", name := "build", desc := "()I" } : Jvm.MethodName) ({ cls := "ScanDeskModel", name := "build", desc := "()I" } : Jvm.MethodName)) ∈ lw_all := lw_g (lw_at lw_m2 55 rfl) rfl
theorem q312 : (Jvm.Cond.code ({ cls := "ScanDeskModel", name := "build", desc := "()I" } : Jvm.MethodName) prog_3_method_4_code (1 : Nat) (Option.some Jvm.ClassFile.FieldType.int)) ∈ lw_all := lw_g (lw_at lw_m2 56 rfl) rfl
theorem q314 : (Jvm.Cond.instanceMethod ({ cls := "ScanDeskModel", name := "text", desc := "(IIIIII)I" } : Jvm.MethodName)) ∈ lw_all := lw_g (lw_at lw_m2 58 rfl) rfl
theorem q315 : (Jvm.Cond.selects "ScanDeskModel" ({ cls := "ScanDeskModel", name := "text", desc := "(IIIIII)I" } : Jvm.MethodName) ({ cls := "ScanDeskModel", name := "text", desc := "(IIIIII)I" } : Jvm.MethodName)) ∈ lw_all := lw_g (lw_at lw_m2 59 rfl) rfl
theorem q316 : (Jvm.Cond.code ({ cls := "ScanDeskModel", name := "text", desc := "(IIIIII)I" } : Jvm.MethodName) prog_3_method_9_code (10 : Nat) (Option.some Jvm.ClassFile.FieldType.int)) ∈ lw_all := lw_g (lw_at lw_m2 60 rfl) rfl
theorem q317 : (Jvm.Cond.methodLink "ScanDeskModel" (79 : Nat) ({ cls := "ScanDeskModel", name := "come", desc := "(I)V" } : Jvm.MethodName)) ∈ lw_all := lw_g (lw_at lw_m2 61 rfl) rfl
theorem q318 : (Jvm.Cond.privateMethod ({ cls := "ScanDeskModel", name := "come", desc := "(I)V" } : Jvm.MethodName)) ∈ lw_tbl := lw_at lw_m2 62 rfl
theorem q319 : (Jvm.Cond.instanceMethod ({ cls := "ScanDeskModel", name := "come", desc := "(I)V" } : Jvm.MethodName)) ∈ lw_all := lw_g (lw_at lw_m2 63 rfl) rfl
theorem q320 : (Jvm.Cond.code ({ cls := "ScanDeskModel", name := "come", desc := "(I)V" } : Jvm.MethodName) prog_3_method_7_code (4 : Nat) (Option.none : Option Jvm.ClassFile.FieldType)) ∈ lw_all := lw_g (lw_at lw_m2 64 rfl) rfl
theorem q321 : (Jvm.Cond.methodLink "ScanDeskModel" (65 : Nat) ({ cls := "ScanDeskModel", name := "isPrefix", desc := "(I)Z" } : Jvm.MethodName)) ∈ lw_all := lw_g (lw_at lw_m2 65 rfl) rfl
theorem q322 : (Jvm.Cond.privateMethod ({ cls := "ScanDeskModel", name := "isPrefix", desc := "(I)Z" } : Jvm.MethodName)) ∈ lw_tbl := lw_at lw_m2 66 rfl
theorem q323 : (Jvm.Cond.instanceMethod ({ cls := "ScanDeskModel", name := "isPrefix", desc := "(I)Z" } : Jvm.MethodName)) ∈ lw_all := lw_g (lw_at lw_m2 67 rfl) rfl
theorem q324 : (Jvm.Cond.code ({ cls := "ScanDeskModel", name := "isPrefix", desc := "(I)Z" } : Jvm.MethodName) prog_3_method_5_code (5 : Nat) (Option.some Jvm.ClassFile.FieldType.boolean)) ∈ lw_all := lw_g (lw_at lw_m2 68 rfl) rfl
theorem q325 : (Jvm.Cond.methodLink "ScanDeskModel" (69 : Nat) ({ cls := "ScanDeskModel", name := "shorter", desc := "(I)I" } : Jvm.MethodName)) ∈ lw_all := lw_g (lw_at lw_m2 69 rfl) rfl
theorem q326 : (Jvm.Cond.privateMethod ({ cls := "ScanDeskModel", name := "shorter", desc := "(I)I" } : Jvm.MethodName)) ∈ lw_tbl := lw_at lw_m2 70 rfl
theorem q327 : (Jvm.Cond.instanceMethod ({ cls := "ScanDeskModel", name := "shorter", desc := "(I)I" } : Jvm.MethodName)) ∈ lw_all := lw_g (lw_at lw_m2 71 rfl) rfl
theorem q328 : (Jvm.Cond.code ({ cls := "ScanDeskModel", name := "shorter", desc := "(I)I" } : Jvm.MethodName) prog_3_method_8_code (6 : Nat) (Option.some Jvm.ClassFile.FieldType.int)) ∈ lw_all := lw_g (lw_at lw_m2 72 rfl) rfl
theorem q329 : (Jvm.Cond.methodLink "ScanDeskModel" (73 : Nat) ({ cls := "ScanDeskModel", name := "isWord", desc := "(I)Z" } : Jvm.MethodName)) ∈ lw_all := lw_g (lw_at lw_m2 73 rfl) rfl
theorem q330 : (Jvm.Cond.privateMethod ({ cls := "ScanDeskModel", name := "isWord", desc := "(I)Z" } : Jvm.MethodName)) ∈ lw_tbl := lw_at lw_m2 74 rfl
theorem q331 : (Jvm.Cond.instanceMethod ({ cls := "ScanDeskModel", name := "isWord", desc := "(I)Z" } : Jvm.MethodName)) ∈ lw_all := lw_g (lw_at lw_m2 75 rfl) rfl
theorem q332 : (Jvm.Cond.code ({ cls := "ScanDeskModel", name := "isWord", desc := "(I)Z" } : Jvm.MethodName) prog_3_method_6_code (4 : Nat) (Option.some Jvm.ClassFile.FieldType.boolean)) ∈ lw_all := lw_g (lw_at lw_m2 76 rfl) rfl
theorem q334 : (Jvm.Cond.instanceMethod ({ cls := "ScanDeskModel", name := "skip", desc := "(J)Z" } : Jvm.MethodName)) ∈ lw_all := lw_g (lw_at lw_m2 78 rfl) rfl
theorem q335 : (Jvm.Cond.selects "ScanDeskModel" ({ cls := "ScanDeskModel", name := "skip", desc := "(J)Z" } : Jvm.MethodName) ({ cls := "ScanDeskModel", name := "skip", desc := "(J)Z" } : Jvm.MethodName)) ∈ lw_all := lw_g (lw_at lw_m2 79 rfl) rfl
theorem q336 : (Jvm.Cond.code ({ cls := "ScanDeskModel", name := "skip", desc := "(J)Z" } : Jvm.MethodName) prog_3_method_10_code (3 : Nat) (Option.some Jvm.ClassFile.FieldType.boolean)) ∈ lw_all := lw_g (lw_at lw_m2 80 rfl) rfl
theorem q337 : (Jvm.Cond.constantLong "ScanDeskModel" (86 : Nat) (4611686018427387904 : Int64)) ∈ lw_all := lw_g (lw_at lw_m2 81 rfl) rfl
theorem q339 : (Jvm.Cond.instanceMethod ({ cls := "ScanDeskModel", name := "place", desc := "()J" } : Jvm.MethodName)) ∈ lw_all := lw_g (lw_at lw_m2 83 rfl) rfl
theorem q340 : (Jvm.Cond.selects "ScanDeskModel" ({ cls := "ScanDeskModel", name := "place", desc := "()J" } : Jvm.MethodName) ({ cls := "ScanDeskModel", name := "place", desc := "()J" } : Jvm.MethodName)) ∈ lw_all := lw_g (lw_at lw_m2 84 rfl) rfl
theorem q341 : (Jvm.Cond.code ({ cls := "ScanDeskModel", name := "place", desc := "()J" } : Jvm.MethodName) prog_3_method_11_code (1 : Nat) (Option.some Jvm.ClassFile.FieldType.long)) ∈ lw_all := lw_g (lw_at lw_m2 85 rfl) rfl
theorem q343 : (Jvm.Cond.instanceMethod ({ cls := "ScanDeskModel", name := "found", desc := "()I" } : Jvm.MethodName)) ∈ lw_all := lw_g (lw_at lw_m2 87 rfl) rfl
theorem q344 : (Jvm.Cond.selects "ScanDeskModel" ({ cls := "ScanDeskModel", name := "found", desc := "()I" } : Jvm.MethodName) ({ cls := "ScanDeskModel", name := "found", desc := "()I" } : Jvm.MethodName)) ∈ lw_all := lw_g (lw_at lw_m2 88 rfl) rfl
theorem q345 : (Jvm.Cond.code ({ cls := "ScanDeskModel", name := "found", desc := "()I" } : Jvm.MethodName) prog_3_method_12_code (1 : Nat) (Option.some Jvm.ClassFile.FieldType.int)) ∈ lw_all := lw_g (lw_at lw_m2 89 rfl) rfl
theorem q347 : (Jvm.Cond.instanceMethod ({ cls := "ScanDeskModel", name := "word", desc := "(I)I" } : Jvm.MethodName)) ∈ lw_all := lw_g (lw_at lw_m2 91 rfl) rfl
theorem q348 : (Jvm.Cond.selects "ScanDeskModel" ({ cls := "ScanDeskModel", name := "word", desc := "(I)I" } : Jvm.MethodName) ({ cls := "ScanDeskModel", name := "word", desc := "(I)I" } : Jvm.MethodName)) ∈ lw_all := lw_g (lw_at lw_m2 92 rfl) rfl
theorem q349 : (Jvm.Cond.code ({ cls := "ScanDeskModel", name := "word", desc := "(I)I" } : Jvm.MethodName) prog_3_method_14_code (2 : Nat) (Option.some Jvm.ClassFile.FieldType.int)) ∈ lw_all := lw_g (lw_at lw_m2 93 rfl) rfl
theorem q350 : (Jvm.Cond.methodLink "ScanDeskModel" (88 : Nat) ({ cls := "ScanDeskModel", name := "isFound", desc := "(I)Z" } : Jvm.MethodName)) ∈ lw_all := lw_g (lw_at lw_m2 94 rfl) rfl
theorem q351 : (Jvm.Cond.privateMethod ({ cls := "ScanDeskModel", name := "isFound", desc := "(I)Z" } : Jvm.MethodName)) ∈ lw_tbl := lw_at lw_m2 95 rfl
theorem q352 : (Jvm.Cond.instanceMethod ({ cls := "ScanDeskModel", name := "isFound", desc := "(I)Z" } : Jvm.MethodName)) ∈ lw_all := lw_g (lw_at lw_m2 96 rfl) rfl
theorem q353 : (Jvm.Cond.code ({ cls := "ScanDeskModel", name := "isFound", desc := "(I)Z" } : Jvm.MethodName) prog_3_method_13_code (2 : Nat) (Option.some Jvm.ClassFile.FieldType.boolean)) ∈ lw_all := lw_g (lw_at lw_m2 97 rfl) rfl
theorem q355 : (Jvm.Cond.instanceMethod ({ cls := "ScanDeskModel", name := "end", desc := "(I)J" } : Jvm.MethodName)) ∈ lw_all := lw_g (lw_at lw_m2 99 rfl) rfl
theorem q356 : (Jvm.Cond.selects "ScanDeskModel" ({ cls := "ScanDeskModel", name := "end", desc := "(I)J" } : Jvm.MethodName) ({ cls := "ScanDeskModel", name := "end", desc := "(I)J" } : Jvm.MethodName)) ∈ lw_all := lw_g (lw_at lw_m2 100 rfl) rfl
theorem q357 : (Jvm.Cond.code ({ cls := "ScanDeskModel", name := "end", desc := "(I)J" } : Jvm.MethodName) prog_3_method_15_code (2 : Nat) (Option.some Jvm.ClassFile.FieldType.long)) ∈ lw_all := lw_g (lw_at lw_m2 101 rfl) rfl
theorem q358 : (Jvm.Cond.constantLong "ScanDeskModel" (91 : Nat) (-1 : Int64)) ∈ lw_all := lw_g (lw_at lw_m2 102 rfl) rfl
theorem q360 : (Jvm.Cond.instanceMethod ({ cls := "ScanDeskModel", name := "count", desc := "(I)I" } : Jvm.MethodName)) ∈ lw_all := lw_g (lw_at lw_m2 104 rfl) rfl
theorem q361 : (Jvm.Cond.selects "ScanDeskModel" ({ cls := "ScanDeskModel", name := "count", desc := "(I)I" } : Jvm.MethodName) ({ cls := "ScanDeskModel", name := "count", desc := "(I)I" } : Jvm.MethodName)) ∈ lw_all := lw_g (lw_at lw_m2 105 rfl) rfl
theorem q362 : (Jvm.Cond.code ({ cls := "ScanDeskModel", name := "count", desc := "(I)I" } : Jvm.MethodName) prog_3_method_16_code (4 : Nat) (Option.some Jvm.ClassFile.FieldType.int)) ∈ lw_all := lw_g (lw_at lw_m2 106 rfl) rfl
theorem q364 : (Jvm.Cond.instanceMethod ({ cls := "ScanDeskModel", name := "lines", desc := "()I" } : Jvm.MethodName)) ∈ lw_all := lw_g (lw_at lw_m2 108 rfl) rfl
theorem q365 : (Jvm.Cond.selects "ScanDeskModel" ({ cls := "ScanDeskModel", name := "lines", desc := "()I" } : Jvm.MethodName) ({ cls := "ScanDeskModel", name := "lines", desc := "()I" } : Jvm.MethodName)) ∈ lw_all := lw_g (lw_at lw_m2 109 rfl) rfl
theorem q366 : (Jvm.Cond.code ({ cls := "ScanDeskModel", name := "lines", desc := "()I" } : Jvm.MethodName) prog_3_method_17_code (3 : Nat) (Option.some Jvm.ClassFile.FieldType.int)) ∈ lw_all := lw_g (lw_at lw_m2 110 rfl) rfl
theorem q368 : (Jvm.Cond.instanceMethod ({ cls := "ScanDeskModel", name := "line", desc := "(I)I" } : Jvm.MethodName)) ∈ lw_all := lw_g (lw_at lw_m2 112 rfl) rfl
theorem q369 : (Jvm.Cond.selects "ScanDeskModel" ({ cls := "ScanDeskModel", name := "line", desc := "(I)I" } : Jvm.MethodName) ({ cls := "ScanDeskModel", name := "line", desc := "(I)I" } : Jvm.MethodName)) ∈ lw_all := lw_g (lw_at lw_m2 113 rfl) rfl
theorem q370 : (Jvm.Cond.code ({ cls := "ScanDeskModel", name := "line", desc := "(I)I" } : Jvm.MethodName) prog_3_method_18_code (4 : Nat) (Option.some Jvm.ClassFile.FieldType.int)) ∈ lw_all := lw_g (lw_at lw_m2 114 rfl) rfl
theorem q372 : (Jvm.Cond.instanceMethod ({ cls := "ScanDeskModel", name := "steps", desc := "()J" } : Jvm.MethodName)) ∈ lw_all := lw_g (lw_at lw_m2 116 rfl) rfl
theorem q373 : (Jvm.Cond.selects "ScanDeskModel" ({ cls := "ScanDeskModel", name := "steps", desc := "()J" } : Jvm.MethodName) ({ cls := "ScanDeskModel", name := "steps", desc := "()J" } : Jvm.MethodName)) ∈ lw_all := lw_g (lw_at lw_m2 117 rfl) rfl
theorem q374 : (Jvm.Cond.code ({ cls := "ScanDeskModel", name := "steps", desc := "()J" } : Jvm.MethodName) prog_3_method_19_code (1 : Nat) (Option.some Jvm.ClassFile.FieldType.long)) ∈ lw_all := lw_g (lw_at lw_m2 118 rfl) rfl
theorem q376 : (Jvm.Cond.instanceMethod ({ cls := "ScanDeskModel", name := "state", desc := "()I" } : Jvm.MethodName)) ∈ lw_all := lw_g (lw_at lw_m2 120 rfl) rfl
theorem q377 : (Jvm.Cond.selects "ScanDeskModel" ({ cls := "ScanDeskModel", name := "state", desc := "()I" } : Jvm.MethodName) ({ cls := "ScanDeskModel", name := "state", desc := "()I" } : Jvm.MethodName)) ∈ lw_all := lw_g (lw_at lw_m2 121 rfl) rfl
theorem q378 : (Jvm.Cond.code ({ cls := "ScanDeskModel", name := "state", desc := "()I" } : Jvm.MethodName) prog_3_method_20_code (1 : Nat) (Option.some Jvm.ClassFile.FieldType.int)) ∈ lw_all := lw_g (lw_at lw_m2 122 rfl) rfl
theorem q380 : (Jvm.Cond.instanceMethod ({ cls := "ScanDeskModel", name := "pick", desc := "()I" } : Jvm.MethodName)) ∈ lw_all := lw_g (lw_at lw_m2 124 rfl) rfl
theorem q381 : (Jvm.Cond.selects "ScanDeskModel" ({ cls := "ScanDeskModel", name := "pick", desc := "()I" } : Jvm.MethodName) ({ cls := "ScanDeskModel", name := "pick", desc := "()I" } : Jvm.MethodName)) ∈ lw_all := lw_g (lw_at lw_m2 125 rfl) rfl
theorem q382 : (Jvm.Cond.code ({ cls := "ScanDeskModel", name := "pick", desc := "()I" } : Jvm.MethodName) prog_3_method_22_code (7 : Nat) (Option.some Jvm.ClassFile.FieldType.int)) ∈ lw_all := lw_g (lw_at lw_m2 126 rfl) rfl
theorem q383 : (Jvm.Cond.methodLink "ScanDeskModel" (96 : Nat) ({ cls := "ScanDeskModel", name := "begin", desc := "(I)J" } : Jvm.MethodName)) ∈ lw_all := lw_g (lw_at lw_m2 127 rfl) rfl
theorem q384 : (Jvm.Cond.privateMethod ({ cls := "ScanDeskModel", name := "begin", desc := "(I)J" } : Jvm.MethodName)) ∈ lw_tbl := lw_at lw_m2 128 rfl
theorem q385 : (Jvm.Cond.instanceMethod ({ cls := "ScanDeskModel", name := "begin", desc := "(I)J" } : Jvm.MethodName)) ∈ lw_all := lw_g (lw_at lw_m2 129 rfl) rfl
theorem q386 : (Jvm.Cond.code ({ cls := "ScanDeskModel", name := "begin", desc := "(I)J" } : Jvm.MethodName) prog_3_method_21_code (2 : Nat) (Option.some Jvm.ClassFile.FieldType.long)) ∈ lw_all := lw_g (lw_at lw_m2 130 rfl) rfl
theorem q388 : (Jvm.Cond.instanceMethod ({ cls := "ScanDeskModel", name := "picked", desc := "(I)I" } : Jvm.MethodName)) ∈ lw_all := lw_g (lw_at lw_m2 132 rfl) rfl
theorem q389 : (Jvm.Cond.selects "ScanDeskModel" ({ cls := "ScanDeskModel", name := "picked", desc := "(I)I" } : Jvm.MethodName) ({ cls := "ScanDeskModel", name := "picked", desc := "(I)I" } : Jvm.MethodName)) ∈ lw_all := lw_g (lw_at lw_m2 133 rfl) rfl
theorem q390 : (Jvm.Cond.code ({ cls := "ScanDeskModel", name := "picked", desc := "(I)I" } : Jvm.MethodName) prog_3_method_23_code (2 : Nat) (Option.some Jvm.ClassFile.FieldType.int)) ∈ lw_all := lw_g (lw_at lw_m2 134 rfl) rfl
theorem in_X2 : ∀ w ∈ wsX20, w ∈ lw_all := lw_in wsX20 [260, 262, 264, 266, 268, 270, 272, 274, 276, 278, 280, 282, 284, 286, 288, 290, 292, 294, 296, 298] (by decide +kernel) (by decide +kernel)
end
section
/-! java/lang/Math -/
set_option maxRecDepth 100000
def RJ0 : String := "java/lang/Math"
abbrev cJ0_min : ByteArray := prog_4_method_69_code
def yJ0_min : MethodName := ⟨RJ0, "min", "(II)I"⟩
theorem dJ0_min_0 : decode cJ0_min 0 = .ok (.iload_n 0, 1) := by decide +kernel
theorem dJ0_min_1 : decode cJ0_min 1 = .ok (.iload_n 1, 1) := by decide +kernel
theorem dJ0_min_2 : decode cJ0_min 2 = .ok (.if_icmp .gt 7, 3) := by decide +kernel
theorem dJ0_min_5 : decode cJ0_min 5 = .ok (.iload_n 0, 1) := by decide +kernel
theorem dJ0_min_6 : decode cJ0_min 6 = .ok (.goto 4, 3) := by decide +kernel
theorem dJ0_min_9 : decode cJ0_min 9 = .ok (.iload_n 1, 1) := by decide +kernel
theorem dJ0_min_10 : decode cJ0_min 10 = .ok (.ireturn, 1) := by decide +kernel
abbrev cJ0_max : ByteArray := prog_4_method_65_code
def yJ0_max : MethodName := ⟨RJ0, "max", "(II)I"⟩
theorem dJ0_max_0 : decode cJ0_max 0 = .ok (.iload_n 0, 1) := by decide +kernel
theorem dJ0_max_1 : decode cJ0_max 1 = .ok (.iload_n 1, 1) := by decide +kernel
theorem dJ0_max_2 : decode cJ0_max 2 = .ok (.if_icmp .lt 7, 3) := by decide +kernel
theorem dJ0_max_5 : decode cJ0_max 5 = .ok (.iload_n 0, 1) := by decide +kernel
theorem dJ0_max_6 : decode cJ0_max 6 = .ok (.goto 4, 3) := by decide +kernel
theorem dJ0_max_9 : decode cJ0_max 9 = .ok (.iload_n 1, 1) := by decide +kernel
theorem dJ0_max_10 : decode cJ0_max 10 = .ok (.ireturn, 1) := by decide +kernel
theorem q18 : (Jvm.Cond.initialized "java/lang/Math") ∈ lw_all := lw_g (lw_at lw_m1 2 rfl) rfl
theorem q29 : (Jvm.Cond.static ({ cls := "java/lang/Math", name := "min", desc := "(II)I" } : Jvm.MethodName)) ∈ lw_all := lw_g (lw_at lw_m1 13 rfl) rfl
theorem q30 : (Jvm.Cond.code ({ cls := "java/lang/Math", name := "min", desc := "(II)I" } : Jvm.MethodName) prog_4_method_69_code (2 : Nat) (Option.some Jvm.ClassFile.FieldType.int)) ∈ lw_all := lw_g (lw_at lw_m1 14 rfl) rfl
theorem q32 : (Jvm.Cond.static ({ cls := "java/lang/Math", name := "max", desc := "(II)I" } : Jvm.MethodName)) ∈ lw_all := lw_g (lw_at lw_m1 16 rfl) rfl
theorem q33 : (Jvm.Cond.code ({ cls := "java/lang/Math", name := "max", desc := "(II)I" } : Jvm.MethodName) prog_4_method_65_code (2 : Nat) (Option.some Jvm.ClassFile.FieldType.int)) ∈ lw_all := lw_g (lw_at lw_m1 17 rfl) rfl
/-! java/lang/Object -/
set_option maxRecDepth 100000
def RJ1 : String := "java/lang/Object"
abbrev cJ1_init : ByteArray := object_method_1_code
def yJ1_init : MethodName := ⟨RJ1, "<init>", "()V"⟩
theorem dJ1_init_0 : decode cJ1_init 0 = .ok (.return_, 1) := by decide +kernel
theorem q26 : (Jvm.Cond.instanceMethod ({ cls := "java/lang/Object", name := "<init>", desc := "()V" } : Jvm.MethodName)) ∈ lw_all := lw_g (lw_at lw_m1 10 rfl) rfl
theorem q27 : (Jvm.Cond.code ({ cls := "java/lang/Object", name := "<init>", desc := "()V" } : Jvm.MethodName) object_method_1_code (1 : Nat) (Option.none : Option Jvm.ClassFile.FieldType)) ∈ lw_all := lw_g (lw_at lw_m1 11 rfl) rfl
/-! ScanDeskLaw -/
set_option maxRecDepth 100000
def RX0 : String := "ScanDeskLaw"
abbrev cX0_cell : ByteArray := method_2_code
def yX0_cell : MethodName := ⟨RX0, "cell", "([II)I"⟩
theorem dX0_cell_0 : decode cX0_cell 0 = .ok (.iload_n 1, 1) := by decide +kernel
theorem dX0_cell_1 : decode cX0_cell 1 = .ok (.aload_n 0, 1) := by decide +kernel
theorem dX0_cell_2 : decode cX0_cell 2 = .ok (.arraylength, 1) := by decide +kernel
theorem dX0_cell_3 : decode cX0_cell 3 = .ok (.if_icmp .ge 9, 3) := by decide +kernel
theorem dX0_cell_6 : decode cX0_cell 6 = .ok (.aload_n 0, 1) := by decide +kernel
theorem dX0_cell_7 : decode cX0_cell 7 = .ok (.iload_n 1, 1) := by decide +kernel
theorem dX0_cell_8 : decode cX0_cell 8 = .ok (.iaload, 1) := by decide +kernel
theorem dX0_cell_9 : decode cX0_cell 9 = .ok (.goto 4, 3) := by decide +kernel
theorem dX0_cell_12 : decode cX0_cell 12 = .ok (.iconst 0, 1) := by decide +kernel
theorem dX0_cell_13 : decode cX0_cell 13 = .ok (.ireturn, 1) := by decide +kernel
theorem q16 : (Jvm.Cond.initialized "ScanDeskLaw") ∈ lw_all := lw_g (lw_at lw_m1 0 rfl) rfl
theorem q20 : (Jvm.Cond.classLink "ScanDeskLaw" (7 : Nat) "ScanDesk") ∈ lw_all := lw_g (lw_at lw_m1 4 rfl) rfl
theorem q22 : (Jvm.Cond.methodLink "ScanDeskLaw" (15 : Nat) ({ cls := "ScanDesk", name := "<init>", desc := "(I)V" } : Jvm.MethodName)) ∈ lw_all := lw_g (lw_at lw_m1 6 rfl) rfl
theorem q128 : (Jvm.Cond.methodLink "ScanDeskLaw" (21 : Nat) ({ cls := "ScanDesk", name := "put", desc := "(I)I" } : Jvm.MethodName)) ∈ lw_all := lw_g (lw_at lw_m1 112 rfl) rfl
theorem q132 : (Jvm.Cond.methodLink "ScanDeskLaw" (26 : Nat) ({ cls := "ScanDesk", name := "add", desc := "()I" } : Jvm.MethodName)) ∈ lw_all := lw_g (lw_at lw_m1 116 rfl) rfl
theorem q140 : (Jvm.Cond.methodLink "ScanDeskLaw" (31 : Nat) ({ cls := "ScanDesk", name := "build", desc := "()I" } : Jvm.MethodName)) ∈ lw_all := lw_g (lw_at lw_m1 124 rfl) rfl
theorem q148 : (Jvm.Cond.methodLink "ScanDeskLaw" (35 : Nat) ({ cls := "ScanDesk", name := "text", desc := "(IIIIII)I" } : Jvm.MethodName)) ∈ lw_all := lw_g (lw_at lw_m1 132 rfl) rfl
theorem q164 : (Jvm.Cond.methodLink "ScanDeskLaw" (42 : Nat) ({ cls := "ScanDesk", name := "skip", desc := "(J)Z" } : Jvm.MethodName)) ∈ lw_all := lw_g (lw_at lw_m1 148 rfl) rfl
theorem q169 : (Jvm.Cond.methodLink "ScanDeskLaw" (47 : Nat) ({ cls := "ScanDesk", name := "place", desc := "()J" } : Jvm.MethodName)) ∈ lw_all := lw_g (lw_at lw_m1 153 rfl) rfl
theorem q173 : (Jvm.Cond.methodLink "ScanDeskLaw" (52 : Nat) ({ cls := "ScanDesk", name := "found", desc := "()I" } : Jvm.MethodName)) ∈ lw_all := lw_g (lw_at lw_m1 157 rfl) rfl
theorem q177 : (Jvm.Cond.methodLink "ScanDeskLaw" (56 : Nat) ({ cls := "ScanDesk", name := "word", desc := "(I)I" } : Jvm.MethodName)) ∈ lw_all := lw_g (lw_at lw_m1 161 rfl) rfl
theorem q185 : (Jvm.Cond.methodLink "ScanDeskLaw" (60 : Nat) ({ cls := "ScanDesk", name := "end", desc := "(I)J" } : Jvm.MethodName)) ∈ lw_all := lw_g (lw_at lw_m1 169 rfl) rfl
theorem q190 : (Jvm.Cond.methodLink "ScanDeskLaw" (65 : Nat) ({ cls := "ScanDesk", name := "count", desc := "(I)I" } : Jvm.MethodName)) ∈ lw_all := lw_g (lw_at lw_m1 174 rfl) rfl
theorem q194 : (Jvm.Cond.methodLink "ScanDeskLaw" (69 : Nat) ({ cls := "ScanDesk", name := "lines", desc := "()I" } : Jvm.MethodName)) ∈ lw_all := lw_g (lw_at lw_m1 178 rfl) rfl
theorem q198 : (Jvm.Cond.methodLink "ScanDeskLaw" (73 : Nat) ({ cls := "ScanDesk", name := "line", desc := "(I)I" } : Jvm.MethodName)) ∈ lw_all := lw_g (lw_at lw_m1 182 rfl) rfl
theorem q202 : (Jvm.Cond.methodLink "ScanDeskLaw" (77 : Nat) ({ cls := "ScanDesk", name := "steps", desc := "()J" } : Jvm.MethodName)) ∈ lw_all := lw_g (lw_at lw_m1 186 rfl) rfl
theorem q206 : (Jvm.Cond.methodLink "ScanDeskLaw" (81 : Nat) ({ cls := "ScanDesk", name := "state", desc := "()I" } : Jvm.MethodName)) ∈ lw_all := lw_g (lw_at lw_m1 190 rfl) rfl
theorem q210 : (Jvm.Cond.methodLink "ScanDeskLaw" (85 : Nat) ({ cls := "ScanDesk", name := "pick", desc := "()I" } : Jvm.MethodName)) ∈ lw_all := lw_g (lw_at lw_m1 194 rfl) rfl
theorem q227 : (Jvm.Cond.methodLink "ScanDeskLaw" (89 : Nat) ({ cls := "ScanDesk", name := "picked", desc := "(I)I" } : Jvm.MethodName)) ∈ lw_all := lw_g (lw_at lw_m1 211 rfl) rfl
theorem q231 : (Jvm.Cond.methodLink "ScanDeskLaw" (9 : Nat) ({ cls := "ScanDeskLaw", name := "cell", desc := "([II)I" } : Jvm.MethodName)) ∈ lw_all := lw_g (lw_at lw_m1 215 rfl) rfl
theorem q232 : (Jvm.Cond.static ({ cls := "ScanDeskLaw", name := "cell", desc := "([II)I" } : Jvm.MethodName)) ∈ lw_all := lw_g (lw_at lw_m1 216 rfl) rfl
theorem q233 : (Jvm.Cond.code ({ cls := "ScanDeskLaw", name := "cell", desc := "([II)I" } : Jvm.MethodName) method_2_code (2 : Nat) (Option.some Jvm.ClassFile.FieldType.int)) ∈ lw_all := lw_g (lw_at lw_m1 217 rfl) rfl
theorem q234 : (Jvm.Cond.classLink "ScanDeskLaw" (18 : Nat) "ScanDeskModel") ∈ lw_all := lw_g (lw_at lw_m1 218 rfl) rfl
theorem q236 : (Jvm.Cond.methodLink "ScanDeskLaw" (20 : Nat) ({ cls := "ScanDeskModel", name := "<init>", desc := "(I)V" } : Jvm.MethodName)) ∈ lw_all := lw_g (lw_at lw_m1 220 rfl) rfl
theorem q301 : (Jvm.Cond.methodLink "ScanDeskLaw" (25 : Nat) ({ cls := "ScanDeskModel", name := "put", desc := "(I)I" } : Jvm.MethodName)) ∈ lw_all := lw_g (lw_at lw_m2 45 rfl) rfl
theorem q305 : (Jvm.Cond.methodLink "ScanDeskLaw" (30 : Nat) ({ cls := "ScanDeskModel", name := "add", desc := "()I" } : Jvm.MethodName)) ∈ lw_all := lw_g (lw_at lw_m2 49 rfl) rfl
theorem q309 : (Jvm.Cond.methodLink "ScanDeskLaw" (34 : Nat) ({ cls := "ScanDeskModel", name := "build", desc := "()I" } : Jvm.MethodName)) ∈ lw_all := lw_g (lw_at lw_m2 53 rfl) rfl
theorem q313 : (Jvm.Cond.methodLink "ScanDeskLaw" (39 : Nat) ({ cls := "ScanDeskModel", name := "text", desc := "(IIIIII)I" } : Jvm.MethodName)) ∈ lw_all := lw_g (lw_at lw_m2 57 rfl) rfl
theorem q333 : (Jvm.Cond.methodLink "ScanDeskLaw" (46 : Nat) ({ cls := "ScanDeskModel", name := "skip", desc := "(J)Z" } : Jvm.MethodName)) ∈ lw_all := lw_g (lw_at lw_m2 77 rfl) rfl
theorem q338 : (Jvm.Cond.methodLink "ScanDeskLaw" (51 : Nat) ({ cls := "ScanDeskModel", name := "place", desc := "()J" } : Jvm.MethodName)) ∈ lw_all := lw_g (lw_at lw_m2 82 rfl) rfl
theorem q342 : (Jvm.Cond.methodLink "ScanDeskLaw" (55 : Nat) ({ cls := "ScanDeskModel", name := "found", desc := "()I" } : Jvm.MethodName)) ∈ lw_all := lw_g (lw_at lw_m2 86 rfl) rfl
theorem q346 : (Jvm.Cond.methodLink "ScanDeskLaw" (59 : Nat) ({ cls := "ScanDeskModel", name := "word", desc := "(I)I" } : Jvm.MethodName)) ∈ lw_all := lw_g (lw_at lw_m2 90 rfl) rfl
theorem q354 : (Jvm.Cond.methodLink "ScanDeskLaw" (64 : Nat) ({ cls := "ScanDeskModel", name := "end", desc := "(I)J" } : Jvm.MethodName)) ∈ lw_all := lw_g (lw_at lw_m2 98 rfl) rfl
theorem q359 : (Jvm.Cond.methodLink "ScanDeskLaw" (68 : Nat) ({ cls := "ScanDeskModel", name := "count", desc := "(I)I" } : Jvm.MethodName)) ∈ lw_all := lw_g (lw_at lw_m2 103 rfl) rfl
theorem q363 : (Jvm.Cond.methodLink "ScanDeskLaw" (72 : Nat) ({ cls := "ScanDeskModel", name := "lines", desc := "()I" } : Jvm.MethodName)) ∈ lw_all := lw_g (lw_at lw_m2 107 rfl) rfl
theorem q367 : (Jvm.Cond.methodLink "ScanDeskLaw" (76 : Nat) ({ cls := "ScanDeskModel", name := "line", desc := "(I)I" } : Jvm.MethodName)) ∈ lw_all := lw_g (lw_at lw_m2 111 rfl) rfl
theorem q371 : (Jvm.Cond.methodLink "ScanDeskLaw" (80 : Nat) ({ cls := "ScanDeskModel", name := "steps", desc := "()J" } : Jvm.MethodName)) ∈ lw_all := lw_g (lw_at lw_m2 115 rfl) rfl
theorem q375 : (Jvm.Cond.methodLink "ScanDeskLaw" (84 : Nat) ({ cls := "ScanDeskModel", name := "state", desc := "()I" } : Jvm.MethodName)) ∈ lw_all := lw_g (lw_at lw_m2 119 rfl) rfl
theorem q379 : (Jvm.Cond.methodLink "ScanDeskLaw" (88 : Nat) ({ cls := "ScanDeskModel", name := "pick", desc := "()I" } : Jvm.MethodName)) ∈ lw_all := lw_g (lw_at lw_m2 123 rfl) rfl
theorem q387 : (Jvm.Cond.methodLink "ScanDeskLaw" (92 : Nat) ({ cls := "ScanDeskModel", name := "picked", desc := "(I)I" } : Jvm.MethodName)) ∈ lw_all := lw_g (lw_at lw_m2 131 rfl) rfl
theorem q391 : (Jvm.Cond.constantLong "ScanDeskLaw" (40 : Nat) (4294967295 : Int64)) ∈ lw_all := lw_g (lw_at lw_m2 135 rfl) rfl
theorem q126 : (Jvm.Cond.arrayClass Jvm.ClassFile.FieldType.int) ∈ lw_all := lw_g (lw_at lw_m1 110 rfl) rfl
set_option maxRecDepth 100000
theorem q127 : (Jvm.Cond.arrayClass Jvm.ClassFile.FieldType.long) ∈ lw_all := lw_g (lw_at lw_m1 111 rfl) rfl
/-! the law's own entry -/
set_option maxRecDepth 100000
abbrev cL_law : ByteArray := code
theorem dL_law_0 : decode cL_law 0 = .ok (.new 7, 3) := by decide +kernel
theorem dL_law_3 : decode cL_law 3 = .ok (.dup, 1) := by decide +kernel
theorem dL_law_4 : decode cL_law 4 = .ok (.aload_n 0, 1) := by decide +kernel
theorem dL_law_5 : decode cL_law 5 = .ok (.iconst 0, 1) := by decide +kernel
theorem dL_law_6 : decode cL_law 6 = .ok (.invokestatic 9, 3) := by decide +kernel
theorem dL_law_9 : decode cL_law 9 = .ok (.invokespecial 15, 3) := by decide +kernel
theorem dL_law_12 : decode cL_law 12 = .ok (.astore_n 1, 1) := by decide +kernel
theorem dL_law_13 : decode cL_law 13 = .ok (.new 18, 3) := by decide +kernel
theorem dL_law_16 : decode cL_law 16 = .ok (.dup, 1) := by decide +kernel
theorem dL_law_17 : decode cL_law 17 = .ok (.aload_n 0, 1) := by decide +kernel
theorem dL_law_18 : decode cL_law 18 = .ok (.iconst 0, 1) := by decide +kernel
theorem dL_law_19 : decode cL_law 19 = .ok (.invokestatic 9, 3) := by decide +kernel
theorem dL_law_22 : decode cL_law 22 = .ok (.invokespecial 20, 3) := by decide +kernel
theorem dL_law_25 : decode cL_law 25 = .ok (.astore_n 2, 1) := by decide +kernel
theorem dL_law_26 : decode cL_law 26 = .ok (.iconst 1, 1) := by decide +kernel
theorem dL_law_27 : decode cL_law 27 = .ok (.istore_n 3, 1) := by decide +kernel
theorem dL_law_28 : decode cL_law 28 = .ok (.iload_n 3, 1) := by decide +kernel
theorem dL_law_29 : decode cL_law 29 = .ok (.aload_n 0, 1) := by decide +kernel
theorem dL_law_30 : decode cL_law 30 = .ok (.arraylength, 1) := by decide +kernel
theorem dL_law_31 : decode cL_law 31 = .ok (.bipush 7, 2) := by decide +kernel
theorem dL_law_33 : decode cL_law 33 = .ok (.isub, 1) := by decide +kernel
theorem dL_law_34 : decode cL_law 34 = .ok (.if_icmp .gt 465, 3) := by decide +kernel
theorem dL_law_37 : decode cL_law 37 = .ok (.aload_n 0, 1) := by decide +kernel
theorem dL_law_38 : decode cL_law 38 = .ok (.iload_n 3, 1) := by decide +kernel
theorem dL_law_39 : decode cL_law 39 = .ok (.iaload, 1) := by decide +kernel
theorem dL_law_40 : decode cL_law 40 = .ok (.bipush 15, 2) := by decide +kernel
theorem dL_law_42 : decode cL_law 42 = .ok (.iand, 1) := by decide +kernel
theorem dL_law_43 : decode cL_law 43 = .ok (.tableswitch 450 0 15 #[77, 100, 113, 126, 201, 254, 268, 281, 304, 328, 351, 364, 387, 401, 414, 427], 77) := by decide +kernel
theorem dL_law_120 : decode cL_law 120 = .ok (.aload_n 1, 1) := by decide +kernel
theorem dL_law_121 : decode cL_law 121 = .ok (.aload_n 0, 1) := by decide +kernel
theorem dL_law_122 : decode cL_law 122 = .ok (.iload_n 3, 1) := by decide +kernel
theorem dL_law_123 : decode cL_law 123 = .ok (.iconst 1, 1) := by decide +kernel
theorem dL_law_124 : decode cL_law 124 = .ok (.iadd, 1) := by decide +kernel
theorem dL_law_125 : decode cL_law 125 = .ok (.iaload, 1) := by decide +kernel
theorem dL_law_126 : decode cL_law 126 = .ok (.invokevirtual 21, 3) := by decide +kernel
theorem dL_law_129 : decode cL_law 129 = .ok (.aload_n 2, 1) := by decide +kernel
theorem dL_law_130 : decode cL_law 130 = .ok (.aload_n 0, 1) := by decide +kernel
theorem dL_law_131 : decode cL_law 131 = .ok (.iload_n 3, 1) := by decide +kernel
theorem dL_law_132 : decode cL_law 132 = .ok (.iconst 1, 1) := by decide +kernel
theorem dL_law_133 : decode cL_law 133 = .ok (.iadd, 1) := by decide +kernel
theorem dL_law_134 : decode cL_law 134 = .ok (.iaload, 1) := by decide +kernel
theorem dL_law_135 : decode cL_law 135 = .ok (.invokevirtual 25, 3) := by decide +kernel
theorem dL_law_138 : decode cL_law 138 = .ok (.if_icmp .eq 355, 3) := by decide +kernel
theorem dL_law_141 : decode cL_law 141 = .ok (.iconst 0, 1) := by decide +kernel
theorem dL_law_142 : decode cL_law 142 = .ok (.ireturn, 1) := by decide +kernel
theorem dL_law_143 : decode cL_law 143 = .ok (.aload_n 1, 1) := by decide +kernel
theorem dL_law_144 : decode cL_law 144 = .ok (.invokevirtual 26, 3) := by decide +kernel
theorem dL_law_147 : decode cL_law 147 = .ok (.aload_n 2, 1) := by decide +kernel
theorem dL_law_148 : decode cL_law 148 = .ok (.invokevirtual 30, 3) := by decide +kernel
theorem dL_law_151 : decode cL_law 151 = .ok (.if_icmp .eq 342, 3) := by decide +kernel
theorem dL_law_154 : decode cL_law 154 = .ok (.iconst 0, 1) := by decide +kernel
theorem dL_law_155 : decode cL_law 155 = .ok (.ireturn, 1) := by decide +kernel
theorem dL_law_156 : decode cL_law 156 = .ok (.aload_n 1, 1) := by decide +kernel
theorem dL_law_157 : decode cL_law 157 = .ok (.invokevirtual 31, 3) := by decide +kernel
theorem dL_law_160 : decode cL_law 160 = .ok (.aload_n 2, 1) := by decide +kernel
theorem dL_law_161 : decode cL_law 161 = .ok (.invokevirtual 34, 3) := by decide +kernel
theorem dL_law_164 : decode cL_law 164 = .ok (.if_icmp .eq 329, 3) := by decide +kernel
theorem dL_law_167 : decode cL_law 167 = .ok (.iconst 0, 1) := by decide +kernel
theorem dL_law_168 : decode cL_law 168 = .ok (.ireturn, 1) := by decide +kernel
theorem dL_law_169 : decode cL_law 169 = .ok (.aload_n 1, 1) := by decide +kernel
theorem dL_law_170 : decode cL_law 170 = .ok (.aload_n 0, 1) := by decide +kernel
theorem dL_law_171 : decode cL_law 171 = .ok (.iload_n 3, 1) := by decide +kernel
theorem dL_law_172 : decode cL_law 172 = .ok (.iconst 1, 1) := by decide +kernel
theorem dL_law_173 : decode cL_law 173 = .ok (.iadd, 1) := by decide +kernel
theorem dL_law_174 : decode cL_law 174 = .ok (.iaload, 1) := by decide +kernel
theorem dL_law_175 : decode cL_law 175 = .ok (.aload_n 0, 1) := by decide +kernel
theorem dL_law_176 : decode cL_law 176 = .ok (.iload_n 3, 1) := by decide +kernel
theorem dL_law_177 : decode cL_law 177 = .ok (.iconst 2, 1) := by decide +kernel
theorem dL_law_178 : decode cL_law 178 = .ok (.iadd, 1) := by decide +kernel
theorem dL_law_179 : decode cL_law 179 = .ok (.iaload, 1) := by decide +kernel
theorem dL_law_180 : decode cL_law 180 = .ok (.aload_n 0, 1) := by decide +kernel
theorem dL_law_181 : decode cL_law 181 = .ok (.iload_n 3, 1) := by decide +kernel
theorem dL_law_182 : decode cL_law 182 = .ok (.iconst 3, 1) := by decide +kernel
theorem dL_law_183 : decode cL_law 183 = .ok (.iadd, 1) := by decide +kernel
theorem dL_law_184 : decode cL_law 184 = .ok (.iaload, 1) := by decide +kernel
theorem dL_law_185 : decode cL_law 185 = .ok (.aload_n 0, 1) := by decide +kernel
theorem dL_law_186 : decode cL_law 186 = .ok (.iload_n 3, 1) := by decide +kernel
theorem dL_law_187 : decode cL_law 187 = .ok (.iconst 4, 1) := by decide +kernel
theorem dL_law_188 : decode cL_law 188 = .ok (.iadd, 1) := by decide +kernel
theorem dL_law_189 : decode cL_law 189 = .ok (.iaload, 1) := by decide +kernel
theorem dL_law_190 : decode cL_law 190 = .ok (.aload_n 0, 1) := by decide +kernel
theorem dL_law_191 : decode cL_law 191 = .ok (.iload_n 3, 1) := by decide +kernel
theorem dL_law_192 : decode cL_law 192 = .ok (.iconst 5, 1) := by decide +kernel
theorem dL_law_193 : decode cL_law 193 = .ok (.iadd, 1) := by decide +kernel
theorem dL_law_194 : decode cL_law 194 = .ok (.iaload, 1) := by decide +kernel
theorem dL_law_195 : decode cL_law 195 = .ok (.aload_n 0, 1) := by decide +kernel
theorem dL_law_196 : decode cL_law 196 = .ok (.iload_n 3, 1) := by decide +kernel
theorem dL_law_197 : decode cL_law 197 = .ok (.bipush 6, 2) := by decide +kernel
theorem dL_law_199 : decode cL_law 199 = .ok (.iadd, 1) := by decide +kernel
theorem dL_law_200 : decode cL_law 200 = .ok (.iaload, 1) := by decide +kernel
theorem dL_law_201 : decode cL_law 201 = .ok (.invokevirtual 35, 3) := by decide +kernel
theorem dL_law_204 : decode cL_law 204 = .ok (.aload_n 2, 1) := by decide +kernel
theorem dL_law_205 : decode cL_law 205 = .ok (.aload_n 0, 1) := by decide +kernel
theorem dL_law_206 : decode cL_law 206 = .ok (.iload_n 3, 1) := by decide +kernel
theorem dL_law_207 : decode cL_law 207 = .ok (.iconst 1, 1) := by decide +kernel
theorem dL_law_208 : decode cL_law 208 = .ok (.iadd, 1) := by decide +kernel
theorem dL_law_209 : decode cL_law 209 = .ok (.iaload, 1) := by decide +kernel
theorem dL_law_210 : decode cL_law 210 = .ok (.aload_n 0, 1) := by decide +kernel
theorem dL_law_211 : decode cL_law 211 = .ok (.iload_n 3, 1) := by decide +kernel
theorem dL_law_212 : decode cL_law 212 = .ok (.iconst 2, 1) := by decide +kernel
theorem dL_law_213 : decode cL_law 213 = .ok (.iadd, 1) := by decide +kernel
theorem dL_law_214 : decode cL_law 214 = .ok (.iaload, 1) := by decide +kernel
theorem dL_law_215 : decode cL_law 215 = .ok (.aload_n 0, 1) := by decide +kernel
theorem dL_law_216 : decode cL_law 216 = .ok (.iload_n 3, 1) := by decide +kernel
theorem dL_law_217 : decode cL_law 217 = .ok (.iconst 3, 1) := by decide +kernel
theorem dL_law_218 : decode cL_law 218 = .ok (.iadd, 1) := by decide +kernel
theorem dL_law_219 : decode cL_law 219 = .ok (.iaload, 1) := by decide +kernel
theorem dL_law_220 : decode cL_law 220 = .ok (.aload_n 0, 1) := by decide +kernel
theorem dL_law_221 : decode cL_law 221 = .ok (.iload_n 3, 1) := by decide +kernel
theorem dL_law_222 : decode cL_law 222 = .ok (.iconst 4, 1) := by decide +kernel
theorem dL_law_223 : decode cL_law 223 = .ok (.iadd, 1) := by decide +kernel
theorem dL_law_224 : decode cL_law 224 = .ok (.iaload, 1) := by decide +kernel
theorem dL_law_225 : decode cL_law 225 = .ok (.aload_n 0, 1) := by decide +kernel
theorem dL_law_226 : decode cL_law 226 = .ok (.iload_n 3, 1) := by decide +kernel
theorem dL_law_227 : decode cL_law 227 = .ok (.iconst 5, 1) := by decide +kernel
theorem dL_law_228 : decode cL_law 228 = .ok (.iadd, 1) := by decide +kernel
theorem dL_law_229 : decode cL_law 229 = .ok (.iaload, 1) := by decide +kernel
theorem dL_law_230 : decode cL_law 230 = .ok (.aload_n 0, 1) := by decide +kernel
theorem dL_law_231 : decode cL_law 231 = .ok (.iload_n 3, 1) := by decide +kernel
theorem dL_law_232 : decode cL_law 232 = .ok (.bipush 6, 2) := by decide +kernel
theorem dL_law_234 : decode cL_law 234 = .ok (.iadd, 1) := by decide +kernel
theorem dL_law_235 : decode cL_law 235 = .ok (.iaload, 1) := by decide +kernel
theorem dL_law_236 : decode cL_law 236 = .ok (.invokevirtual 39, 3) := by decide +kernel
theorem dL_law_239 : decode cL_law 239 = .ok (.if_icmp .eq 254, 3) := by decide +kernel
theorem dL_law_242 : decode cL_law 242 = .ok (.iconst 0, 1) := by decide +kernel
theorem dL_law_243 : decode cL_law 243 = .ok (.ireturn, 1) := by decide +kernel
theorem dL_law_244 : decode cL_law 244 = .ok (.aload_n 1, 1) := by decide +kernel
theorem dL_law_245 : decode cL_law 245 = .ok (.aload_n 0, 1) := by decide +kernel
theorem dL_law_246 : decode cL_law 246 = .ok (.iload_n 3, 1) := by decide +kernel
theorem dL_law_247 : decode cL_law 247 = .ok (.iconst 1, 1) := by decide +kernel
theorem dL_law_248 : decode cL_law 248 = .ok (.iadd, 1) := by decide +kernel
theorem dL_law_249 : decode cL_law 249 = .ok (.iaload, 1) := by decide +kernel
theorem dL_law_250 : decode cL_law 250 = .ok (.i2l, 1) := by decide +kernel
theorem dL_law_251 : decode cL_law 251 = .ok (.bipush 32, 2) := by decide +kernel
theorem dL_law_253 : decode cL_law 253 = .ok (.lshl, 1) := by decide +kernel
theorem dL_law_254 : decode cL_law 254 = .ok (.aload_n 0, 1) := by decide +kernel
theorem dL_law_255 : decode cL_law 255 = .ok (.iload_n 3, 1) := by decide +kernel
theorem dL_law_256 : decode cL_law 256 = .ok (.iconst 2, 1) := by decide +kernel
theorem dL_law_257 : decode cL_law 257 = .ok (.iadd, 1) := by decide +kernel
theorem dL_law_258 : decode cL_law 258 = .ok (.iaload, 1) := by decide +kernel
theorem dL_law_259 : decode cL_law 259 = .ok (.i2l, 1) := by decide +kernel
theorem dL_law_260 : decode cL_law 260 = .ok (.ldc2_w 40, 3) := by decide +kernel
theorem dL_law_263 : decode cL_law 263 = .ok (.land, 1) := by decide +kernel
theorem dL_law_264 : decode cL_law 264 = .ok (.lor, 1) := by decide +kernel
theorem dL_law_265 : decode cL_law 265 = .ok (.invokevirtual 42, 3) := by decide +kernel
theorem dL_law_268 : decode cL_law 268 = .ok (.aload_n 2, 1) := by decide +kernel
theorem dL_law_269 : decode cL_law 269 = .ok (.aload_n 0, 1) := by decide +kernel
theorem dL_law_270 : decode cL_law 270 = .ok (.iload_n 3, 1) := by decide +kernel
theorem dL_law_271 : decode cL_law 271 = .ok (.iconst 1, 1) := by decide +kernel
theorem dL_law_272 : decode cL_law 272 = .ok (.iadd, 1) := by decide +kernel
theorem dL_law_273 : decode cL_law 273 = .ok (.iaload, 1) := by decide +kernel
theorem dL_law_274 : decode cL_law 274 = .ok (.i2l, 1) := by decide +kernel
theorem dL_law_275 : decode cL_law 275 = .ok (.bipush 32, 2) := by decide +kernel
theorem dL_law_277 : decode cL_law 277 = .ok (.lshl, 1) := by decide +kernel
theorem dL_law_278 : decode cL_law 278 = .ok (.aload_n 0, 1) := by decide +kernel
theorem dL_law_279 : decode cL_law 279 = .ok (.iload_n 3, 1) := by decide +kernel
theorem dL_law_280 : decode cL_law 280 = .ok (.iconst 2, 1) := by decide +kernel
theorem dL_law_281 : decode cL_law 281 = .ok (.iadd, 1) := by decide +kernel
theorem dL_law_282 : decode cL_law 282 = .ok (.iaload, 1) := by decide +kernel
theorem dL_law_283 : decode cL_law 283 = .ok (.i2l, 1) := by decide +kernel
theorem dL_law_284 : decode cL_law 284 = .ok (.ldc2_w 40, 3) := by decide +kernel
theorem dL_law_287 : decode cL_law 287 = .ok (.land, 1) := by decide +kernel
theorem dL_law_288 : decode cL_law 288 = .ok (.lor, 1) := by decide +kernel
theorem dL_law_289 : decode cL_law 289 = .ok (.invokevirtual 46, 3) := by decide +kernel
theorem dL_law_292 : decode cL_law 292 = .ok (.if_icmp .eq 201, 3) := by decide +kernel
theorem dL_law_295 : decode cL_law 295 = .ok (.iconst 0, 1) := by decide +kernel
theorem dL_law_296 : decode cL_law 296 = .ok (.ireturn, 1) := by decide +kernel
theorem dL_law_297 : decode cL_law 297 = .ok (.aload_n 1, 1) := by decide +kernel
theorem dL_law_298 : decode cL_law 298 = .ok (.invokevirtual 47, 3) := by decide +kernel
theorem dL_law_301 : decode cL_law 301 = .ok (.aload_n 2, 1) := by decide +kernel
theorem dL_law_302 : decode cL_law 302 = .ok (.invokevirtual 51, 3) := by decide +kernel
theorem dL_law_305 : decode cL_law 305 = .ok (.lcmp, 1) := by decide +kernel
theorem dL_law_306 : decode cL_law 306 = .ok (.ifCond .eq 187, 3) := by decide +kernel
theorem dL_law_309 : decode cL_law 309 = .ok (.iconst 0, 1) := by decide +kernel
theorem dL_law_310 : decode cL_law 310 = .ok (.ireturn, 1) := by decide +kernel
theorem dL_law_311 : decode cL_law 311 = .ok (.aload_n 1, 1) := by decide +kernel
theorem dL_law_312 : decode cL_law 312 = .ok (.invokevirtual 52, 3) := by decide +kernel
theorem dL_law_315 : decode cL_law 315 = .ok (.aload_n 2, 1) := by decide +kernel
theorem dL_law_316 : decode cL_law 316 = .ok (.invokevirtual 55, 3) := by decide +kernel
theorem dL_law_319 : decode cL_law 319 = .ok (.if_icmp .eq 174, 3) := by decide +kernel
theorem dL_law_322 : decode cL_law 322 = .ok (.iconst 0, 1) := by decide +kernel
theorem dL_law_323 : decode cL_law 323 = .ok (.ireturn, 1) := by decide +kernel
theorem dL_law_324 : decode cL_law 324 = .ok (.aload_n 1, 1) := by decide +kernel
theorem dL_law_325 : decode cL_law 325 = .ok (.aload_n 0, 1) := by decide +kernel
theorem dL_law_326 : decode cL_law 326 = .ok (.iload_n 3, 1) := by decide +kernel
theorem dL_law_327 : decode cL_law 327 = .ok (.iconst 1, 1) := by decide +kernel
theorem dL_law_328 : decode cL_law 328 = .ok (.iadd, 1) := by decide +kernel
theorem dL_law_329 : decode cL_law 329 = .ok (.iaload, 1) := by decide +kernel
theorem dL_law_330 : decode cL_law 330 = .ok (.invokevirtual 56, 3) := by decide +kernel
theorem dL_law_333 : decode cL_law 333 = .ok (.aload_n 2, 1) := by decide +kernel
theorem dL_law_334 : decode cL_law 334 = .ok (.aload_n 0, 1) := by decide +kernel
theorem dL_law_335 : decode cL_law 335 = .ok (.iload_n 3, 1) := by decide +kernel
theorem dL_law_336 : decode cL_law 336 = .ok (.iconst 1, 1) := by decide +kernel
theorem dL_law_337 : decode cL_law 337 = .ok (.iadd, 1) := by decide +kernel
theorem dL_law_338 : decode cL_law 338 = .ok (.iaload, 1) := by decide +kernel
theorem dL_law_339 : decode cL_law 339 = .ok (.invokevirtual 59, 3) := by decide +kernel
theorem dL_law_342 : decode cL_law 342 = .ok (.if_icmp .eq 151, 3) := by decide +kernel
theorem dL_law_345 : decode cL_law 345 = .ok (.iconst 0, 1) := by decide +kernel
theorem dL_law_346 : decode cL_law 346 = .ok (.ireturn, 1) := by decide +kernel
theorem dL_law_347 : decode cL_law 347 = .ok (.aload_n 1, 1) := by decide +kernel
theorem dL_law_348 : decode cL_law 348 = .ok (.aload_n 0, 1) := by decide +kernel
theorem dL_law_349 : decode cL_law 349 = .ok (.iload_n 3, 1) := by decide +kernel
theorem dL_law_350 : decode cL_law 350 = .ok (.iconst 1, 1) := by decide +kernel
theorem dL_law_351 : decode cL_law 351 = .ok (.iadd, 1) := by decide +kernel
theorem dL_law_352 : decode cL_law 352 = .ok (.iaload, 1) := by decide +kernel
theorem dL_law_353 : decode cL_law 353 = .ok (.invokevirtual 60, 3) := by decide +kernel
theorem dL_law_356 : decode cL_law 356 = .ok (.aload_n 2, 1) := by decide +kernel
theorem dL_law_357 : decode cL_law 357 = .ok (.aload_n 0, 1) := by decide +kernel
theorem dL_law_358 : decode cL_law 358 = .ok (.iload_n 3, 1) := by decide +kernel
theorem dL_law_359 : decode cL_law 359 = .ok (.iconst 1, 1) := by decide +kernel
theorem dL_law_360 : decode cL_law 360 = .ok (.iadd, 1) := by decide +kernel
theorem dL_law_361 : decode cL_law 361 = .ok (.iaload, 1) := by decide +kernel
theorem dL_law_362 : decode cL_law 362 = .ok (.invokevirtual 64, 3) := by decide +kernel
theorem dL_law_365 : decode cL_law 365 = .ok (.lcmp, 1) := by decide +kernel
theorem dL_law_366 : decode cL_law 366 = .ok (.ifCond .eq 127, 3) := by decide +kernel
theorem dL_law_369 : decode cL_law 369 = .ok (.iconst 0, 1) := by decide +kernel
theorem dL_law_370 : decode cL_law 370 = .ok (.ireturn, 1) := by decide +kernel
theorem dL_law_371 : decode cL_law 371 = .ok (.aload_n 1, 1) := by decide +kernel
theorem dL_law_372 : decode cL_law 372 = .ok (.aload_n 0, 1) := by decide +kernel
theorem dL_law_373 : decode cL_law 373 = .ok (.iload_n 3, 1) := by decide +kernel
theorem dL_law_374 : decode cL_law 374 = .ok (.iconst 1, 1) := by decide +kernel
theorem dL_law_375 : decode cL_law 375 = .ok (.iadd, 1) := by decide +kernel
theorem dL_law_376 : decode cL_law 376 = .ok (.iaload, 1) := by decide +kernel
theorem dL_law_377 : decode cL_law 377 = .ok (.invokevirtual 65, 3) := by decide +kernel
theorem dL_law_380 : decode cL_law 380 = .ok (.aload_n 2, 1) := by decide +kernel
theorem dL_law_381 : decode cL_law 381 = .ok (.aload_n 0, 1) := by decide +kernel
theorem dL_law_382 : decode cL_law 382 = .ok (.iload_n 3, 1) := by decide +kernel
theorem dL_law_383 : decode cL_law 383 = .ok (.iconst 1, 1) := by decide +kernel
theorem dL_law_384 : decode cL_law 384 = .ok (.iadd, 1) := by decide +kernel
theorem dL_law_385 : decode cL_law 385 = .ok (.iaload, 1) := by decide +kernel
theorem dL_law_386 : decode cL_law 386 = .ok (.invokevirtual 68, 3) := by decide +kernel
theorem dL_law_389 : decode cL_law 389 = .ok (.if_icmp .eq 104, 3) := by decide +kernel
theorem dL_law_392 : decode cL_law 392 = .ok (.iconst 0, 1) := by decide +kernel
theorem dL_law_393 : decode cL_law 393 = .ok (.ireturn, 1) := by decide +kernel
theorem dL_law_394 : decode cL_law 394 = .ok (.aload_n 1, 1) := by decide +kernel
theorem dL_law_395 : decode cL_law 395 = .ok (.invokevirtual 69, 3) := by decide +kernel
theorem dL_law_398 : decode cL_law 398 = .ok (.aload_n 2, 1) := by decide +kernel
theorem dL_law_399 : decode cL_law 399 = .ok (.invokevirtual 72, 3) := by decide +kernel
theorem dL_law_402 : decode cL_law 402 = .ok (.if_icmp .eq 91, 3) := by decide +kernel
theorem dL_law_405 : decode cL_law 405 = .ok (.iconst 0, 1) := by decide +kernel
theorem dL_law_406 : decode cL_law 406 = .ok (.ireturn, 1) := by decide +kernel
theorem dL_law_407 : decode cL_law 407 = .ok (.aload_n 1, 1) := by decide +kernel
theorem dL_law_408 : decode cL_law 408 = .ok (.aload_n 0, 1) := by decide +kernel
theorem dL_law_409 : decode cL_law 409 = .ok (.iload_n 3, 1) := by decide +kernel
theorem dL_law_410 : decode cL_law 410 = .ok (.iconst 1, 1) := by decide +kernel
theorem dL_law_411 : decode cL_law 411 = .ok (.iadd, 1) := by decide +kernel
theorem dL_law_412 : decode cL_law 412 = .ok (.iaload, 1) := by decide +kernel
theorem dL_law_413 : decode cL_law 413 = .ok (.invokevirtual 73, 3) := by decide +kernel
theorem dL_law_416 : decode cL_law 416 = .ok (.aload_n 2, 1) := by decide +kernel
theorem dL_law_417 : decode cL_law 417 = .ok (.aload_n 0, 1) := by decide +kernel
theorem dL_law_418 : decode cL_law 418 = .ok (.iload_n 3, 1) := by decide +kernel
theorem dL_law_419 : decode cL_law 419 = .ok (.iconst 1, 1) := by decide +kernel
theorem dL_law_420 : decode cL_law 420 = .ok (.iadd, 1) := by decide +kernel
theorem dL_law_421 : decode cL_law 421 = .ok (.iaload, 1) := by decide +kernel
theorem dL_law_422 : decode cL_law 422 = .ok (.invokevirtual 76, 3) := by decide +kernel
theorem dL_law_425 : decode cL_law 425 = .ok (.if_icmp .eq 68, 3) := by decide +kernel
theorem dL_law_428 : decode cL_law 428 = .ok (.iconst 0, 1) := by decide +kernel
theorem dL_law_429 : decode cL_law 429 = .ok (.ireturn, 1) := by decide +kernel
theorem dL_law_430 : decode cL_law 430 = .ok (.aload_n 1, 1) := by decide +kernel
theorem dL_law_431 : decode cL_law 431 = .ok (.invokevirtual 77, 3) := by decide +kernel
theorem dL_law_434 : decode cL_law 434 = .ok (.aload_n 2, 1) := by decide +kernel
theorem dL_law_435 : decode cL_law 435 = .ok (.invokevirtual 80, 3) := by decide +kernel
theorem dL_law_438 : decode cL_law 438 = .ok (.lcmp, 1) := by decide +kernel
theorem dL_law_439 : decode cL_law 439 = .ok (.ifCond .eq 54, 3) := by decide +kernel
theorem dL_law_442 : decode cL_law 442 = .ok (.iconst 0, 1) := by decide +kernel
theorem dL_law_443 : decode cL_law 443 = .ok (.ireturn, 1) := by decide +kernel
theorem dL_law_444 : decode cL_law 444 = .ok (.aload_n 1, 1) := by decide +kernel
theorem dL_law_445 : decode cL_law 445 = .ok (.invokevirtual 81, 3) := by decide +kernel
theorem dL_law_448 : decode cL_law 448 = .ok (.aload_n 2, 1) := by decide +kernel
theorem dL_law_449 : decode cL_law 449 = .ok (.invokevirtual 84, 3) := by decide +kernel
theorem dL_law_452 : decode cL_law 452 = .ok (.if_icmp .eq 41, 3) := by decide +kernel
theorem dL_law_455 : decode cL_law 455 = .ok (.iconst 0, 1) := by decide +kernel
theorem dL_law_456 : decode cL_law 456 = .ok (.ireturn, 1) := by decide +kernel
theorem dL_law_457 : decode cL_law 457 = .ok (.aload_n 1, 1) := by decide +kernel
theorem dL_law_458 : decode cL_law 458 = .ok (.invokevirtual 85, 3) := by decide +kernel
theorem dL_law_461 : decode cL_law 461 = .ok (.aload_n 2, 1) := by decide +kernel
theorem dL_law_462 : decode cL_law 462 = .ok (.invokevirtual 88, 3) := by decide +kernel
theorem dL_law_465 : decode cL_law 465 = .ok (.if_icmp .eq 28, 3) := by decide +kernel
theorem dL_law_468 : decode cL_law 468 = .ok (.iconst 0, 1) := by decide +kernel
theorem dL_law_469 : decode cL_law 469 = .ok (.ireturn, 1) := by decide +kernel
theorem dL_law_470 : decode cL_law 470 = .ok (.aload_n 1, 1) := by decide +kernel
theorem dL_law_471 : decode cL_law 471 = .ok (.aload_n 0, 1) := by decide +kernel
theorem dL_law_472 : decode cL_law 472 = .ok (.iload_n 3, 1) := by decide +kernel
theorem dL_law_473 : decode cL_law 473 = .ok (.iconst 1, 1) := by decide +kernel
theorem dL_law_474 : decode cL_law 474 = .ok (.iadd, 1) := by decide +kernel
theorem dL_law_475 : decode cL_law 475 = .ok (.iaload, 1) := by decide +kernel
theorem dL_law_476 : decode cL_law 476 = .ok (.invokevirtual 89, 3) := by decide +kernel
theorem dL_law_479 : decode cL_law 479 = .ok (.aload_n 2, 1) := by decide +kernel
theorem dL_law_480 : decode cL_law 480 = .ok (.aload_n 0, 1) := by decide +kernel
theorem dL_law_481 : decode cL_law 481 = .ok (.iload_n 3, 1) := by decide +kernel
theorem dL_law_482 : decode cL_law 482 = .ok (.iconst 1, 1) := by decide +kernel
theorem dL_law_483 : decode cL_law 483 = .ok (.iadd, 1) := by decide +kernel
theorem dL_law_484 : decode cL_law 484 = .ok (.iaload, 1) := by decide +kernel
theorem dL_law_485 : decode cL_law 485 = .ok (.invokevirtual 92, 3) := by decide +kernel
theorem dL_law_488 : decode cL_law 488 = .ok (.if_icmp .eq 5, 3) := by decide +kernel
theorem dL_law_491 : decode cL_law 491 = .ok (.iconst 0, 1) := by decide +kernel
theorem dL_law_492 : decode cL_law 492 = .ok (.ireturn, 1) := by decide +kernel
theorem dL_law_493 : decode cL_law 493 = .ok (.iinc 3 7, 3) := by decide +kernel
theorem dL_law_496 : decode cL_law 496 = .ok (.goto (-468), 3) := by decide +kernel
theorem dL_law_499 : decode cL_law 499 = .ok (.iconst 1, 1) := by decide +kernel
theorem dL_law_500 : decode cL_law 500 = .ok (.ireturn, 1) := by decide +kernel
end
section
/-! The worlds of the desk (kW) and of the model (mW), the judgement V (W with the locals as a list), and its rows -/
abbrev vwCl : List vw_C := [(RX1, TX1, 29), (RX2, TX2, 20)]
abbrev DS : Type := (Nat → Int32) × (Nat → Int64) × (Nat → Nat → Int32) × (Nat → Int64)
/-- a state of either class: int fields, long fields, int arrays (by the field's number), the long array -/
def sI (x : DS) (k : Nat) : Int32 := x.1 k
def sL (x : DS) (k : Nat) : Int64 := x.2.1 k
def sA (x : DS) (k : Nat) : Nat → Int32 := x.2.2.1 k
def sF (x : DS) : Nat → Int64 := x.2.2.2
def pI (x : DS) (k : Nat) (v : Int32) : DS := (va_up x.1 k v, x.2)
def pL (x : DS) (k : Nat) (v : Int64) : DS := (x.1, va_up x.2.1 k v, x.2.2)
def pA (x : DS) (k j : Nat) (v : Int32) : DS := (x.1, x.2.1, va_up x.2.2.1 k (upd (x.2.2.1 k) j v), x.2.2.2)
def pF (x : DS) (j : Nat) (v : Int64) : DS := (x.1, x.2.1, x.2.2.1, vp_updL x.2.2.2 j v)
theorem sI_pI {x : DS} {k j : Nat} {v : Int32} : sI (pI x k v) j = if j = k then v else sI x j := rfl
theorem sI_pL {x : DS} {k j : Nat} {v : Int64} : sI (pL x k v) j = sI x j := rfl
theorem sI_pA {x : DS} {k i j : Nat} {v : Int32} : sI (pA x k i v) j = sI x j := rfl
theorem sI_pF {x : DS} {i j : Nat} {v : Int64} : sI (pF x i v) j = sI x j := rfl
theorem sL_pI {x : DS} {k j : Nat} {v : Int32} : sL (pI x k v) j = sL x j := rfl
theorem sL_pL {x : DS} {k j : Nat} {v : Int64} : sL (pL x k v) j = if j = k then v else sL x j := rfl
theorem sL_pA {x : DS} {k i j : Nat} {v : Int32} : sL (pA x k i v) j = sL x j := rfl
theorem sL_pF {x : DS} {i j : Nat} {v : Int64} : sL (pF x i v) j = sL x j := rfl
theorem sA_pI {x : DS} {k j : Nat} {v : Int32} : sA (pI x k v) j = sA x j := rfl
theorem sA_pL {x : DS} {k j : Nat} {v : Int64} : sA (pL x k v) j = sA x j := rfl
theorem sA_pA {x : DS} {k i j : Nat} {v : Int32} : sA (pA x k i v) j = if j = k then upd (sA x k) i v else sA x j := rfl
theorem sA_pF {x : DS} {i j : Nat} {v : Int64} : sA (pF x i v) j = sA x j := rfl
theorem sF_pI {x : DS} {k : Nat} {v : Int32} : sF (pI x k v) = sF x := rfl
theorem sF_pL {x : DS} {k : Nat} {v : Int64} : sF (pL x k v) = sF x := rfl
theorem sF_pA {x : DS} {k i : Nat} {v : Int32} : sF (pA x k i v) = sF x := rfl
theorem sF_pF {x : DS} {i : Nat} {v : Int64} : sF (pF x i v) = vp_updL (sF x) i v := rfl
abbrev EE : Type := ClassId × ClassId × va_G
abbrev GG : Type := Nat × (Nat → Nat)
abbrev tys2 (E : EE) : List (ClassId × FieldType) := [(E.1, .int), (E.2.1, .long)]
def kW (E : EE) (g : GG) (x : DS) : va_W := [(g.1, .inr (0, [.int (sI x 0), .ref (g.2 1), .ref (g.2 2), .ref (g.2 3), .ref (g.2 4), .ref (g.2 5), .ref (g.2 6), .ref (g.2 7), .ref (g.2 8), .int (sI x 9), .int (sI x 10), .ref (g.2 11), .ref (g.2 12), .ref (g.2 13), .int (sI x 14), .ref (g.2 15), .int (sI x 16), .int (sI x 17), .long (sL x 18), .long (sL x 19), .int (sI x 20), .int (sI x 21), .ref (g.2 22), .int (sI x 23), .ref (g.2 24), .ref (g.2 25), .int (sI x 26), .ref (g.2 27), .int (sI x 28)])), (g.2 1, .inl (E.1, 2000, .inl (sA x 1))), (g.2 2, .inl (E.1, 2000, .inl (sA x 2))), (g.2 3, .inl (E.1, 2000, .inl (sA x 3))), (g.2 4, .inl (E.1, 2000, .inl (sA x 4))), (g.2 5, .inl (E.1, 2000, .inl (sA x 5))), (g.2 6, .inl (E.1, 2000, .inl (sA x 6))), (g.2 7, .inl (E.1, 2000, .inl (sA x 7))), (g.2 8, .inl (E.1, 2000, .inl (sA x 8))), (g.2 11, .inl (E.1, 60, .inl (sA x 11))), (g.2 12, .inl (E.1, 60, .inl (sA x 12))), (g.2 13, .inl (E.1, 60, .inl (sA x 13))), (g.2 15, .inl (E.1, 40, .inl (sA x 15))), (g.2 22, .inl (E.1, 4201, .inl (sA x 22))), (g.2 24, .inl (E.1, 4201, .inl (sA x 24))), (g.2 25, .inl (E.2.1, 4201, .inr (.inl (sF x)))), (g.2 27, .inl (E.1, 4201, .inl (sA x 27)))]
def mW (E : EE) (g : GG) (x : DS) : va_W := [(g.1, .inr (1, [.int (sI x 0), .int (sI x 1), .int (sI x 2), .int (sI x 3), .ref (g.2 4), .ref (g.2 5), .ref (g.2 6), .int (sI x 7), .ref (g.2 8), .int (sI x 9), .long (sL x 10), .long (sL x 11), .int (sI x 12), .int (sI x 13), .ref (g.2 14), .ref (g.2 15), .ref (g.2 16), .int (sI x 17), .int (sI x 18), .ref (g.2 19)])), (g.2 4, .inl (E.1, 2400, .inl (sA x 4))), (g.2 5, .inl (E.1, 60, .inl (sA x 5))), (g.2 6, .inl (E.1, 40, .inl (sA x 6))), (g.2 8, .inl (E.1, 64, .inl (sA x 8))), (g.2 14, .inl (E.1, 4400, .inl (sA x 14))), (g.2 15, .inl (E.2.1, 4400, .inr (.inl (sF x)))), (g.2 16, .inl (E.1, 4400, .inl (sA x 16))), (g.2 19, .inl (E.1, 4400, .inl (sA x 19)))]
/-- the machine's fixed parts: program, launch, environment, room, start, method, arguments, what lies below, the method's row, its code -/
abbrev ZZ : Type := Program × Launch × Env × Room × State × MethodId × Array Value × List Frame × Method × Code
abbrev zp (z : ZZ) : Program := z.1
abbrev zl (z : ZZ) : Launch := z.2.1
abbrev ze (z : ZZ) : Env := z.2.2.1
abbrev zR (z : ZZ) : Room := z.2.2.2.1
abbrev zs (z : ZZ) : State := z.2.2.2.2.1
abbrev zm (z : ZZ) : MethodId := z.2.2.2.2.2.1
abbrev za (z : ZZ) : Array Value := z.2.2.2.2.2.2.1
abbrev zb (z : ZZ) : List Frame := z.2.2.2.2.2.2.2.1
abbrev zM (z : ZZ) : Method := z.2.2.2.2.2.2.2.2.1
abbrev zc (z : ZZ) : Code := z.2.2.2.2.2.2.2.2.2
def kC (own : String) (cc : ByteArray) (nL : Nat) (ret : Option FieldType) (E : EE) (z : ZZ) : Prop := CallFix (zp z) (zm z) (zc z) cc nL (zs z) (za z) lw_all own ∧ va_K E.2.2 vwCl (tys2 E) (zs z) ∧ (zM z).sig.returnType = ret ∧ (zM z).locks = false
def rmOK (k : Nat) (cs : Nat × Nat) (z : ZZ) : Prop := k ≤ (zR z).frames ∧ 40 * k ≤ (zR z).locals ∧ cs.1 ≤ (zR z).cells ∧ cs.2 ≤ (zR z).slots
def rmK (k : Nat) : Room := { frames := k, cells := 0, slots := 0, locals := 40 * k }
theorem rmOK.lower {k j : Nat} {cs : Nat × Nat} {z : ZZ} (h : rmOK k cs z) (hj : j ≤ k) : rmOK j cs z := by
  obtain ⟨h1, h2, h3⟩ := h
  exact ⟨by omega, by omega, h3⟩
def wP (E : EE) (w : va_W) (H : Heap) : Prop := va_P E.2.2 vwCl w H
def wH (E : EE) (w : va_W) (A : Nat → Prop) (z : ZZ) (H : Heap) (locs : List Loc) : Prop := wP E w H ∧ va_D A w ∧ va_S A (zs z).heap H locs ∧ ∀ q, (zs z).heap.size ≤ q → A q
def V (z : ZZ) (cs : Nat × Nat) (H : Heap) (locs : List Loc) (Q : State → Prop) (pc : Nat) (lv : List (Nat × Value)) (st : List Value) : Prop :=
  ∀ ls : Array Slot, lv_has ls (zc z).maxLocals lv → W (zp z) (zl z) (ze z) (zR z) (zs z) (zm z) (za z) (zb z) (zM z) (zc z) H locs cs.1 cs.2 Q (F0 (zm z) pc ls st)
def rP (E : EE) (w : va_W) (U : State) : Prop := va_P E.2.2 vwCl w U.heap ∧ va_K E.2.2 vwCl (tys2 E) U
def mP (E : EE) (w : va_W) (sz : Nat) (U : State) : Prop := U.heap.size = sz ∧ va_P E.2.2 vwCl w U.heap ∧ va_K E.2.2 vwCl (tys2 E) U ∧ va_D (fun _ => True) w
def mB (E : EE) (wf : DS → va_W) (A : Nat → Prop) (u : DS) (t : State) : Prop := va_P E.2.2 vwCl (wf u) t.heap ∧ va_K E.2.2 vwCl (tys2 E) t ∧ va_D A (wf u)
abbrev MRi (l : Launch) (y : MethodName) (cc : ByteArray) (nL : Nat) (ret : Option FieldType) (lev : Nat) (E : EE) (w : va_W) (vs : List Value) (post : Int32 → Prop) : Prop := Met l y (ws_ y cc nL ret) (rmK lev) (va_Pc vs (rP E w)) (vp_Si post) 0 0 (fun _ => False)
abbrev MRl (l : Launch) (y : MethodName) (cc : ByteArray) (nL : Nat) (ret : Option FieldType) (lev : Nat) (E : EE) (w : va_W) (vs : List Value) (post : Int64 → Prop) : Prop := Met l y (ws_ y cc nL ret) (rmK lev) (va_Pc vs (rP E w)) (vp_Sl post) 0 0 (fun _ => False)
abbrev MWi (l : Launch) (y : MethodName) (cc : ByteArray) (nL : Nat) (ret : Option FieldType) (lev : Nat) (E : EE) (wf : DS → va_W) (x : DS) (vs : List Value) (post : Int32 → DS → Prop) : Prop := ∀ sz : Nat, Met l y (ws_ y cc nL ret) (rmK lev) (va_Pc vs (mP E (wf x) sz)) (va_Qi post (mB E wf (va_A (wf x) sz)) (va_A (wf x) sz)) 0 0 (va_A (wf x) sz)
abbrev MWv (l : Launch) (y : MethodName) (cc : ByteArray) (nL : Nat) (ret : Option FieldType) (lev : Nat) (E : EE) (wf : DS → va_W) (x : DS) (vs : List Value) (post : DS → Prop) : Prop := ∀ sz : Nat, Met l y (ws_ y cc nL ret) (rmK lev) (va_Pc vs (mP E (wf x) sz)) (va_Qv post (mB E wf (va_A (wf x) sz)) (va_A (wf x) sz)) 0 0 (va_A (wf x) sz)
abbrev QRi (z : ZZ) (post : Int32 → Prop) : State → Prop := MQ (zb z) (vp_Si post) (za z) (zs z) 0 0 (fun _ => False)
abbrev QRl (z : ZZ) (post : Int64 → Prop) : State → Prop := MQ (zb z) (vp_Sl post) (za z) (zs z) 0 0 (fun _ => False)
abbrev QWi (z : ZZ) (E : EE) (wf : DS → va_W) (A : Nat → Prop) (post : Int32 → DS → Prop) : State → Prop := MQ (zb z) (va_Qi post (mB E wf A) A) (za z) (zs z) 0 0 A
abbrev QWv (z : ZZ) (E : EE) (wf : DS → va_W) (A : Nat → Prop) (post : DS → Prop) : State → Prop := MQ (zb z) (va_Qv post (mB E wf A) A) (za z) (zs z) 0 0 A
section VB
variable {z : ZZ} {cs : Nat × Nat} {H : Heap} {locs : List Loc} {Q : State → Prop} {pc : Nat} {lv : List (Nat × Value)} {st : List Value} {own : String} {cc : ByteArray} {nL : Nat} {ret : Option FieldType} {E : EE} {A : Nat → Prop}
theorem v_iload_n (C : kC own cc nL ret E z) {k : Fin 4} {i : Nat} {x : Int32} (hdg : decode cc pc = .ok (.iload_n k, 1)) (hi : (k : Nat) = i) (k0 : Nat) (hk : lv[k0]? = some (i, .int x)) (kk : V z cs H locs Q (pc + 1) lv (.int x :: st)) : V z cs H locs Q pc lv st := fun ls hl => lv_iload_n C.1.1 C.1.2.1 hdg hi (lv_at hl k0 hk) (kk ls hl)
theorem v_iload (C : kC own cc nL ret E z) {i : Nat} {x : Int32} (hdg : decode cc pc = .ok (.iload i, 2)) (k0 : Nat) (hk : lv[k0]? = some (i, .int x)) (kk : V z cs H locs Q (pc + 2) lv (.int x :: st)) : V z cs H locs Q pc lv st := fun ls hl => lv_iload C.1.1 C.1.2.1 hdg (lv_at hl k0 hk) (kk ls hl)
theorem v_lload_n (C : kC own cc nL ret E z) {k : Fin 4} {i : Nat} {x : Int64} (hdg : decode cc pc = .ok (.lload_n k, 1)) (hi : (k : Nat) = i) (k0 : Nat) (hk : lv[k0]? = some (i, .long x)) (kk : V z cs H locs Q (pc + 1) lv (.long x :: st)) : V z cs H locs Q pc lv st := fun ls hl => lv_lload_n C.1.1 C.1.2.1 hdg hi (lv_at hl k0 hk) (kk ls hl)
theorem v_lload (C : kC own cc nL ret E z) {i : Nat} {x : Int64} (hdg : decode cc pc = .ok (.lload i, 2)) (k0 : Nat) (hk : lv[k0]? = some (i, .long x)) (kk : V z cs H locs Q (pc + 2) lv (.long x :: st)) : V z cs H locs Q pc lv st := fun ls hl => lv_lload C.1.1 C.1.2.1 hdg (lv_at hl k0 hk) (kk ls hl)
theorem v_aload_n (C : kC own cc nL ret E z) {k : Fin 4} {i : Nat} {x : Nat} (hdg : decode cc pc = .ok (.aload_n k, 1)) (hi : (k : Nat) = i) (k0 : Nat) (hk : lv[k0]? = some (i, .ref x)) (kk : V z cs H locs Q (pc + 1) lv (.ref x :: st)) : V z cs H locs Q pc lv st := fun ls hl => lv_aload_n C.1.1 C.1.2.1 hdg hi (lv_at hl k0 hk) (kk ls hl)
theorem v_aload (C : kC own cc nL ret E z) {i : Nat} {x : Nat} (hdg : decode cc pc = .ok (.aload i, 2)) (k0 : Nat) (hk : lv[k0]? = some (i, .ref x)) (kk : V z cs H locs Q (pc + 2) lv (.ref x :: st)) : V z cs H locs Q pc lv st := fun ls hl => lv_aload C.1.1 C.1.2.1 hdg (lv_at hl k0 hk) (kk ls hl)
theorem v_istore_n (C : kC own cc nL ret E z) {k : Fin 4} {i : Nat} {x : Int32} (ks : List Nat) (lv' : List (Nat × Value)) (hdg : decode cc pc = .ok (.istore_n k, 1)) (hi : (k : Nat) = i) (hn : i < nL) (hl' : lv_pick ((i, Value.int x) :: lv.filter (fun q => !(q.1 == i) && !(q.1 + 1 == i && q.2.category == 2))) ks = lv') (kk : V z cs H locs Q (pc + 1) lv' st) : V z cs H locs Q pc lv (.int x :: st) := fun ls hl => lv_istore_n C.1.1 C.1.2.1 hdg hi hl (by rw [C.1.2.2.1]; exact hn) rfl (fun ls' h => kk ls' (lv_sub h ks hl'))
theorem v_istore (C : kC own cc nL ret E z) {i : Nat} {x : Int32} (ks : List Nat) (lv' : List (Nat × Value)) (hdg : decode cc pc = .ok (.istore i, 2)) (hn : i < nL) (hl' : lv_pick ((i, Value.int x) :: lv.filter (fun q => !(q.1 == i) && !(q.1 + 1 == i && q.2.category == 2))) ks = lv') (kk : V z cs H locs Q (pc + 2) lv' st) : V z cs H locs Q pc lv (.int x :: st) := fun ls hl => lv_istore C.1.1 C.1.2.1 hdg hl (by rw [C.1.2.2.1]; exact hn) rfl (fun ls' h => kk ls' (lv_sub h ks hl'))
theorem v_lstore_n (C : kC own cc nL ret E z) {k : Fin 4} {i : Nat} {x : Int64} (ks : List Nat) (lv' : List (Nat × Value)) (hdg : decode cc pc = .ok (.lstore_n k, 1)) (hi : (k : Nat) = i) (hn : i + 1 < nL) (hl' : lv_pick ((i, Value.long x) :: lv.filter (fun q => !(q.1 == i) && (!(q.1 == i + 1) && !(q.1 + 1 == i && q.2.category == 2)))) ks = lv') (kk : V z cs H locs Q (pc + 1) lv' st) : V z cs H locs Q pc lv (.long x :: st) := fun ls hl => lv_lstore_n C.1.1 C.1.2.1 hdg hi hl (by rw [C.1.2.2.1]; exact hn) rfl (fun ls' h => kk ls' (lv_sub h ks hl'))
theorem v_lstore (C : kC own cc nL ret E z) {i : Nat} {x : Int64} (ks : List Nat) (lv' : List (Nat × Value)) (hdg : decode cc pc = .ok (.lstore i, 2)) (hn : i + 1 < nL) (hl' : lv_pick ((i, Value.long x) :: lv.filter (fun q => !(q.1 == i) && (!(q.1 == i + 1) && !(q.1 + 1 == i && q.2.category == 2)))) ks = lv') (kk : V z cs H locs Q (pc + 2) lv' st) : V z cs H locs Q pc lv (.long x :: st) := fun ls hl => lv_lstore C.1.1 C.1.2.1 hdg hl (by rw [C.1.2.2.1]; exact hn) rfl (fun ls' h => kk ls' (lv_sub h ks hl'))
theorem v_astore_n (C : kC own cc nL ret E z) {k : Fin 4} {i : Nat} {x : Nat} (ks : List Nat) (lv' : List (Nat × Value)) (hdg : decode cc pc = .ok (.astore_n k, 1)) (hi : (k : Nat) = i) (hn : i < nL) (hl' : lv_pick ((i, Value.ref x) :: lv.filter (fun q => !(q.1 == i) && !(q.1 + 1 == i && q.2.category == 2))) ks = lv') (kk : V z cs H locs Q (pc + 1) lv' st) : V z cs H locs Q pc lv (.ref x :: st) := fun ls hl => lv_astore_n C.1.1 C.1.2.1 hdg hi hl (by rw [C.1.2.2.1]; exact hn) rfl (fun ls' h => kk ls' (lv_sub h ks hl'))
theorem v_astore (C : kC own cc nL ret E z) {i : Nat} {x : Nat} (ks : List Nat) (lv' : List (Nat × Value)) (hdg : decode cc pc = .ok (.astore i, 2)) (hn : i < nL) (hl' : lv_pick ((i, Value.ref x) :: lv.filter (fun q => !(q.1 == i) && !(q.1 + 1 == i && q.2.category == 2))) ks = lv') (kk : V z cs H locs Q (pc + 2) lv' st) : V z cs H locs Q pc lv (.ref x :: st) := fun ls hl => lv_astore C.1.1 C.1.2.1 hdg hl (by rw [C.1.2.2.1]; exact hn) rfl (fun ls' h => kk ls' (lv_sub h ks hl'))
theorem v_iinc (C : kC own cc nL ret E z) {i k : Nat} {n : Int} {x : Int32} (v : Int32) (ks : List Nat) (lv' : List (Nat × Value)) (hdg : decode cc pc = .ok (.iinc i n, 3)) (hk : lv[k]? = some (i, .int x)) (hv : x + Int32.ofInt n = v) (hn : i < nL) (hl' : lv_pick ((i, Value.int v) :: lv.filter (fun q => !(q.1 == i) && !(q.1 + 1 == i && q.2.category == 2))) ks = lv') (kk : V z cs H locs Q (pc + 3) lv' st) : V z cs H locs Q pc lv st := fun ls hl => lv_iinc C.1.1 C.1.2.1 hdg hl hk hv (by rw [C.1.2.2.1]; exact hn) rfl (fun ls' h => kk ls' (lv_sub h ks hl'))
theorem v_iconst (C : kC own cc nL ret E z) {n : Int} (v : Int32) (hv : Int32.ofInt n = v) (hdg : decode cc pc = .ok (.iconst n, 1)) (kk : V z cs H locs Q (pc + 1) lv (.int v :: st)) : V z cs H locs Q pc lv (st) := fun ls hl => lv_iconst C.1.1 C.1.2.1 hdg hv (kk ls hl)
theorem v_bipush (C : kC own cc nL ret E z) {n : Int} (v : Int32) (hv : (Int8.ofInt n).toInt32 = v) (hdg : decode cc pc = .ok (.bipush n, 2)) (kk : V z cs H locs Q (pc + 2) lv (.int v :: st)) : V z cs H locs Q pc lv (st) := fun ls hl => lv_bipush C.1.1 C.1.2.1 hdg hv (kk ls hl)
theorem v_sipush (C : kC own cc nL ret E z) {n : Int} (v : Int32) (hv : (Int16.ofInt n).toInt32 = v) (hdg : decode cc pc = .ok (.sipush n, 3)) (kk : V z cs H locs Q (pc + 3) lv (.int v :: st)) : V z cs H locs Q pc lv (st) := fun ls hl => lv_sipush C.1.1 C.1.2.1 hdg hv (kk ls hl)
theorem v_lconst (C : kC own cc nL ret E z) {n : Fin 2} (v : Int64) (hv : Int64.ofNat (n : Nat) = v) (hdg : decode cc pc = .ok (.lconst n, 1)) (kk : V z cs H locs Q (pc + 1) lv (.long v :: st)) : V z cs H locs Q pc lv (st) := fun ls hl => lv_lconst C.1.1 C.1.2.1 hdg hv (kk ls hl)
theorem v_ldc2 (C : kC own cc nL ret E z) {index : Nat} {v : Int64} (hq : Cond.constantLong own index v ∈ lw_all) (hdg : decode cc pc = .ok (.ldc2_w index, 3)) (kk : V z cs H locs Q (pc + 3) lv (.long v :: st)) : V z cs H locs Q pc lv (st) := fun ls hl => lv_ldc2 C.1.1 C.1.2.1 C.1.2.2.2.1 (C.1.2.2.2.2 _ hq) hdg (kk ls hl)
theorem v_iadd (C : kC own cc nL ret E z) {x y : Int32} (hdg : decode cc pc = .ok (.iadd, 1)) (kk : V z cs H locs Q (pc + 1) lv (.int (x + y) :: st)) : V z cs H locs Q pc lv (.int y :: .int x :: st) := fun ls hl => lv_iadd C.1.1 C.1.2.1 hdg (kk ls hl)
theorem v_isub (C : kC own cc nL ret E z) {x y : Int32} (hdg : decode cc pc = .ok (.isub, 1)) (kk : V z cs H locs Q (pc + 1) lv (.int (x - y) :: st)) : V z cs H locs Q pc lv (.int y :: .int x :: st) := fun ls hl => lv_isub C.1.1 C.1.2.1 hdg (kk ls hl)
theorem v_imul (C : kC own cc nL ret E z) {x y : Int32} (hdg : decode cc pc = .ok (.imul, 1)) (kk : V z cs H locs Q (pc + 1) lv (.int (x * y) :: st)) : V z cs H locs Q pc lv (.int y :: .int x :: st) := fun ls hl => lv_imul C.1.1 C.1.2.1 hdg (kk ls hl)
theorem v_iand (C : kC own cc nL ret E z) {x y : Int32} (hdg : decode cc pc = .ok (.iand, 1)) (kk : V z cs H locs Q (pc + 1) lv (.int (x &&& y) :: st)) : V z cs H locs Q pc lv (.int y :: .int x :: st) := fun ls hl => lv_iand C.1.1 C.1.2.1 hdg (kk ls hl)
theorem v_ladd (C : kC own cc nL ret E z) {x y : Int64} (hdg : decode cc pc = .ok (.ladd, 1)) (kk : V z cs H locs Q (pc + 1) lv (.long (x + y) :: st)) : V z cs H locs Q pc lv (.long y :: .long x :: st) := fun ls hl => lv_ladd C.1.1 C.1.2.1 hdg (kk ls hl)
theorem v_lsub (C : kC own cc nL ret E z) {x y : Int64} (hdg : decode cc pc = .ok (.lsub, 1)) (kk : V z cs H locs Q (pc + 1) lv (.long (x - y) :: st)) : V z cs H locs Q pc lv (.long y :: .long x :: st) := fun ls hl => lv_lsub C.1.1 C.1.2.1 hdg (kk ls hl)
theorem v_land (C : kC own cc nL ret E z) {x y : Int64} (hdg : decode cc pc = .ok (.land, 1)) (kk : V z cs H locs Q (pc + 1) lv (.long (x &&& y) :: st)) : V z cs H locs Q pc lv (.long y :: .long x :: st) := fun ls hl => lv_land C.1.1 C.1.2.1 hdg (kk ls hl)
theorem v_lor (C : kC own cc nL ret E z) {x y : Int64} (hdg : decode cc pc = .ok (.lor, 1)) (kk : V z cs H locs Q (pc + 1) lv (.long (x ||| y) :: st)) : V z cs H locs Q pc lv (.long y :: .long x :: st) := fun ls hl => lv_lor C.1.1 C.1.2.1 hdg (kk ls hl)
theorem v_irem (C : kC own cc nL ret E z) {x y : Int32} (hne : ¬ y = 0) (hdg : decode cc pc = .ok (.irem, 1)) (kk : V z cs H locs Q (pc + 1) lv (.int (x - x / y * y) :: st)) : V z cs H locs Q pc lv (.int y :: .int x :: st) := fun ls hl => lv_irem C.1.1 C.1.2.1 hdg hne (kk ls hl)
theorem v_ishr (C : kC own cc nL ret E z) {x y : Int32} (hdg : decode cc pc = .ok (.ishr, 1)) (kk : V z cs H locs Q (pc + 1) lv (.int (x >>> (y &&& 31)) :: st)) : V z cs H locs Q pc lv (.int y :: .int x :: st) := fun ls hl => lv_ishr C.1.1 C.1.2.1 hdg (kk ls hl)
theorem v_lshl (C : kC own cc nL ret E z) {x : Int64} {y : Int32} (hdg : decode cc pc = .ok (.lshl, 1)) (kk : V z cs H locs Q (pc + 1) lv (.long (x <<< (y.toInt64 &&& 63)) :: st)) : V z cs H locs Q pc lv (.int y :: .long x :: st) := fun ls hl => lv_lshl C.1.1 C.1.2.1 hdg rfl (kk ls hl)
theorem v_i2l (C : kC own cc nL ret E z) {x : Int32} (hdg : decode cc pc = .ok (.i2l, 1)) (kk : V z cs H locs Q (pc + 1) lv (.long x.toInt64 :: st)) : V z cs H locs Q pc lv (.int x :: st) := fun ls hl => lv_i2l C.1.1 C.1.2.1 hdg rfl (kk ls hl)
theorem v_dup (C : kC own cc nL ret E z) {a : Value} (ha : a.category = 1) (hdg : decode cc pc = .ok (.dup, 1)) (kk : V z cs H locs Q (pc + 1) lv (a :: a :: st)) : V z cs H locs Q pc lv (a :: st) := fun ls hl => lv_dup C.1.1 C.1.2.1 hdg ha (kk ls hl)
theorem v_dup_x1 (C : kC own cc nL ret E z) {a b : Value} (ha : a.category = 1) (hb : b.category = 1) (hdg : decode cc pc = .ok (.dup_x1, 1)) (kk : V z cs H locs Q (pc + 1) lv (a :: b :: a :: st)) : V z cs H locs Q pc lv (a :: b :: st) := fun ls hl => lv_dup_x1 C.1.1 C.1.2.1 hdg ha hb (kk ls hl)
theorem v_dup2_11 (C : kC own cc nL ret E z) {a b : Value} (ha : a.category = 1) (hb : b.category = 1) (hdg : decode cc pc = .ok (.dup2, 1)) (kk : V z cs H locs Q (pc + 1) lv (a :: b :: a :: b :: st)) : V z cs H locs Q pc lv (a :: b :: st) := fun ls hl => lv_dup2_11 C.1.1 C.1.2.1 hdg ha hb (kk ls hl)
theorem v_lcmp (C : kC own cc nL ret E z) {x y : Int64} (hdg : decode cc pc = .ok (.lcmp, 1)) (kk : V z cs H locs Q (pc + 1) lv (.int (lg_cmp x y) :: st)) : V z cs H locs Q pc lv (.long y :: .long x :: st) := fun ls hl => W.lcmp C.1.1 C.1.2.1 hdg (kk ls hl)
theorem v_goto (C : kC own cc nL ret E z) {off : Int} (tgt : Nat) (hdg : decode cc pc = .ok (.goto off, 3)) (ht : (pc : Int) + off = (tgt : Int)) (kk : V z cs H locs Q tgt lv st) : V z cs H locs Q pc lv st := fun ls hl => lv_goto C.1.1 C.1.2.1 hdg ht (kk ls hl)
theorem v_if_eq (C : kC own cc nL ret E z) {x : Int32} {off : Int} (tgt : Nat) (hdg : decode cc pc = .ok (.ifCond .eq off, 3)) (ht : (pc : Int) + off = (tgt : Int)) (kt : x = 0 → V z cs H locs Q tgt lv st) (kf : ¬ x = 0 → V z cs H locs Q (pc + 3) lv st) : V z cs H locs Q pc lv (.int x :: st) := fun ls hl => lv_if_eq C.1.1 C.1.2.1 hdg ht (fun h => kt h ls hl) (fun h => kf h ls hl)
theorem v_icmp_eq (C : kC own cc nL ret E z) {x y : Int32} {off : Int} (tgt : Nat) (hdg : decode cc pc = .ok (.if_icmp .eq off, 3)) (ht : (pc : Int) + off = (tgt : Int)) (kt : x = y → V z cs H locs Q tgt lv st) (kf : ¬ x = y → V z cs H locs Q (pc + 3) lv st) : V z cs H locs Q pc lv (.int y :: .int x :: st) := fun ls hl => lv_icmp_eq C.1.1 C.1.2.1 hdg ht (fun h => kt h ls hl) (fun h => kf h ls hl)
theorem v_ifl_eq (C : kC own cc nL ret E z) {x y : Int64} {off : Int} (tgt : Nat) (hdg : decode cc pc = .ok (.ifCond .eq off, 3)) (ht : (pc : Int) + off = (tgt : Int)) (kt : x = y → V z cs H locs Q tgt lv st) (kf : ¬ x = y → V z cs H locs Q (pc + 3) lv st) : V z cs H locs Q pc lv (.int (lg_cmp x y) :: st) := fun ls hl => lv_if_eq C.1.1 C.1.2.1 hdg ht (fun h => kt ((lg_cmp_eq x y).mp h) ls hl) (fun h => kf (fun q => h ((lg_cmp_eq x y).mpr q)) ls hl)
theorem v_if_ne (C : kC own cc nL ret E z) {x : Int32} {off : Int} (tgt : Nat) (hdg : decode cc pc = .ok (.ifCond .ne off, 3)) (ht : (pc : Int) + off = (tgt : Int)) (kt : ¬ x = 0 → V z cs H locs Q tgt lv st) (kf : x = 0 → V z cs H locs Q (pc + 3) lv st) : V z cs H locs Q pc lv (.int x :: st) := fun ls hl => lv_if_ne C.1.1 C.1.2.1 hdg ht (fun h => kt h ls hl) (fun h => kf h ls hl)
theorem v_icmp_ne (C : kC own cc nL ret E z) {x y : Int32} {off : Int} (tgt : Nat) (hdg : decode cc pc = .ok (.if_icmp .ne off, 3)) (ht : (pc : Int) + off = (tgt : Int)) (kt : ¬ x = y → V z cs H locs Q tgt lv st) (kf : x = y → V z cs H locs Q (pc + 3) lv st) : V z cs H locs Q pc lv (.int y :: .int x :: st) := fun ls hl => lv_icmp_ne C.1.1 C.1.2.1 hdg ht (fun h => kt h ls hl) (fun h => kf h ls hl)
theorem v_ifl_ne (C : kC own cc nL ret E z) {x y : Int64} {off : Int} (tgt : Nat) (hdg : decode cc pc = .ok (.ifCond .ne off, 3)) (ht : (pc : Int) + off = (tgt : Int)) (kt : ¬ x = y → V z cs H locs Q tgt lv st) (kf : x = y → V z cs H locs Q (pc + 3) lv st) : V z cs H locs Q pc lv (.int (lg_cmp x y) :: st) := fun ls hl => lv_if_ne C.1.1 C.1.2.1 hdg ht (fun h => kt (fun q => h ((lg_cmp_eq x y).mpr q)) ls hl) (fun h => kf ((lg_cmp_eq x y).mp h) ls hl)
theorem v_if_lt (C : kC own cc nL ret E z) {x : Int32} {off : Int} (tgt : Nat) (hdg : decode cc pc = .ok (.ifCond .lt off, 3)) (ht : (pc : Int) + off = (tgt : Int)) (kt : x < 0 → V z cs H locs Q tgt lv st) (kf : ¬ x < 0 → V z cs H locs Q (pc + 3) lv st) : V z cs H locs Q pc lv (.int x :: st) := fun ls hl => lv_if_lt C.1.1 C.1.2.1 hdg ht (fun h => kt h ls hl) (fun h => kf h ls hl)
theorem v_icmp_lt (C : kC own cc nL ret E z) {x y : Int32} {off : Int} (tgt : Nat) (hdg : decode cc pc = .ok (.if_icmp .lt off, 3)) (ht : (pc : Int) + off = (tgt : Int)) (kt : x < y → V z cs H locs Q tgt lv st) (kf : ¬ x < y → V z cs H locs Q (pc + 3) lv st) : V z cs H locs Q pc lv (.int y :: .int x :: st) := fun ls hl => lv_icmp_lt C.1.1 C.1.2.1 hdg ht (fun h => kt h ls hl) (fun h => kf h ls hl)
theorem v_ifl_lt (C : kC own cc nL ret E z) {x y : Int64} {off : Int} (tgt : Nat) (hdg : decode cc pc = .ok (.ifCond .lt off, 3)) (ht : (pc : Int) + off = (tgt : Int)) (kt : x < y → V z cs H locs Q tgt lv st) (kf : ¬ x < y → V z cs H locs Q (pc + 3) lv st) : V z cs H locs Q pc lv (.int (lg_cmp x y) :: st) := fun ls hl => lv_if_lt C.1.1 C.1.2.1 hdg ht (fun h => kt ((lg_cmp_lt x y).mp h) ls hl) (fun h => kf (fun q => h ((lg_cmp_lt x y).mpr q)) ls hl)
theorem v_if_ge (C : kC own cc nL ret E z) {x : Int32} {off : Int} (tgt : Nat) (hdg : decode cc pc = .ok (.ifCond .ge off, 3)) (ht : (pc : Int) + off = (tgt : Int)) (kt : 0 ≤ x → V z cs H locs Q tgt lv st) (kf : ¬ 0 ≤ x → V z cs H locs Q (pc + 3) lv st) : V z cs H locs Q pc lv (.int x :: st) := fun ls hl => lv_if_ge C.1.1 C.1.2.1 hdg ht (fun h => kt h ls hl) (fun h => kf h ls hl)
theorem v_icmp_ge (C : kC own cc nL ret E z) {x y : Int32} {off : Int} (tgt : Nat) (hdg : decode cc pc = .ok (.if_icmp .ge off, 3)) (ht : (pc : Int) + off = (tgt : Int)) (kt : y ≤ x → V z cs H locs Q tgt lv st) (kf : ¬ y ≤ x → V z cs H locs Q (pc + 3) lv st) : V z cs H locs Q pc lv (.int y :: .int x :: st) := fun ls hl => lv_icmp_ge C.1.1 C.1.2.1 hdg ht (fun h => kt h ls hl) (fun h => kf h ls hl)
theorem v_ifl_ge (C : kC own cc nL ret E z) {x y : Int64} {off : Int} (tgt : Nat) (hdg : decode cc pc = .ok (.ifCond .ge off, 3)) (ht : (pc : Int) + off = (tgt : Int)) (kt : y ≤ x → V z cs H locs Q tgt lv st) (kf : ¬ y ≤ x → V z cs H locs Q (pc + 3) lv st) : V z cs H locs Q pc lv (.int (lg_cmp x y) :: st) := fun ls hl => lv_if_ge C.1.1 C.1.2.1 hdg ht (fun h => kt ((lg_cmp_ge x y).mp h) ls hl) (fun h => kf (fun q => h ((lg_cmp_ge x y).mpr q)) ls hl)
theorem v_if_gt (C : kC own cc nL ret E z) {x : Int32} {off : Int} (tgt : Nat) (hdg : decode cc pc = .ok (.ifCond .gt off, 3)) (ht : (pc : Int) + off = (tgt : Int)) (kt : 0 < x → V z cs H locs Q tgt lv st) (kf : ¬ 0 < x → V z cs H locs Q (pc + 3) lv st) : V z cs H locs Q pc lv (.int x :: st) := fun ls hl => lv_if_gt C.1.1 C.1.2.1 hdg ht (fun h => kt h ls hl) (fun h => kf h ls hl)
theorem v_icmp_gt (C : kC own cc nL ret E z) {x y : Int32} {off : Int} (tgt : Nat) (hdg : decode cc pc = .ok (.if_icmp .gt off, 3)) (ht : (pc : Int) + off = (tgt : Int)) (kt : y < x → V z cs H locs Q tgt lv st) (kf : ¬ y < x → V z cs H locs Q (pc + 3) lv st) : V z cs H locs Q pc lv (.int y :: .int x :: st) := fun ls hl => lv_icmp_gt C.1.1 C.1.2.1 hdg ht (fun h => kt h ls hl) (fun h => kf h ls hl)
theorem v_ifl_gt (C : kC own cc nL ret E z) {x y : Int64} {off : Int} (tgt : Nat) (hdg : decode cc pc = .ok (.ifCond .gt off, 3)) (ht : (pc : Int) + off = (tgt : Int)) (kt : y < x → V z cs H locs Q tgt lv st) (kf : ¬ y < x → V z cs H locs Q (pc + 3) lv st) : V z cs H locs Q pc lv (.int (lg_cmp x y) :: st) := fun ls hl => lv_if_gt C.1.1 C.1.2.1 hdg ht (fun h => kt ((lg_cmp_gt x y).mp h) ls hl) (fun h => kf (fun q => h ((lg_cmp_gt x y).mpr q)) ls hl)
theorem v_if_le (C : kC own cc nL ret E z) {x : Int32} {off : Int} (tgt : Nat) (hdg : decode cc pc = .ok (.ifCond .le off, 3)) (ht : (pc : Int) + off = (tgt : Int)) (kt : x ≤ 0 → V z cs H locs Q tgt lv st) (kf : ¬ x ≤ 0 → V z cs H locs Q (pc + 3) lv st) : V z cs H locs Q pc lv (.int x :: st) := fun ls hl => lv_if_le C.1.1 C.1.2.1 hdg ht (fun h => kt h ls hl) (fun h => kf h ls hl)
theorem v_icmp_le (C : kC own cc nL ret E z) {x y : Int32} {off : Int} (tgt : Nat) (hdg : decode cc pc = .ok (.if_icmp .le off, 3)) (ht : (pc : Int) + off = (tgt : Int)) (kt : x ≤ y → V z cs H locs Q tgt lv st) (kf : ¬ x ≤ y → V z cs H locs Q (pc + 3) lv st) : V z cs H locs Q pc lv (.int y :: .int x :: st) := fun ls hl => lv_icmp_le C.1.1 C.1.2.1 hdg ht (fun h => kt h ls hl) (fun h => kf h ls hl)
theorem v_ifl_le (C : kC own cc nL ret E z) {x y : Int64} {off : Int} (tgt : Nat) (hdg : decode cc pc = .ok (.ifCond .le off, 3)) (ht : (pc : Int) + off = (tgt : Int)) (kt : x ≤ y → V z cs H locs Q tgt lv st) (kf : ¬ x ≤ y → V z cs H locs Q (pc + 3) lv st) : V z cs H locs Q pc lv (.int (lg_cmp x y) :: st) := fun ls hl => lv_if_le C.1.1 C.1.2.1 hdg ht (fun h => kt ((lg_cmp_le x y).mp h) ls hl) (fun h => kf (fun q => h ((lg_cmp_le x y).mpr q)) ls hl)
theorem v_sub (ks : List Nat) {lv' : List (Nat × Value)} (hl' : lv_pick lv ks = lv') (kk : V z cs H locs Q pc lv' st) : V z cs H locs Q pc lv st := fun ls hl => kk ls (lv_sub hl ks hl')
theorem v_topi {x : Int32} (kk : ∀ y : Int32, y = x → V z cs H locs Q pc lv (.int y :: st)) : V z cs H locs Q pc lv (.int x :: st) := kk x rfl
theorem v_topl {x : Int64} (kk : ∀ y : Int64, y = x → V z cs H locs Q pc lv (.long y :: st)) : V z cs H locs Q pc lv (.long x :: st) := kk x rfl
theorem v_ei {x y : Int32} (h : x = y) (kk : V z cs H locs Q pc lv (.int y :: st)) : V z cs H locs Q pc lv (.int x :: st) := h ▸ kk
theorem v_el {x y : Int64} (h : x = y) (kk : V z cs H locs Q pc lv (.long y :: st)) : V z cs H locs Q pc lv (.long x :: st) := h ▸ kk
theorem v_el2 {x y : Int64} {w : Value} (h : x = y) (kk : V z cs H locs Q pc lv (w :: .long y :: st)) : V z cs H locs Q pc lv (w :: .long x :: st) := h ▸ kk
theorem v_ei2 {x y : Int32} {w : Value} (h : x = y) (kk : V z cs H locs Q pc lv (w :: .int y :: st)) : V z cs H locs Q pc lv (w :: .int x :: st) := h ▸ kk
theorem v_st {st' : List Value} (h : st = st') (kk : V z cs H locs Q pc lv st') : V z cs H locs Q pc lv st := h ▸ kk
/-- arrays at a place of any world -/
theorem v_iald (C : kC own cc nL ret E z) {w : va_W} (hP : wP E w H) (q0 : Nat) {a n : Nat} {f : Nat → Int32} (ha : w[q0]? = some (a, .inl (E.1, n, .inl f))) {i : Int32} (j : Nat) (hi : i = nI j) (hj : j < n) (hn : n < 2147483648) (hdg : decode cc pc = .ok (.iaload, 1)) (kk : V z cs H locs Q (pc + 1) lv (.int (f j) :: st)) : V z cs H locs Q pc lv (.int i :: .ref a :: st) := by
  subst hi
  intro ls hl
  refine va_iald C.1.1 C.1.2.1 C.2.1 hP q0 0 ha rfl (vp_in_nI hj hn) hdg ?_
  rw [nI_clamp (by omega)]
  exact kk ls hl
theorem v_lald (C : kC own cc nL ret E z) {w : va_W} (hP : wP E w H) (q0 : Nat) {a n : Nat} {f : Nat → Int64} (ha : w[q0]? = some (a, .inl (E.2.1, n, .inr (.inl f)))) {i : Int32} (j : Nat) (hi : i = nI j) (hj : j < n) (hn : n < 2147483648) (hdg : decode cc pc = .ok (.laload, 1)) (kk : V z cs H locs Q (pc + 1) lv (.long (f j) :: st)) : V z cs H locs Q pc lv (.int i :: .ref a :: st) := by
  subst hi
  intro ls hl
  refine va_lald C.1.1 C.1.2.1 C.2.1 hP q0 1 ha rfl (vp_in_nI hj hn) hdg ?_
  rw [nI_clamp (by omega)]
  exact kk ls hl
theorem v_iast (C : kC own cc nL ret E z) {w w' : va_W} (hH : wH E w A z H locs) (q0 : Nat) {a n : Nat} {f : Nat → Int32} (ha : w[q0]? = some (a, .inl (E.1, n, .inl f))) {i v : Int32} (j : Nat) (hi : i = nI j) (hj : j < n) (hn : n < 2147483648) (hdg : decode cc pc = .ok (.iastore, 1)) (hw : w.set q0 (a, .inl (E.1, n, .inl (upd f j v))) = w') (kk : ∀ (H1 : Heap) (locs1 : List Loc), wH E w' A z H1 locs1 → V z cs H1 locs1 Q (pc + 1) lv st) : V z cs H locs Q pc lv (.int v :: .int i :: .ref a :: st) := by
  subst hi
  intro ls hl
  refine va_iast C.1.1 C.1.2.1 C.2.1 hH.1 hH.2.1 hH.2.2.1 q0 0 ha rfl (vp_in_nI hj hn) hdg (fun H1 locs1 h1 h2 h3 => ?_)
  rw [nI_clamp (by omega), hw] at h1 h2
  exact kk H1 locs1 ⟨h1, h2, h3, hH.2.2.2⟩ ls hl
theorem v_last (C : kC own cc nL ret E z) {w w' : va_W} (hH : wH E w A z H locs) (q0 : Nat) {a n : Nat} {f : Nat → Int64} (ha : w[q0]? = some (a, .inl (E.2.1, n, .inr (.inl f)))) {i : Int32} {v : Int64} (j : Nat) (hi : i = nI j) (hj : j < n) (hn : n < 2147483648) (hdg : decode cc pc = .ok (.lastore, 1)) (hw : w.set q0 (a, .inl (E.2.1, n, .inr (.inl (vp_updL f j v)))) = w') (kk : ∀ (H1 : Heap) (locs1 : List Loc), wH E w' A z H1 locs1 → V z cs H1 locs1 Q (pc + 1) lv st) : V z cs H locs Q pc lv (.long v :: .int i :: .ref a :: st) := by
  subst hi
  intro ls hl
  refine va_last C.1.1 C.1.2.1 C.2.1 hH.1 hH.2.1 hH.2.2.1 q0 1 ha rfl (vp_in_nI hj hn) hdg (fun H1 locs1 h1 h2 h3 => ?_)
  rw [nI_clamp (by omega), hw] at h1 h2
  exact kk H1 locs1 ⟨h1, h2, h3, hH.2.2.2⟩ ls hl
/-- ends -/
theorem v_iretR {post : Int32 → Prop} {v : Int32} (C : kC own cc nL (some .int) E z) (hH : H = (zs z).heap) (hp : post v) (hdg : decode cc pc = .ok (.ireturn, 1)) : V z (0, 0) H [] (QRi z post) pc lv [.int v] := fun ls hl => W.iret C.1.1 C.1.2.1 C.2.2.1 (fun t ht hW => ⟨v, rfl, hp, ht.trans hH⟩) (fun q h => by cases h) hdg C.2.2.2
theorem v_zretR {post : Int32 → Prop} {v : Int32} (C : kC own cc nL (some .boolean) E z) (hH : H = (zs z).heap) (hp : post v) (hv : v = 0 ∨ v = 1) (hdg : decode cc pc = .ok (.ireturn, 1)) : V z (0, 0) H [] (QRi z post) pc lv [.int v] := fun ls hl => W.zret C.1.1 C.1.2.1 C.2.2.1 (by rcases hv with rfl | rfl <;> rfl) (fun t ht hW => ⟨v, rfl, hp, ht.trans hH⟩) (fun q h => by cases h) hdg C.2.2.2
theorem v_lretR {post : Int64 → Prop} {v : Int64} (C : kC own cc nL (some .long) E z) (hH : H = (zs z).heap) (hp : post v) (hdg : decode cc pc = .ok (.lreturn, 1)) : V z (0, 0) H [] (QRl z post) pc lv [.long v] := fun ls hl => W.lret C.1.1 C.1.2.1 C.2.2.1 (fun t ht hW => ⟨v, rfl, hp, ht.trans hH⟩) (fun q h => by cases h) hdg C.2.2.2
theorem v_iretW {wf : DS → va_W} {post : Int32 → DS → Prop} {v : Int32} {u : DS} (C : kC own cc nL (some .int) E z) (hH : wH E (wf u) A z H locs) (hp : post v u) (hdg : decode cc pc = .ok (.ireturn, 1)) : V z (0, 0) H locs (QWi z E wf A post) pc lv [.int v] := fun ls hl => W.iret C.1.1 C.1.2.1 C.2.2.1 (fun t ht hW => ⟨⟨v, u, rfl, hp, by rw [ht]; exact hH.1, va_K.moved hW.alike C.2.1, hH.2.1⟩, hH.2.2.1.F ht⟩) hH.2.2.1.2.2 hdg C.2.2.2
theorem v_zretW {wf : DS → va_W} {post : Int32 → DS → Prop} {v : Int32} {u : DS} (C : kC own cc nL (some .boolean) E z) (hH : wH E (wf u) A z H locs) (hp : post v u) (hv : v = 0 ∨ v = 1) (hdg : decode cc pc = .ok (.ireturn, 1)) : V z (0, 0) H locs (QWi z E wf A post) pc lv [.int v] := fun ls hl => W.zret C.1.1 C.1.2.1 C.2.2.1 (by rcases hv with rfl | rfl <;> rfl) (fun t ht hW => ⟨⟨v, u, rfl, hp, by rw [ht]; exact hH.1, va_K.moved hW.alike C.2.1, hH.2.1⟩, hH.2.2.1.F ht⟩) hH.2.2.1.2.2 hdg C.2.2.2
theorem v_vretW {wf : DS → va_W} {post : DS → Prop} {u : DS} (C : kC own cc nL none E z) (hH : wH E (wf u) A z H locs) (hp : post u) (hdg : decode cc pc = .ok (.return_, 1)) : V z (0, 0) H locs (QWv z E wf A post) pc lv [] := fun ls hl => W.vret C.1.1 C.1.2.1 C.2.2.1 (fun t ht hW => ⟨⟨u, rfl, hp, by rw [ht]; exact hH.1, va_K.moved hW.alike C.2.1, hH.2.1⟩, hH.2.2.1.F ht⟩) hH.2.2.1.2.2 hdg C.2.2.2
end VB
theorem MRi.start {l : Launch} {y : MethodName} {own : String} {cc : ByteArray} {nL lev : Nat} {ret : Option FieldType} {E : EE} {w : va_W} {vs : List Value} {post : Int32 → Prop} (hy : plainName y.cls = true) (ho : y.cls = own) (hlen : (lg_sl vs).length ≤ nL)
    (body : ∀ z : ZZ, zl z = l → kC own cc nL ret E z → rmOK lev (0, 0) z → wP E w (zs z).heap → V z (0, 0) (zs z).heap [] (QRi z post) 0 (lv_args 0 vs) []) : MRi l y cc nL ret lev E w vs post := by
  refine Met.ofW (cc := cc) (maxL := nL) (ret := ret) hy rfl ?_
  intro p e s m args below meth c s₁ B hml hv
  obtain ⟨rfl, hP, hK⟩ := hv
  have hts := atoms_spec (ws := ws_ y cc nL ret) B.pre
  have hts : ∀ w ∈ lw_all, w.before _ s = true := fun w h => hts w (List.mem_cons_of_mem _ h)
  have hown : s.vm.findClass own = some m.cls := by rw [← ho]; exact findClass_of_methodNamed B.named
  have hl := lv_entry vs (n := nL) hlen
  rw [lg_entry_eq]
  have K := body (p, l, e, rmK lev, s, m, vs.toArray, below, meth, c) rfl ⟨⟨B.exec, B.bytes, hml, hown, hts⟩, hK, B.returns, B.notSynchronized⟩ ⟨Nat.le_refl _, Nat.le_refl _, Nat.zero_le _, Nat.zero_le _⟩ hP
  exact K _ (by show lv_has _ c.maxLocals _; rw [hml]; exact hl)
theorem MRl.start {l : Launch} {y : MethodName} {own : String} {cc : ByteArray} {nL lev : Nat} {ret : Option FieldType} {E : EE} {w : va_W} {vs : List Value} {post : Int64 → Prop} (hy : plainName y.cls = true) (ho : y.cls = own) (hlen : (lg_sl vs).length ≤ nL)
    (body : ∀ z : ZZ, zl z = l → kC own cc nL ret E z → rmOK lev (0, 0) z → wP E w (zs z).heap → V z (0, 0) (zs z).heap [] (QRl z post) 0 (lv_args 0 vs) []) : MRl l y cc nL ret lev E w vs post := by
  refine Met.ofW (cc := cc) (maxL := nL) (ret := ret) hy rfl ?_
  intro p e s m args below meth c s₁ B hml hv
  obtain ⟨rfl, hP, hK⟩ := hv
  have hts := atoms_spec (ws := ws_ y cc nL ret) B.pre
  have hts : ∀ w ∈ lw_all, w.before _ s = true := fun w h => hts w (List.mem_cons_of_mem _ h)
  have hown : s.vm.findClass own = some m.cls := by rw [← ho]; exact findClass_of_methodNamed B.named
  have hl := lv_entry vs (n := nL) hlen
  rw [lg_entry_eq]
  have K := body (p, l, e, rmK lev, s, m, vs.toArray, below, meth, c) rfl ⟨⟨B.exec, B.bytes, hml, hown, hts⟩, hK, B.returns, B.notSynchronized⟩ ⟨Nat.le_refl _, Nat.le_refl _, Nat.zero_le _, Nat.zero_le _⟩ hP
  exact K _ (by show lv_has _ c.maxLocals _; rw [hml]; exact hl)
theorem MWi.start {l : Launch} {y : MethodName} {own : String} {cc : ByteArray} {nL lev : Nat} {ret : Option FieldType} {E : EE} {wf : DS → va_W} {x : DS} {vs : List Value} {post : Int32 → DS → Prop} (hy : plainName y.cls = true) (ho : y.cls = own) (hlen : (lg_sl vs).length ≤ nL)
    (body : ∀ (z : ZZ) (A : Nat → Prop), zl z = l → kC own cc nL ret E z → rmOK lev (0, 0) z → wH E (wf x) A z (zs z).heap [] → V z (0, 0) (zs z).heap [] (QWi z E wf A post) 0 (lv_args 0 vs) []) : MWi l y cc nL ret lev E wf x vs post := by
  intro sz
  refine Met.ofW (cc := cc) (maxL := nL) (ret := ret) hy rfl ?_
  intro p e s m args below meth c s₁ B hml hv
  obtain ⟨rfl, hsz, hP, hK, hD0⟩ := hv
  subst hsz
  have hts := atoms_spec (ws := ws_ y cc nL ret) B.pre
  have hts : ∀ w ∈ lw_all, w.before _ s = true := fun w h => hts w (List.mem_cons_of_mem _ h)
  have hown : s.vm.findClass own = some m.cls := by rw [← ho]; exact findClass_of_methodNamed B.named
  have hl := lv_entry vs (n := nL) hlen
  rw [lg_entry_eq]
  have K := body (p, l, e, rmK lev, s, m, vs.toArray, below, meth, c) (va_A (wf x) s.heap.size) rfl ⟨⟨B.exec, B.bytes, hml, hown, hts⟩, hK, B.returns, B.notSynchronized⟩ ⟨Nat.le_refl _, Nat.le_refl _, Nat.zero_le _, Nat.zero_le _⟩ ⟨hP, hD0.self, va_S.rf, fun q h => Or.inr h⟩
  exact K _ (by show lv_has _ c.maxLocals _; rw [hml]; exact hl)
theorem MWv.start {l : Launch} {y : MethodName} {own : String} {cc : ByteArray} {nL lev : Nat} {ret : Option FieldType} {E : EE} {wf : DS → va_W} {x : DS} {vs : List Value} {post : DS → Prop} (hy : plainName y.cls = true) (ho : y.cls = own) (hlen : (lg_sl vs).length ≤ nL)
    (body : ∀ (z : ZZ) (A : Nat → Prop), zl z = l → kC own cc nL ret E z → rmOK lev (0, 0) z → wH E (wf x) A z (zs z).heap [] → V z (0, 0) (zs z).heap [] (QWv z E wf A post) 0 (lv_args 0 vs) []) : MWv l y cc nL ret lev E wf x vs post := by
  intro sz
  refine Met.ofW (cc := cc) (maxL := nL) (ret := ret) hy rfl ?_
  intro p e s m args below meth c s₁ B hml hv
  obtain ⟨rfl, hsz, hP, hK, hD0⟩ := hv
  subst hsz
  have hts := atoms_spec (ws := ws_ y cc nL ret) B.pre
  have hts : ∀ w ∈ lw_all, w.before _ s = true := fun w h => hts w (List.mem_cons_of_mem _ h)
  have hown : s.vm.findClass own = some m.cls := by rw [← ho]; exact findClass_of_methodNamed B.named
  have hl := lv_entry vs (n := nL) hlen
  rw [lg_entry_eq]
  have K := body (p, l, e, rmK lev, s, m, vs.toArray, below, meth, c) (va_A (wf x) s.heap.size) rfl ⟨⟨B.exec, B.bytes, hml, hown, hts⟩, hK, B.returns, B.notSynchronized⟩ ⟨Nat.le_refl _, Nat.le_refl _, Nat.zero_le _, Nat.zero_le _⟩ ⟨hP, hD0.self, va_S.rf, fun q h => Or.inr h⟩
  exact K _ (by show lv_has _ c.maxLocals _; rw [hml]; exact hl)
section VC
variable {z : ZZ} {cs : Nat × Nat} {H : Heap} {locs : List Loc} {Q : State → Prop} {pc : Nat} {lv : List (Nat × Value)} {st : List Value} {own : String} {cc : ByteArray} {nL : Nat} {ret : Option FieldType} {E : EE} {A : Nat → Prop}
/-- the rest of a call through an object: words, room -/
theorem v_cw (C : kC own cc nL ret E z) {y : MethodName} {Cn : String} {index maxL lev n : Nat} {bytes : ByteArray} {ret' : Option FieldType} (G : GoodIn lw_all (wsV own index Cn y (ws_ y bytes maxL ret'))) (hd : y.cls = Cn ∧ y.cls ≠ "java/lang/invoke/MethodHandle" ∧ y.cls ≠ "java/lang/invoke/VarHandle" ∧ (parseMethodDescriptor y.desc).map (fun d => d.parameters.length) = some n) (hR : rmOK (lev + 1) cs z) (hm : maxL ≤ 21) : CallW (zR z) (zs z) (za z) own Cn index y bytes maxL ret' (ws_ y bytes maxL ret') (rmK lev) 0 0 n := by
  obtain ⟨h1, h2, -⟩ := hR
  exact cwV n C.1.2.2.2.2 G rfl rfl rfl hd ⟨h1, by show 8 + (maxL + 11) + 40 * lev ≤ _; omega⟩
theorem rP_blind {E : EE} {w : va_W} {vs : List Value} : FrameBlind (va_Pc vs (rP E w)) := fun a U g mk q => ⟨q.1, q.2.1, va_K.moved (u := U) (U := U.calling g mk a) (Vm.Alike.refl U.vm) q.2.2⟩
theorem mP_blind {E : EE} {w : va_W} {vs : List Value} {sz : Nat} : FrameBlind (va_Pc vs (mP E w sz)) := fun a U g mk q => ⟨q.1, q.2.1, q.2.2.1, va_K.moved (u := U) (U := U.calling g mk a) (Vm.Alike.refl U.vm) q.2.2.2.1, q.2.2.2.2⟩
theorem v_callRi (C : kC own cc nL ret E z) {y : MethodName} {index maxL lev n ci : Nat} {bytes : ByteArray} {ret' : Option FieldType} {w : va_W} {b : Nat} {As rest fs : List Value} {vC : vw_C} {post : Int32 → Prop} (hM : MRi (zl z) y bytes maxL ret' lev E w (.ref b :: As) post) (G : GoodIn lw_all (wsV own index vC.1 y (ws_ y bytes maxL ret'))) (hd : y.cls = vC.1 ∧ y.cls ≠ "java/lang/invoke/MethodHandle" ∧ y.cls ≠ "java/lang/invoke/VarHandle" ∧ (parseMethodDescriptor y.desc).map (fun d => d.parameters.length) = some n) (hR : rmOK (lev + 1) cs z) (hm : maxL ≤ 21) (hP : wP E w H) (hc : vwCl[ci]? = some vC) (he : w[0]? = some (b, .inr (ci, fs)))
    (hst : st = As.reverse ++ .ref b :: rest) (hr : (rest.map fun v => v.category).sum ≤ 8) (hn : As.length = n) (hdg : decode cc pc = .ok (.invokevirtual index, 3)) (kk : ∀ r : Int32, post r → V z cs H locs Q (pc + 3) lv (.int r :: rest)) : V z cs H locs Q pc lv st := by
  intro ls hl
  refine vp_callSi (W.runV C.1 hM (v_cw C G hd hR hm) ⟨rP_blind, va_recv C.2.1 hP hc he, fun U hU hW => ⟨rfl, by rw [hU]; exact hP, va_K.moved hW.alike C.2.1⟩⟩ rfl hn (hl.1.trans C.1.2.2.1) hst (lv_room hr) hdg ⟨hR.2.2.1, hR.2.2.2⟩) (fun r h => kk r h ls hl)
theorem v_callRl (C : kC own cc nL ret E z) {y : MethodName} {index maxL lev n ci : Nat} {bytes : ByteArray} {ret' : Option FieldType} {w : va_W} {b : Nat} {As rest fs : List Value} {vC : vw_C} {post : Int64 → Prop} (hM : MRl (zl z) y bytes maxL ret' lev E w (.ref b :: As) post) (G : GoodIn lw_all (wsV own index vC.1 y (ws_ y bytes maxL ret'))) (hd : y.cls = vC.1 ∧ y.cls ≠ "java/lang/invoke/MethodHandle" ∧ y.cls ≠ "java/lang/invoke/VarHandle" ∧ (parseMethodDescriptor y.desc).map (fun d => d.parameters.length) = some n) (hR : rmOK (lev + 1) cs z) (hm : maxL ≤ 21) (hP : wP E w H) (hc : vwCl[ci]? = some vC) (he : w[0]? = some (b, .inr (ci, fs)))
    (hst : st = As.reverse ++ .ref b :: rest) (hr : (rest.map fun v => v.category).sum ≤ 8) (hn : As.length = n) (hdg : decode cc pc = .ok (.invokevirtual index, 3)) (kk : ∀ r : Int64, post r → V z cs H locs Q (pc + 3) lv (.long r :: rest)) : V z cs H locs Q pc lv st := by
  intro ls hl
  refine vp_callSl (W.runV C.1 hM (v_cw C G hd hR hm) ⟨rP_blind, va_recv C.2.1 hP hc he, fun U hU hW => ⟨rfl, by rw [hU]; exact hP, va_K.moved hW.alike C.2.1⟩⟩ rfl hn (hl.1.trans C.1.2.2.1) hst (lv_room hr) hdg ⟨hR.2.2.1, hR.2.2.2⟩) (fun r h => kk r h ls hl)
theorem v_callWi (C : kC own cc nL ret E z) {y : MethodName} {index maxL lev n ci : Nat} {bytes : ByteArray} {ret' : Option FieldType} {wf : DS → va_W} {x : DS} {b : Nat} {As rest fs : List Value} {vC : vw_C} {post : Int32 → DS → Prop} (hM : MWi (zl z) y bytes maxL ret' lev E wf x (.ref b :: As) post) (G : GoodIn lw_all (wsV own index vC.1 y (ws_ y bytes maxL ret'))) (hd : y.cls = vC.1 ∧ y.cls ≠ "java/lang/invoke/MethodHandle" ∧ y.cls ≠ "java/lang/invoke/VarHandle" ∧ (parseMethodDescriptor y.desc).map (fun d => d.parameters.length) = some n) (hR : rmOK (lev + 1) cs z) (hm : maxL ≤ 21) (hH : wH E (wf x) A z H locs) (hc : vwCl[ci]? = some vC) (he : (wf x)[0]? = some (b, .inr (ci, fs)))
    (hst : st = As.reverse ++ .ref b :: rest) (hr : (rest.map fun v => v.category).sum ≤ 8) (hn : As.length = n) (hdg : decode cc pc = .ok (.invokevirtual index, 3)) (kk : ∀ (r : Int32) (u : DS) (H1 : Heap) (locs1 : List Loc), post r u → wH E (wf u) A z H1 locs1 → V z cs H1 locs1 Q (pc + 3) lv (.int r :: rest)) : V z cs H locs Q pc lv st := by
  intro ls hl
  subst hst
  obtain ⟨hP, hD, hS, hA⟩ := hH
  have hFc : ∀ q, va_A (wf x) H.size q → A q := by
    intro q h
    rcases h with ⟨k, e, h⟩ | h
    · exact hD.2 k (q, e) h
    · exact hA q (Nat.le_trans hS.1 h)
  refine va_calli (va_runV (rest := rest) C.1 (hM H.size) (v_cw C G hd hR hm) ⟨mP_blind, va_recv C.2.1 hP hc he, fun U hU hW => ⟨rfl, by rw [hU], by rw [hU]; exact hP, va_K.moved hW.alike C.2.1, hD.weaken (fun _ _ _ _ => trivial)⟩⟩ rfl hn (hl.1.trans C.1.2.2.1) rfl (lv_room hr) hdg ⟨hR.2.2.1, hR.2.2.2⟩) hS (fun q _ h => hFc q h) hFc (fun r u t H1 locs1 ht hvm hw1 hB hz1 hk1 hS1 => ?_)
  obtain ⟨hP1, hK1, hD1⟩ := hB
  rw [ht] at hP1
  exact kk r u H1 locs1 hw1 ⟨hP1, hD1.weaken (fun k q _ h => hFc q.1 h), hS1, hA⟩ ls hl
theorem v_callWv (C : kC own cc nL ret E z) {y : MethodName} {index maxL lev n ci : Nat} {bytes : ByteArray} {ret' : Option FieldType} {wf : DS → va_W} {x : DS} {b : Nat} {As rest fs : List Value} {vC : vw_C} {post : DS → Prop} (hM : MWv (zl z) y bytes maxL ret' lev E wf x (.ref b :: As) post) (G : GoodIn lw_all (wsV own index vC.1 y (ws_ y bytes maxL ret'))) (hd : y.cls = vC.1 ∧ y.cls ≠ "java/lang/invoke/MethodHandle" ∧ y.cls ≠ "java/lang/invoke/VarHandle" ∧ (parseMethodDescriptor y.desc).map (fun d => d.parameters.length) = some n) (hR : rmOK (lev + 1) cs z) (hm : maxL ≤ 21) (hH : wH E (wf x) A z H locs) (hc : vwCl[ci]? = some vC) (he : (wf x)[0]? = some (b, .inr (ci, fs)))
    (hst : st = As.reverse ++ .ref b :: rest) (hr : (rest.map fun v => v.category).sum ≤ 8) (hn : As.length = n) (hdg : decode cc pc = .ok (.invokevirtual index, 3)) (kk : ∀ (u : DS) (H1 : Heap) (locs1 : List Loc), post u → wH E (wf u) A z H1 locs1 → V z cs H1 locs1 Q (pc + 3) lv (rest)) : V z cs H locs Q pc lv st := by
  intro ls hl
  subst hst
  obtain ⟨hP, hD, hS, hA⟩ := hH
  have hFc : ∀ q, va_A (wf x) H.size q → A q := by
    intro q h
    rcases h with ⟨k, e, h⟩ | h
    · exact hD.2 k (q, e) h
    · exact hA q (Nat.le_trans hS.1 h)
  refine va_callv (va_runV (rest := rest) C.1 (hM H.size) (v_cw C G hd hR hm) ⟨mP_blind, va_recv C.2.1 hP hc he, fun U hU hW => ⟨rfl, by rw [hU], by rw [hU]; exact hP, va_K.moved hW.alike C.2.1, hD.weaken (fun _ _ _ _ => trivial)⟩⟩ rfl hn (hl.1.trans C.1.2.2.1) rfl (lv_room hr) hdg ⟨hR.2.2.1, hR.2.2.2⟩) hS (fun q _ h => hFc q h) hFc (fun u t H1 locs1 ht hvm hw1 hB hz1 hk1 hS1 => ?_)
  obtain ⟨hP1, hK1, hD1⟩ := hB
  rw [ht] at hP1
  exact kk u H1 locs1 hw1 ⟨hP1, hD1.weaken (fun k q _ h => hFc q.1 h), hS1, hA⟩ ls hl
end VC
section FX1
variable {z : ZZ} {cs : Nat × Nat} {H : Heap} {locs : List Loc} {Q : State → Prop} {pc : Nat} {lv : List (Nat × Value)} {st : List Value} {cc : ByteArray} {nL : Nat} {ret : Option FieldType} {E : EE} {A : Nat → Prop} {g : GG} {x : DS}
theorem kg0 (C : kC RX1 cc nL ret E z) (hP : wP E (kW E g x) H) (hdg : decode cc pc = .ok (.getfield 75, 3)) (kk : V z cs H locs Q (pc + 3) lv (.int (sI x 0) :: st)) : V z cs H locs Q pc lv (.ref g.1 :: st) := fun ls hl => va_get (D := E.2.2) (ci := 0) (v := .int (sI x 0)) (C := RX1) (T := TX1) (N := 29) C.1.1 C.1.2.1 C.1.2.2.2.2 in_X1 C.1.2.2.2.1 C.2.1 hP 0 rfl rfl 0 (by decide) (C.1.2.2.2.2 _ q38) (fun _ h9 => h9) rfl hdg (kk ls hl)
theorem kg1 (C : kC RX1 cc nL ret E z) (hP : wP E (kW E g x) H) (hdg : decode cc pc = .ok (.getfield 9, 3)) (kk : V z cs H locs Q (pc + 3) lv (.ref (g.2 1) :: st)) : V z cs H locs Q pc lv (.ref g.1 :: st) := fun ls hl => va_get (D := E.2.2) (ci := 0) (v := .ref (g.2 1)) (C := RX1) (T := TX1) (N := 29) C.1.1 C.1.2.1 C.1.2.2.2.2 in_X1 C.1.2.2.2.1 C.2.1 hP 0 rfl rfl 1 (by decide) (C.1.2.2.2.2 _ q39) (fun _ h9 => h9) rfl hdg (kk ls hl)
theorem ka1 (C : kC RX1 cc nL ret E z) {i : Int32} (j : Nat) (hP : wP E (kW E g x) H) (hi : i = nI j) (hj : j < 2000) (hdg : decode cc pc = .ok (.iaload, 1)) (kk : V z cs H locs Q (pc + 1) lv (.int (sA x 1 j) :: st)) : V z cs H locs Q pc lv (.int i :: .ref (g.2 1) :: st) := v_iald C hP 1 rfl j hi hj (by decide) hdg kk
theorem ks1 (C : kC RX1 cc nL ret E z) {i v : Int32} (j : Nat) (hH : wH E (kW E g x) A z H locs) (hi : i = nI j) (hj : j < 2000) (hdg : decode cc pc = .ok (.iastore, 1)) (kk : ∀ (H1 : Heap) (locs1 : List Loc), wH E (kW E g (pA x 1 j v)) A z H1 locs1 → V z cs H1 locs1 Q (pc + 1) lv st) : V z cs H locs Q pc lv (.int v :: .int i :: .ref (g.2 1) :: st) := v_iast C hH 1 rfl j hi hj (by decide) hdg rfl kk
theorem kg2 (C : kC RX1 cc nL ret E z) (hP : wP E (kW E g x) H) (hdg : decode cc pc = .ok (.getfield 13, 3)) (kk : V z cs H locs Q (pc + 3) lv (.ref (g.2 2) :: st)) : V z cs H locs Q pc lv (.ref g.1 :: st) := fun ls hl => va_get (D := E.2.2) (ci := 0) (v := .ref (g.2 2)) (C := RX1) (T := TX1) (N := 29) C.1.1 C.1.2.1 C.1.2.2.2.2 in_X1 C.1.2.2.2.1 C.2.1 hP 0 rfl rfl 2 (by decide) (C.1.2.2.2.2 _ q40) (fun _ h9 => h9) rfl hdg (kk ls hl)
theorem ka2 (C : kC RX1 cc nL ret E z) {i : Int32} (j : Nat) (hP : wP E (kW E g x) H) (hi : i = nI j) (hj : j < 2000) (hdg : decode cc pc = .ok (.iaload, 1)) (kk : V z cs H locs Q (pc + 1) lv (.int (sA x 2 j) :: st)) : V z cs H locs Q pc lv (.int i :: .ref (g.2 2) :: st) := v_iald C hP 2 rfl j hi hj (by decide) hdg kk
theorem ks2 (C : kC RX1 cc nL ret E z) {i v : Int32} (j : Nat) (hH : wH E (kW E g x) A z H locs) (hi : i = nI j) (hj : j < 2000) (hdg : decode cc pc = .ok (.iastore, 1)) (kk : ∀ (H1 : Heap) (locs1 : List Loc), wH E (kW E g (pA x 2 j v)) A z H1 locs1 → V z cs H1 locs1 Q (pc + 1) lv st) : V z cs H locs Q pc lv (.int v :: .int i :: .ref (g.2 2) :: st) := v_iast C hH 2 rfl j hi hj (by decide) hdg rfl kk
theorem kg3 (C : kC RX1 cc nL ret E z) (hP : wP E (kW E g x) H) (hdg : decode cc pc = .ok (.getfield 16, 3)) (kk : V z cs H locs Q (pc + 3) lv (.ref (g.2 3) :: st)) : V z cs H locs Q pc lv (.ref g.1 :: st) := fun ls hl => va_get (D := E.2.2) (ci := 0) (v := .ref (g.2 3)) (C := RX1) (T := TX1) (N := 29) C.1.1 C.1.2.1 C.1.2.2.2.2 in_X1 C.1.2.2.2.1 C.2.1 hP 0 rfl rfl 3 (by decide) (C.1.2.2.2.2 _ q41) (fun _ h9 => h9) rfl hdg (kk ls hl)
theorem ka3 (C : kC RX1 cc nL ret E z) {i : Int32} (j : Nat) (hP : wP E (kW E g x) H) (hi : i = nI j) (hj : j < 2000) (hdg : decode cc pc = .ok (.iaload, 1)) (kk : V z cs H locs Q (pc + 1) lv (.int (sA x 3 j) :: st)) : V z cs H locs Q pc lv (.int i :: .ref (g.2 3) :: st) := v_iald C hP 3 rfl j hi hj (by decide) hdg kk
theorem ks3 (C : kC RX1 cc nL ret E z) {i v : Int32} (j : Nat) (hH : wH E (kW E g x) A z H locs) (hi : i = nI j) (hj : j < 2000) (hdg : decode cc pc = .ok (.iastore, 1)) (kk : ∀ (H1 : Heap) (locs1 : List Loc), wH E (kW E g (pA x 3 j v)) A z H1 locs1 → V z cs H1 locs1 Q (pc + 1) lv st) : V z cs H locs Q pc lv (.int v :: .int i :: .ref (g.2 3) :: st) := v_iast C hH 3 rfl j hi hj (by decide) hdg rfl kk
theorem kg4 (C : kC RX1 cc nL ret E z) (hP : wP E (kW E g x) H) (hdg : decode cc pc = .ok (.getfield 19, 3)) (kk : V z cs H locs Q (pc + 3) lv (.ref (g.2 4) :: st)) : V z cs H locs Q pc lv (.ref g.1 :: st) := fun ls hl => va_get (D := E.2.2) (ci := 0) (v := .ref (g.2 4)) (C := RX1) (T := TX1) (N := 29) C.1.1 C.1.2.1 C.1.2.2.2.2 in_X1 C.1.2.2.2.1 C.2.1 hP 0 rfl rfl 4 (by decide) (C.1.2.2.2.2 _ q42) (fun _ h9 => h9) rfl hdg (kk ls hl)
theorem ka4 (C : kC RX1 cc nL ret E z) {i : Int32} (j : Nat) (hP : wP E (kW E g x) H) (hi : i = nI j) (hj : j < 2000) (hdg : decode cc pc = .ok (.iaload, 1)) (kk : V z cs H locs Q (pc + 1) lv (.int (sA x 4 j) :: st)) : V z cs H locs Q pc lv (.int i :: .ref (g.2 4) :: st) := v_iald C hP 4 rfl j hi hj (by decide) hdg kk
theorem ks4 (C : kC RX1 cc nL ret E z) {i v : Int32} (j : Nat) (hH : wH E (kW E g x) A z H locs) (hi : i = nI j) (hj : j < 2000) (hdg : decode cc pc = .ok (.iastore, 1)) (kk : ∀ (H1 : Heap) (locs1 : List Loc), wH E (kW E g (pA x 4 j v)) A z H1 locs1 → V z cs H1 locs1 Q (pc + 1) lv st) : V z cs H locs Q pc lv (.int v :: .int i :: .ref (g.2 4) :: st) := v_iast C hH 4 rfl j hi hj (by decide) hdg rfl kk
theorem kg5 (C : kC RX1 cc nL ret E z) (hP : wP E (kW E g x) H) (hdg : decode cc pc = .ok (.getfield 22, 3)) (kk : V z cs H locs Q (pc + 3) lv (.ref (g.2 5) :: st)) : V z cs H locs Q pc lv (.ref g.1 :: st) := fun ls hl => va_get (D := E.2.2) (ci := 0) (v := .ref (g.2 5)) (C := RX1) (T := TX1) (N := 29) C.1.1 C.1.2.1 C.1.2.2.2.2 in_X1 C.1.2.2.2.1 C.2.1 hP 0 rfl rfl 5 (by decide) (C.1.2.2.2.2 _ q43) (fun _ h9 => h9) rfl hdg (kk ls hl)
theorem ka5 (C : kC RX1 cc nL ret E z) {i : Int32} (j : Nat) (hP : wP E (kW E g x) H) (hi : i = nI j) (hj : j < 2000) (hdg : decode cc pc = .ok (.iaload, 1)) (kk : V z cs H locs Q (pc + 1) lv (.int (sA x 5 j) :: st)) : V z cs H locs Q pc lv (.int i :: .ref (g.2 5) :: st) := v_iald C hP 5 rfl j hi hj (by decide) hdg kk
theorem ks5 (C : kC RX1 cc nL ret E z) {i v : Int32} (j : Nat) (hH : wH E (kW E g x) A z H locs) (hi : i = nI j) (hj : j < 2000) (hdg : decode cc pc = .ok (.iastore, 1)) (kk : ∀ (H1 : Heap) (locs1 : List Loc), wH E (kW E g (pA x 5 j v)) A z H1 locs1 → V z cs H1 locs1 Q (pc + 1) lv st) : V z cs H locs Q pc lv (.int v :: .int i :: .ref (g.2 5) :: st) := v_iast C hH 5 rfl j hi hj (by decide) hdg rfl kk
theorem kg6 (C : kC RX1 cc nL ret E z) (hP : wP E (kW E g x) H) (hdg : decode cc pc = .ok (.getfield 25, 3)) (kk : V z cs H locs Q (pc + 3) lv (.ref (g.2 6) :: st)) : V z cs H locs Q pc lv (.ref g.1 :: st) := fun ls hl => va_get (D := E.2.2) (ci := 0) (v := .ref (g.2 6)) (C := RX1) (T := TX1) (N := 29) C.1.1 C.1.2.1 C.1.2.2.2.2 in_X1 C.1.2.2.2.1 C.2.1 hP 0 rfl rfl 6 (by decide) (C.1.2.2.2.2 _ q44) (fun _ h9 => h9) rfl hdg (kk ls hl)
theorem ka6 (C : kC RX1 cc nL ret E z) {i : Int32} (j : Nat) (hP : wP E (kW E g x) H) (hi : i = nI j) (hj : j < 2000) (hdg : decode cc pc = .ok (.iaload, 1)) (kk : V z cs H locs Q (pc + 1) lv (.int (sA x 6 j) :: st)) : V z cs H locs Q pc lv (.int i :: .ref (g.2 6) :: st) := v_iald C hP 6 rfl j hi hj (by decide) hdg kk
theorem ks6 (C : kC RX1 cc nL ret E z) {i v : Int32} (j : Nat) (hH : wH E (kW E g x) A z H locs) (hi : i = nI j) (hj : j < 2000) (hdg : decode cc pc = .ok (.iastore, 1)) (kk : ∀ (H1 : Heap) (locs1 : List Loc), wH E (kW E g (pA x 6 j v)) A z H1 locs1 → V z cs H1 locs1 Q (pc + 1) lv st) : V z cs H locs Q pc lv (.int v :: .int i :: .ref (g.2 6) :: st) := v_iast C hH 6 rfl j hi hj (by decide) hdg rfl kk
theorem kg7 (C : kC RX1 cc nL ret E z) (hP : wP E (kW E g x) H) (hdg : decode cc pc = .ok (.getfield 28, 3)) (kk : V z cs H locs Q (pc + 3) lv (.ref (g.2 7) :: st)) : V z cs H locs Q pc lv (.ref g.1 :: st) := fun ls hl => va_get (D := E.2.2) (ci := 0) (v := .ref (g.2 7)) (C := RX1) (T := TX1) (N := 29) C.1.1 C.1.2.1 C.1.2.2.2.2 in_X1 C.1.2.2.2.1 C.2.1 hP 0 rfl rfl 7 (by decide) (C.1.2.2.2.2 _ q45) (fun _ h9 => h9) rfl hdg (kk ls hl)
theorem ka7 (C : kC RX1 cc nL ret E z) {i : Int32} (j : Nat) (hP : wP E (kW E g x) H) (hi : i = nI j) (hj : j < 2000) (hdg : decode cc pc = .ok (.iaload, 1)) (kk : V z cs H locs Q (pc + 1) lv (.int (sA x 7 j) :: st)) : V z cs H locs Q pc lv (.int i :: .ref (g.2 7) :: st) := v_iald C hP 7 rfl j hi hj (by decide) hdg kk
theorem ks7 (C : kC RX1 cc nL ret E z) {i v : Int32} (j : Nat) (hH : wH E (kW E g x) A z H locs) (hi : i = nI j) (hj : j < 2000) (hdg : decode cc pc = .ok (.iastore, 1)) (kk : ∀ (H1 : Heap) (locs1 : List Loc), wH E (kW E g (pA x 7 j v)) A z H1 locs1 → V z cs H1 locs1 Q (pc + 1) lv st) : V z cs H locs Q pc lv (.int v :: .int i :: .ref (g.2 7) :: st) := v_iast C hH 7 rfl j hi hj (by decide) hdg rfl kk
theorem kg8 (C : kC RX1 cc nL ret E z) (hP : wP E (kW E g x) H) (hdg : decode cc pc = .ok (.getfield 31, 3)) (kk : V z cs H locs Q (pc + 3) lv (.ref (g.2 8) :: st)) : V z cs H locs Q pc lv (.ref g.1 :: st) := fun ls hl => va_get (D := E.2.2) (ci := 0) (v := .ref (g.2 8)) (C := RX1) (T := TX1) (N := 29) C.1.1 C.1.2.1 C.1.2.2.2.2 in_X1 C.1.2.2.2.1 C.2.1 hP 0 rfl rfl 8 (by decide) (C.1.2.2.2.2 _ q46) (fun _ h9 => h9) rfl hdg (kk ls hl)
theorem ka8 (C : kC RX1 cc nL ret E z) {i : Int32} (j : Nat) (hP : wP E (kW E g x) H) (hi : i = nI j) (hj : j < 2000) (hdg : decode cc pc = .ok (.iaload, 1)) (kk : V z cs H locs Q (pc + 1) lv (.int (sA x 8 j) :: st)) : V z cs H locs Q pc lv (.int i :: .ref (g.2 8) :: st) := v_iald C hP 8 rfl j hi hj (by decide) hdg kk
theorem ks8 (C : kC RX1 cc nL ret E z) {i v : Int32} (j : Nat) (hH : wH E (kW E g x) A z H locs) (hi : i = nI j) (hj : j < 2000) (hdg : decode cc pc = .ok (.iastore, 1)) (kk : ∀ (H1 : Heap) (locs1 : List Loc), wH E (kW E g (pA x 8 j v)) A z H1 locs1 → V z cs H1 locs1 Q (pc + 1) lv st) : V z cs H locs Q pc lv (.int v :: .int i :: .ref (g.2 8) :: st) := v_iast C hH 8 rfl j hi hj (by decide) hdg rfl kk
theorem kg9 (C : kC RX1 cc nL ret E z) (hP : wP E (kW E g x) H) (hdg : decode cc pc = .ok (.getfield 34, 3)) (kk : V z cs H locs Q (pc + 3) lv (.int (sI x 9) :: st)) : V z cs H locs Q pc lv (.ref g.1 :: st) := fun ls hl => va_get (D := E.2.2) (ci := 0) (v := .int (sI x 9)) (C := RX1) (T := TX1) (N := 29) C.1.1 C.1.2.1 C.1.2.2.2.2 in_X1 C.1.2.2.2.1 C.2.1 hP 0 rfl rfl 9 (by decide) (C.1.2.2.2.2 _ q47) (fun _ h9 => h9) rfl hdg (kk ls hl)
theorem kp9 (C : kC RX1 cc nL ret E z) {v : Int32} (hH : wH E (kW E g x) A z H locs) (hdg : decode cc pc = .ok (.putfield 34, 3)) (kk : ∀ (H1 : Heap) (locs1 : List Loc), wH E (kW E g (pI x 9 v)) A z H1 locs1 → V z cs H1 locs1 Q (pc + 3) lv st) : V z cs H locs Q pc lv (.int v :: .ref g.1 :: st) := fun ls hl => va_put (D := E.2.2) (ci := 0) (v := .int v) (ty := .int) (C := RX1) (T := TX1) (N := 29) C.1.1 C.1.2.1 C.1.2.2.2.2 in_X1 tyX1 tyX1_ok nmX1 C.1.2.2.2.1 C.2.1 hH.1 hH.2.1 hH.2.2.1 0 rfl rfl 9 (by decide) (C.1.2.2.2.2 _ q47) (fun _ h9 => h9) rfl (by decide +kernel) rfl rfl (Nat.le_of_ble_eq_true rfl) hdg (fun H1 locs1 h1 h2 h3 => kk H1 locs1 ⟨h1, h2, h3, hH.2.2.2⟩ ls hl)
theorem kg10 (C : kC RX1 cc nL ret E z) (hP : wP E (kW E g x) H) (hdg : decode cc pc = .ok (.getfield 82, 3)) (kk : V z cs H locs Q (pc + 3) lv (.int (sI x 10) :: st)) : V z cs H locs Q pc lv (.ref g.1 :: st) := fun ls hl => va_get (D := E.2.2) (ci := 0) (v := .int (sI x 10)) (C := RX1) (T := TX1) (N := 29) C.1.1 C.1.2.1 C.1.2.2.2.2 in_X1 C.1.2.2.2.1 C.2.1 hP 0 rfl rfl 10 (by decide) (C.1.2.2.2.2 _ q48) (fun _ h9 => h9) rfl hdg (kk ls hl)
theorem kp10 (C : kC RX1 cc nL ret E z) {v : Int32} (hH : wH E (kW E g x) A z H locs) (hn : v = 0 ∨ v = 1) (hdg : decode cc pc = .ok (.putfield 82, 3)) (kk : ∀ (H1 : Heap) (locs1 : List Loc), wH E (kW E g (pI x 10 v)) A z H1 locs1 → V z cs H1 locs1 Q (pc + 3) lv st) : V z cs H locs Q pc lv (.int v :: .ref g.1 :: st) := fun ls hl => va_put (D := E.2.2) (ci := 0) (v := .int v) (ty := .boolean) (C := RX1) (T := TX1) (N := 29) C.1.1 C.1.2.1 C.1.2.2.2.2 in_X1 tyX1 tyX1_ok nmX1 C.1.2.2.2.1 C.2.1 hH.1 hH.2.1 hH.2.2.1 0 rfl rfl 10 (by decide) (C.1.2.2.2.2 _ q48) (fun _ h9 => h9) rfl (by decide +kernel) (by rcases hn with rfl | rfl <;> rfl) (by rcases hn with rfl | rfl <;> rfl) (Nat.le_of_ble_eq_true rfl) hdg (fun H1 locs1 h1 h2 h3 => kk H1 locs1 ⟨h1, h2, h3, hH.2.2.2⟩ ls hl)
theorem kg11 (C : kC RX1 cc nL ret E z) (hP : wP E (kW E g x) H) (hdg : decode cc pc = .ok (.getfield 38, 3)) (kk : V z cs H locs Q (pc + 3) lv (.ref (g.2 11) :: st)) : V z cs H locs Q pc lv (.ref g.1 :: st) := fun ls hl => va_get (D := E.2.2) (ci := 0) (v := .ref (g.2 11)) (C := RX1) (T := TX1) (N := 29) C.1.1 C.1.2.1 C.1.2.2.2.2 in_X1 C.1.2.2.2.1 C.2.1 hP 0 rfl rfl 11 (by decide) (C.1.2.2.2.2 _ q49) (fun _ h9 => h9) rfl hdg (kk ls hl)
theorem ka11 (C : kC RX1 cc nL ret E z) {i : Int32} (j : Nat) (hP : wP E (kW E g x) H) (hi : i = nI j) (hj : j < 60) (hdg : decode cc pc = .ok (.iaload, 1)) (kk : V z cs H locs Q (pc + 1) lv (.int (sA x 11 j) :: st)) : V z cs H locs Q pc lv (.int i :: .ref (g.2 11) :: st) := v_iald C hP 9 rfl j hi hj (by decide) hdg kk
theorem ks11 (C : kC RX1 cc nL ret E z) {i v : Int32} (j : Nat) (hH : wH E (kW E g x) A z H locs) (hi : i = nI j) (hj : j < 60) (hdg : decode cc pc = .ok (.iastore, 1)) (kk : ∀ (H1 : Heap) (locs1 : List Loc), wH E (kW E g (pA x 11 j v)) A z H1 locs1 → V z cs H1 locs1 Q (pc + 1) lv st) : V z cs H locs Q pc lv (.int v :: .int i :: .ref (g.2 11) :: st) := v_iast C hH 9 rfl j hi hj (by decide) hdg rfl kk
theorem kg12 (C : kC RX1 cc nL ret E z) (hP : wP E (kW E g x) H) (hdg : decode cc pc = .ok (.getfield 41, 3)) (kk : V z cs H locs Q (pc + 3) lv (.ref (g.2 12) :: st)) : V z cs H locs Q pc lv (.ref g.1 :: st) := fun ls hl => va_get (D := E.2.2) (ci := 0) (v := .ref (g.2 12)) (C := RX1) (T := TX1) (N := 29) C.1.1 C.1.2.1 C.1.2.2.2.2 in_X1 C.1.2.2.2.1 C.2.1 hP 0 rfl rfl 12 (by decide) (C.1.2.2.2.2 _ q50) (fun _ h9 => h9) rfl hdg (kk ls hl)
theorem ka12 (C : kC RX1 cc nL ret E z) {i : Int32} (j : Nat) (hP : wP E (kW E g x) H) (hi : i = nI j) (hj : j < 60) (hdg : decode cc pc = .ok (.iaload, 1)) (kk : V z cs H locs Q (pc + 1) lv (.int (sA x 12 j) :: st)) : V z cs H locs Q pc lv (.int i :: .ref (g.2 12) :: st) := v_iald C hP 10 rfl j hi hj (by decide) hdg kk
theorem ks12 (C : kC RX1 cc nL ret E z) {i v : Int32} (j : Nat) (hH : wH E (kW E g x) A z H locs) (hi : i = nI j) (hj : j < 60) (hdg : decode cc pc = .ok (.iastore, 1)) (kk : ∀ (H1 : Heap) (locs1 : List Loc), wH E (kW E g (pA x 12 j v)) A z H1 locs1 → V z cs H1 locs1 Q (pc + 1) lv st) : V z cs H locs Q pc lv (.int v :: .int i :: .ref (g.2 12) :: st) := v_iast C hH 10 rfl j hi hj (by decide) hdg rfl kk
theorem kg13 (C : kC RX1 cc nL ret E z) (hP : wP E (kW E g x) H) (hdg : decode cc pc = .ok (.getfield 44, 3)) (kk : V z cs H locs Q (pc + 3) lv (.ref (g.2 13) :: st)) : V z cs H locs Q pc lv (.ref g.1 :: st) := fun ls hl => va_get (D := E.2.2) (ci := 0) (v := .ref (g.2 13)) (C := RX1) (T := TX1) (N := 29) C.1.1 C.1.2.1 C.1.2.2.2.2 in_X1 C.1.2.2.2.1 C.2.1 hP 0 rfl rfl 13 (by decide) (C.1.2.2.2.2 _ q51) (fun _ h9 => h9) rfl hdg (kk ls hl)
theorem ka13 (C : kC RX1 cc nL ret E z) {i : Int32} (j : Nat) (hP : wP E (kW E g x) H) (hi : i = nI j) (hj : j < 60) (hdg : decode cc pc = .ok (.iaload, 1)) (kk : V z cs H locs Q (pc + 1) lv (.int (sA x 13 j) :: st)) : V z cs H locs Q pc lv (.int i :: .ref (g.2 13) :: st) := v_iald C hP 11 rfl j hi hj (by decide) hdg kk
theorem ks13 (C : kC RX1 cc nL ret E z) {i v : Int32} (j : Nat) (hH : wH E (kW E g x) A z H locs) (hi : i = nI j) (hj : j < 60) (hdg : decode cc pc = .ok (.iastore, 1)) (kk : ∀ (H1 : Heap) (locs1 : List Loc), wH E (kW E g (pA x 13 j v)) A z H1 locs1 → V z cs H1 locs1 Q (pc + 1) lv st) : V z cs H locs Q pc lv (.int v :: .int i :: .ref (g.2 13) :: st) := v_iast C hH 11 rfl j hi hj (by decide) hdg rfl kk
theorem kg14 (C : kC RX1 cc nL ret E z) (hP : wP E (kW E g x) H) (hdg : decode cc pc = .ok (.getfield 92, 3)) (kk : V z cs H locs Q (pc + 3) lv (.int (sI x 14) :: st)) : V z cs H locs Q pc lv (.ref g.1 :: st) := fun ls hl => va_get (D := E.2.2) (ci := 0) (v := .int (sI x 14)) (C := RX1) (T := TX1) (N := 29) C.1.1 C.1.2.1 C.1.2.2.2.2 in_X1 C.1.2.2.2.1 C.2.1 hP 0 rfl rfl 14 (by decide) (C.1.2.2.2.2 _ q52) (fun _ h9 => h9) rfl hdg (kk ls hl)
theorem kp14 (C : kC RX1 cc nL ret E z) {v : Int32} (hH : wH E (kW E g x) A z H locs) (hdg : decode cc pc = .ok (.putfield 92, 3)) (kk : ∀ (H1 : Heap) (locs1 : List Loc), wH E (kW E g (pI x 14 v)) A z H1 locs1 → V z cs H1 locs1 Q (pc + 3) lv st) : V z cs H locs Q pc lv (.int v :: .ref g.1 :: st) := fun ls hl => va_put (D := E.2.2) (ci := 0) (v := .int v) (ty := .int) (C := RX1) (T := TX1) (N := 29) C.1.1 C.1.2.1 C.1.2.2.2.2 in_X1 tyX1 tyX1_ok nmX1 C.1.2.2.2.1 C.2.1 hH.1 hH.2.1 hH.2.2.1 0 rfl rfl 14 (by decide) (C.1.2.2.2.2 _ q52) (fun _ h9 => h9) rfl (by decide +kernel) rfl rfl (Nat.le_of_ble_eq_true rfl) hdg (fun H1 locs1 h1 h2 h3 => kk H1 locs1 ⟨h1, h2, h3, hH.2.2.2⟩ ls hl)
theorem kg15 (C : kC RX1 cc nL ret E z) (hP : wP E (kW E g x) H) (hdg : decode cc pc = .ok (.getfield 47, 3)) (kk : V z cs H locs Q (pc + 3) lv (.ref (g.2 15) :: st)) : V z cs H locs Q pc lv (.ref g.1 :: st) := fun ls hl => va_get (D := E.2.2) (ci := 0) (v := .ref (g.2 15)) (C := RX1) (T := TX1) (N := 29) C.1.1 C.1.2.1 C.1.2.2.2.2 in_X1 C.1.2.2.2.1 C.2.1 hP 0 rfl rfl 15 (by decide) (C.1.2.2.2.2 _ q53) (fun _ h9 => h9) rfl hdg (kk ls hl)
theorem ka15 (C : kC RX1 cc nL ret E z) {i : Int32} (j : Nat) (hP : wP E (kW E g x) H) (hi : i = nI j) (hj : j < 40) (hdg : decode cc pc = .ok (.iaload, 1)) (kk : V z cs H locs Q (pc + 1) lv (.int (sA x 15 j) :: st)) : V z cs H locs Q pc lv (.int i :: .ref (g.2 15) :: st) := v_iald C hP 12 rfl j hi hj (by decide) hdg kk
theorem ks15 (C : kC RX1 cc nL ret E z) {i v : Int32} (j : Nat) (hH : wH E (kW E g x) A z H locs) (hi : i = nI j) (hj : j < 40) (hdg : decode cc pc = .ok (.iastore, 1)) (kk : ∀ (H1 : Heap) (locs1 : List Loc), wH E (kW E g (pA x 15 j v)) A z H1 locs1 → V z cs H1 locs1 Q (pc + 1) lv st) : V z cs H locs Q pc lv (.int v :: .int i :: .ref (g.2 15) :: st) := v_iast C hH 12 rfl j hi hj (by decide) hdg rfl kk
theorem kg16 (C : kC RX1 cc nL ret E z) (hP : wP E (kW E g x) H) (hdg : decode cc pc = .ok (.getfield 86, 3)) (kk : V z cs H locs Q (pc + 3) lv (.int (sI x 16) :: st)) : V z cs H locs Q pc lv (.ref g.1 :: st) := fun ls hl => va_get (D := E.2.2) (ci := 0) (v := .int (sI x 16)) (C := RX1) (T := TX1) (N := 29) C.1.1 C.1.2.1 C.1.2.2.2.2 in_X1 C.1.2.2.2.1 C.2.1 hP 0 rfl rfl 16 (by decide) (C.1.2.2.2.2 _ q54) (fun _ h9 => h9) rfl hdg (kk ls hl)
theorem kp16 (C : kC RX1 cc nL ret E z) {v : Int32} (hH : wH E (kW E g x) A z H locs) (hdg : decode cc pc = .ok (.putfield 86, 3)) (kk : ∀ (H1 : Heap) (locs1 : List Loc), wH E (kW E g (pI x 16 v)) A z H1 locs1 → V z cs H1 locs1 Q (pc + 3) lv st) : V z cs H locs Q pc lv (.int v :: .ref g.1 :: st) := fun ls hl => va_put (D := E.2.2) (ci := 0) (v := .int v) (ty := .int) (C := RX1) (T := TX1) (N := 29) C.1.1 C.1.2.1 C.1.2.2.2.2 in_X1 tyX1 tyX1_ok nmX1 C.1.2.2.2.1 C.2.1 hH.1 hH.2.1 hH.2.2.1 0 rfl rfl 16 (by decide) (C.1.2.2.2.2 _ q54) (fun _ h9 => h9) rfl (by decide +kernel) rfl rfl (Nat.le_of_ble_eq_true rfl) hdg (fun H1 locs1 h1 h2 h3 => kk H1 locs1 ⟨h1, h2, h3, hH.2.2.2⟩ ls hl)
theorem kg17 (C : kC RX1 cc nL ret E z) (hP : wP E (kW E g x) H) (hdg : decode cc pc = .ok (.getfield 112, 3)) (kk : V z cs H locs Q (pc + 3) lv (.int (sI x 17) :: st)) : V z cs H locs Q pc lv (.ref g.1 :: st) := fun ls hl => va_get (D := E.2.2) (ci := 0) (v := .int (sI x 17)) (C := RX1) (T := TX1) (N := 29) C.1.1 C.1.2.1 C.1.2.2.2.2 in_X1 C.1.2.2.2.1 C.2.1 hP 0 rfl rfl 17 (by decide) (C.1.2.2.2.2 _ q55) (fun _ h9 => h9) rfl hdg (kk ls hl)
theorem kp17 (C : kC RX1 cc nL ret E z) {v : Int32} (hH : wH E (kW E g x) A z H locs) (hdg : decode cc pc = .ok (.putfield 112, 3)) (kk : ∀ (H1 : Heap) (locs1 : List Loc), wH E (kW E g (pI x 17 v)) A z H1 locs1 → V z cs H1 locs1 Q (pc + 3) lv st) : V z cs H locs Q pc lv (.int v :: .ref g.1 :: st) := fun ls hl => va_put (D := E.2.2) (ci := 0) (v := .int v) (ty := .int) (C := RX1) (T := TX1) (N := 29) C.1.1 C.1.2.1 C.1.2.2.2.2 in_X1 tyX1 tyX1_ok nmX1 C.1.2.2.2.1 C.2.1 hH.1 hH.2.1 hH.2.2.1 0 rfl rfl 17 (by decide) (C.1.2.2.2.2 _ q55) (fun _ h9 => h9) rfl (by decide +kernel) rfl rfl (Nat.le_of_ble_eq_true rfl) hdg (fun H1 locs1 h1 h2 h3 => kk H1 locs1 ⟨h1, h2, h3, hH.2.2.2⟩ ls hl)
theorem kg18 (C : kC RX1 cc nL ret E z) (hP : wP E (kW E g x) H) (hdg : decode cc pc = .ok (.getfield 118, 3)) (kk : V z cs H locs Q (pc + 3) lv (.long (sL x 18) :: st)) : V z cs H locs Q pc lv (.ref g.1 :: st) := fun ls hl => va_get (D := E.2.2) (ci := 0) (v := .long (sL x 18)) (C := RX1) (T := TX1) (N := 29) C.1.1 C.1.2.1 C.1.2.2.2.2 in_X1 C.1.2.2.2.1 C.2.1 hP 0 rfl rfl 18 (by decide) (C.1.2.2.2.2 _ q56) (fun _ h9 => h9) rfl hdg (kk ls hl)
theorem kp18 (C : kC RX1 cc nL ret E z) {v : Int64} (hH : wH E (kW E g x) A z H locs) (hdg : decode cc pc = .ok (.putfield 118, 3)) (kk : ∀ (H1 : Heap) (locs1 : List Loc), wH E (kW E g (pL x 18 v)) A z H1 locs1 → V z cs H1 locs1 Q (pc + 3) lv st) : V z cs H locs Q pc lv (.long v :: .ref g.1 :: st) := fun ls hl => va_put (D := E.2.2) (ci := 0) (v := .long v) (ty := .long) (C := RX1) (T := TX1) (N := 29) C.1.1 C.1.2.1 C.1.2.2.2.2 in_X1 tyX1 tyX1_ok nmX1 C.1.2.2.2.1 C.2.1 hH.1 hH.2.1 hH.2.2.1 0 rfl rfl 18 (by decide) (C.1.2.2.2.2 _ q56) (fun _ h9 => h9) rfl (by decide +kernel) rfl rfl (Nat.le_of_ble_eq_true rfl) hdg (fun H1 locs1 h1 h2 h3 => kk H1 locs1 ⟨h1, h2, h3, hH.2.2.2⟩ ls hl)
theorem kg19 (C : kC RX1 cc nL ret E z) (hP : wP E (kW E g x) H) (hdg : decode cc pc = .ok (.getfield 108, 3)) (kk : V z cs H locs Q (pc + 3) lv (.long (sL x 19) :: st)) : V z cs H locs Q pc lv (.ref g.1 :: st) := fun ls hl => va_get (D := E.2.2) (ci := 0) (v := .long (sL x 19)) (C := RX1) (T := TX1) (N := 29) C.1.1 C.1.2.1 C.1.2.2.2.2 in_X1 C.1.2.2.2.1 C.2.1 hP 0 rfl rfl 19 (by decide) (C.1.2.2.2.2 _ q57) (fun _ h9 => h9) rfl hdg (kk ls hl)
theorem kp19 (C : kC RX1 cc nL ret E z) {v : Int64} (hH : wH E (kW E g x) A z H locs) (hdg : decode cc pc = .ok (.putfield 108, 3)) (kk : ∀ (H1 : Heap) (locs1 : List Loc), wH E (kW E g (pL x 19 v)) A z H1 locs1 → V z cs H1 locs1 Q (pc + 3) lv st) : V z cs H locs Q pc lv (.long v :: .ref g.1 :: st) := fun ls hl => va_put (D := E.2.2) (ci := 0) (v := .long v) (ty := .long) (C := RX1) (T := TX1) (N := 29) C.1.1 C.1.2.1 C.1.2.2.2.2 in_X1 tyX1 tyX1_ok nmX1 C.1.2.2.2.1 C.2.1 hH.1 hH.2.1 hH.2.2.1 0 rfl rfl 19 (by decide) (C.1.2.2.2.2 _ q57) (fun _ h9 => h9) rfl (by decide +kernel) rfl rfl (Nat.le_of_ble_eq_true rfl) hdg (fun H1 locs1 h1 h2 h3 => kk H1 locs1 ⟨h1, h2, h3, hH.2.2.2⟩ ls hl)
theorem kg20 (C : kC RX1 cc nL ret E z) (hP : wP E (kW E g x) H) (hdg : decode cc pc = .ok (.getfield 50, 3)) (kk : V z cs H locs Q (pc + 3) lv (.int (sI x 20) :: st)) : V z cs H locs Q pc lv (.ref g.1 :: st) := fun ls hl => va_get (D := E.2.2) (ci := 0) (v := .int (sI x 20)) (C := RX1) (T := TX1) (N := 29) C.1.1 C.1.2.1 C.1.2.2.2.2 in_X1 C.1.2.2.2.1 C.2.1 hP 0 rfl rfl 20 (by decide) (C.1.2.2.2.2 _ q58) (fun _ h9 => h9) rfl hdg (kk ls hl)
theorem kp20 (C : kC RX1 cc nL ret E z) {v : Int32} (hH : wH E (kW E g x) A z H locs) (hdg : decode cc pc = .ok (.putfield 50, 3)) (kk : ∀ (H1 : Heap) (locs1 : List Loc), wH E (kW E g (pI x 20 v)) A z H1 locs1 → V z cs H1 locs1 Q (pc + 3) lv st) : V z cs H locs Q pc lv (.int v :: .ref g.1 :: st) := fun ls hl => va_put (D := E.2.2) (ci := 0) (v := .int v) (ty := .int) (C := RX1) (T := TX1) (N := 29) C.1.1 C.1.2.1 C.1.2.2.2.2 in_X1 tyX1 tyX1_ok nmX1 C.1.2.2.2.1 C.2.1 hH.1 hH.2.1 hH.2.2.1 0 rfl rfl 20 (by decide) (C.1.2.2.2.2 _ q58) (fun _ h9 => h9) rfl (by decide +kernel) rfl rfl (Nat.le_of_ble_eq_true rfl) hdg (fun H1 locs1 h1 h2 h3 => kk H1 locs1 ⟨h1, h2, h3, hH.2.2.2⟩ ls hl)
theorem kg21 (C : kC RX1 cc nL ret E z) (hP : wP E (kW E g x) H) (hdg : decode cc pc = .ok (.getfield 124, 3)) (kk : V z cs H locs Q (pc + 3) lv (.int (sI x 21) :: st)) : V z cs H locs Q pc lv (.ref g.1 :: st) := fun ls hl => va_get (D := E.2.2) (ci := 0) (v := .int (sI x 21)) (C := RX1) (T := TX1) (N := 29) C.1.1 C.1.2.1 C.1.2.2.2.2 in_X1 C.1.2.2.2.1 C.2.1 hP 0 rfl rfl 21 (by decide) (C.1.2.2.2.2 _ q59) (fun _ h9 => h9) rfl hdg (kk ls hl)
theorem kp21 (C : kC RX1 cc nL ret E z) {v : Int32} (hH : wH E (kW E g x) A z H locs) (hdg : decode cc pc = .ok (.putfield 124, 3)) (kk : ∀ (H1 : Heap) (locs1 : List Loc), wH E (kW E g (pI x 21 v)) A z H1 locs1 → V z cs H1 locs1 Q (pc + 3) lv st) : V z cs H locs Q pc lv (.int v :: .ref g.1 :: st) := fun ls hl => va_put (D := E.2.2) (ci := 0) (v := .int v) (ty := .int) (C := RX1) (T := TX1) (N := 29) C.1.1 C.1.2.1 C.1.2.2.2.2 in_X1 tyX1 tyX1_ok nmX1 C.1.2.2.2.1 C.2.1 hH.1 hH.2.1 hH.2.2.1 0 rfl rfl 21 (by decide) (C.1.2.2.2.2 _ q59) (fun _ h9 => h9) rfl (by decide +kernel) rfl rfl (Nat.le_of_ble_eq_true rfl) hdg (fun H1 locs1 h1 h2 h3 => kk H1 locs1 ⟨h1, h2, h3, hH.2.2.2⟩ ls hl)
theorem kg22 (C : kC RX1 cc nL ret E z) (hP : wP E (kW E g x) H) (hdg : decode cc pc = .ok (.getfield 53, 3)) (kk : V z cs H locs Q (pc + 3) lv (.ref (g.2 22) :: st)) : V z cs H locs Q pc lv (.ref g.1 :: st) := fun ls hl => va_get (D := E.2.2) (ci := 0) (v := .ref (g.2 22)) (C := RX1) (T := TX1) (N := 29) C.1.1 C.1.2.1 C.1.2.2.2.2 in_X1 C.1.2.2.2.1 C.2.1 hP 0 rfl rfl 22 (by decide) (C.1.2.2.2.2 _ q60) (fun _ h9 => h9) rfl hdg (kk ls hl)
theorem ka22 (C : kC RX1 cc nL ret E z) {i : Int32} (j : Nat) (hP : wP E (kW E g x) H) (hi : i = nI j) (hj : j < 4201) (hdg : decode cc pc = .ok (.iaload, 1)) (kk : V z cs H locs Q (pc + 1) lv (.int (sA x 22 j) :: st)) : V z cs H locs Q pc lv (.int i :: .ref (g.2 22) :: st) := v_iald C hP 13 rfl j hi hj (by decide) hdg kk
theorem ks22 (C : kC RX1 cc nL ret E z) {i v : Int32} (j : Nat) (hH : wH E (kW E g x) A z H locs) (hi : i = nI j) (hj : j < 4201) (hdg : decode cc pc = .ok (.iastore, 1)) (kk : ∀ (H1 : Heap) (locs1 : List Loc), wH E (kW E g (pA x 22 j v)) A z H1 locs1 → V z cs H1 locs1 Q (pc + 1) lv st) : V z cs H locs Q pc lv (.int v :: .int i :: .ref (g.2 22) :: st) := v_iast C hH 13 rfl j hi hj (by decide) hdg rfl kk
theorem kg23 (C : kC RX1 cc nL ret E z) (hP : wP E (kW E g x) H) (hdg : decode cc pc = .ok (.getfield 127, 3)) (kk : V z cs H locs Q (pc + 3) lv (.int (sI x 23) :: st)) : V z cs H locs Q pc lv (.ref g.1 :: st) := fun ls hl => va_get (D := E.2.2) (ci := 0) (v := .int (sI x 23)) (C := RX1) (T := TX1) (N := 29) C.1.1 C.1.2.1 C.1.2.2.2.2 in_X1 C.1.2.2.2.1 C.2.1 hP 0 rfl rfl 23 (by decide) (C.1.2.2.2.2 _ q61) (fun _ h9 => h9) rfl hdg (kk ls hl)
theorem kp23 (C : kC RX1 cc nL ret E z) {v : Int32} (hH : wH E (kW E g x) A z H locs) (hdg : decode cc pc = .ok (.putfield 127, 3)) (kk : ∀ (H1 : Heap) (locs1 : List Loc), wH E (kW E g (pI x 23 v)) A z H1 locs1 → V z cs H1 locs1 Q (pc + 3) lv st) : V z cs H locs Q pc lv (.int v :: .ref g.1 :: st) := fun ls hl => va_put (D := E.2.2) (ci := 0) (v := .int v) (ty := .int) (C := RX1) (T := TX1) (N := 29) C.1.1 C.1.2.1 C.1.2.2.2.2 in_X1 tyX1 tyX1_ok nmX1 C.1.2.2.2.1 C.2.1 hH.1 hH.2.1 hH.2.2.1 0 rfl rfl 23 (by decide) (C.1.2.2.2.2 _ q61) (fun _ h9 => h9) rfl (by decide +kernel) rfl rfl (Nat.le_of_ble_eq_true rfl) hdg (fun H1 locs1 h1 h2 h3 => kk H1 locs1 ⟨h1, h2, h3, hH.2.2.2⟩ ls hl)
theorem kg24 (C : kC RX1 cc nL ret E z) (hP : wP E (kW E g x) H) (hdg : decode cc pc = .ok (.getfield 56, 3)) (kk : V z cs H locs Q (pc + 3) lv (.ref (g.2 24) :: st)) : V z cs H locs Q pc lv (.ref g.1 :: st) := fun ls hl => va_get (D := E.2.2) (ci := 0) (v := .ref (g.2 24)) (C := RX1) (T := TX1) (N := 29) C.1.1 C.1.2.1 C.1.2.2.2.2 in_X1 C.1.2.2.2.1 C.2.1 hP 0 rfl rfl 24 (by decide) (C.1.2.2.2.2 _ q62) (fun _ h9 => h9) rfl hdg (kk ls hl)
theorem ka24 (C : kC RX1 cc nL ret E z) {i : Int32} (j : Nat) (hP : wP E (kW E g x) H) (hi : i = nI j) (hj : j < 4201) (hdg : decode cc pc = .ok (.iaload, 1)) (kk : V z cs H locs Q (pc + 1) lv (.int (sA x 24 j) :: st)) : V z cs H locs Q pc lv (.int i :: .ref (g.2 24) :: st) := v_iald C hP 14 rfl j hi hj (by decide) hdg kk
theorem ks24 (C : kC RX1 cc nL ret E z) {i v : Int32} (j : Nat) (hH : wH E (kW E g x) A z H locs) (hi : i = nI j) (hj : j < 4201) (hdg : decode cc pc = .ok (.iastore, 1)) (kk : ∀ (H1 : Heap) (locs1 : List Loc), wH E (kW E g (pA x 24 j v)) A z H1 locs1 → V z cs H1 locs1 Q (pc + 1) lv st) : V z cs H locs Q pc lv (.int v :: .int i :: .ref (g.2 24) :: st) := v_iast C hH 14 rfl j hi hj (by decide) hdg rfl kk
theorem kg25 (C : kC RX1 cc nL ret E z) (hP : wP E (kW E g x) H) (hdg : decode cc pc = .ok (.getfield 59, 3)) (kk : V z cs H locs Q (pc + 3) lv (.ref (g.2 25) :: st)) : V z cs H locs Q pc lv (.ref g.1 :: st) := fun ls hl => va_get (D := E.2.2) (ci := 0) (v := .ref (g.2 25)) (C := RX1) (T := TX1) (N := 29) C.1.1 C.1.2.1 C.1.2.2.2.2 in_X1 C.1.2.2.2.1 C.2.1 hP 0 rfl rfl 25 (by decide) (C.1.2.2.2.2 _ q63) (fun _ h9 => h9) rfl hdg (kk ls hl)
theorem ka25 (C : kC RX1 cc nL ret E z) {i : Int32} (j : Nat) (hP : wP E (kW E g x) H) (hi : i = nI j) (hj : j < 4201) (hdg : decode cc pc = .ok (.laload, 1)) (kk : V z cs H locs Q (pc + 1) lv (.long (sF x j) :: st)) : V z cs H locs Q pc lv (.int i :: .ref (g.2 25) :: st) := v_lald C hP 15 rfl j hi hj (by decide) hdg kk
theorem ks25 (C : kC RX1 cc nL ret E z) {i : Int32} {v : Int64} (j : Nat) (hH : wH E (kW E g x) A z H locs) (hi : i = nI j) (hj : j < 4201) (hdg : decode cc pc = .ok (.lastore, 1)) (kk : ∀ (H1 : Heap) (locs1 : List Loc), wH E (kW E g (pF x j v)) A z H1 locs1 → V z cs H1 locs1 Q (pc + 1) lv st) : V z cs H locs Q pc lv (.long v :: .int i :: .ref (g.2 25) :: st) := v_last C hH 15 rfl j hi hj (by decide) hdg rfl kk
theorem kg26 (C : kC RX1 cc nL ret E z) (hP : wP E (kW E g x) H) (hdg : decode cc pc = .ok (.getfield 98, 3)) (kk : V z cs H locs Q (pc + 3) lv (.int (sI x 26) :: st)) : V z cs H locs Q pc lv (.ref g.1 :: st) := fun ls hl => va_get (D := E.2.2) (ci := 0) (v := .int (sI x 26)) (C := RX1) (T := TX1) (N := 29) C.1.1 C.1.2.1 C.1.2.2.2.2 in_X1 C.1.2.2.2.1 C.2.1 hP 0 rfl rfl 26 (by decide) (C.1.2.2.2.2 _ q64) (fun _ h9 => h9) rfl hdg (kk ls hl)
theorem kp26 (C : kC RX1 cc nL ret E z) {v : Int32} (hH : wH E (kW E g x) A z H locs) (hdg : decode cc pc = .ok (.putfield 98, 3)) (kk : ∀ (H1 : Heap) (locs1 : List Loc), wH E (kW E g (pI x 26 v)) A z H1 locs1 → V z cs H1 locs1 Q (pc + 3) lv st) : V z cs H locs Q pc lv (.int v :: .ref g.1 :: st) := fun ls hl => va_put (D := E.2.2) (ci := 0) (v := .int v) (ty := .int) (C := RX1) (T := TX1) (N := 29) C.1.1 C.1.2.1 C.1.2.2.2.2 in_X1 tyX1 tyX1_ok nmX1 C.1.2.2.2.1 C.2.1 hH.1 hH.2.1 hH.2.2.1 0 rfl rfl 26 (by decide) (C.1.2.2.2.2 _ q64) (fun _ h9 => h9) rfl (by decide +kernel) rfl rfl (Nat.le_of_ble_eq_true rfl) hdg (fun H1 locs1 h1 h2 h3 => kk H1 locs1 ⟨h1, h2, h3, hH.2.2.2⟩ ls hl)
theorem kg27 (C : kC RX1 cc nL ret E z) (hP : wP E (kW E g x) H) (hdg : decode cc pc = .ok (.getfield 63, 3)) (kk : V z cs H locs Q (pc + 3) lv (.ref (g.2 27) :: st)) : V z cs H locs Q pc lv (.ref g.1 :: st) := fun ls hl => va_get (D := E.2.2) (ci := 0) (v := .ref (g.2 27)) (C := RX1) (T := TX1) (N := 29) C.1.1 C.1.2.1 C.1.2.2.2.2 in_X1 C.1.2.2.2.1 C.2.1 hP 0 rfl rfl 27 (by decide) (C.1.2.2.2.2 _ q65) (fun _ h9 => h9) rfl hdg (kk ls hl)
theorem ka27 (C : kC RX1 cc nL ret E z) {i : Int32} (j : Nat) (hP : wP E (kW E g x) H) (hi : i = nI j) (hj : j < 4201) (hdg : decode cc pc = .ok (.iaload, 1)) (kk : V z cs H locs Q (pc + 1) lv (.int (sA x 27 j) :: st)) : V z cs H locs Q pc lv (.int i :: .ref (g.2 27) :: st) := v_iald C hP 16 rfl j hi hj (by decide) hdg kk
theorem ks27 (C : kC RX1 cc nL ret E z) {i v : Int32} (j : Nat) (hH : wH E (kW E g x) A z H locs) (hi : i = nI j) (hj : j < 4201) (hdg : decode cc pc = .ok (.iastore, 1)) (kk : ∀ (H1 : Heap) (locs1 : List Loc), wH E (kW E g (pA x 27 j v)) A z H1 locs1 → V z cs H1 locs1 Q (pc + 1) lv st) : V z cs H locs Q pc lv (.int v :: .int i :: .ref (g.2 27) :: st) := v_iast C hH 16 rfl j hi hj (by decide) hdg rfl kk
theorem kg28 (C : kC RX1 cc nL ret E z) (hP : wP E (kW E g x) H) (hdg : decode cc pc = .ok (.getfield 105, 3)) (kk : V z cs H locs Q (pc + 3) lv (.int (sI x 28) :: st)) : V z cs H locs Q pc lv (.ref g.1 :: st) := fun ls hl => va_get (D := E.2.2) (ci := 0) (v := .int (sI x 28)) (C := RX1) (T := TX1) (N := 29) C.1.1 C.1.2.1 C.1.2.2.2.2 in_X1 C.1.2.2.2.1 C.2.1 hP 0 rfl rfl 28 (by decide) (C.1.2.2.2.2 _ q66) (fun _ h9 => h9) rfl hdg (kk ls hl)
theorem kp28 (C : kC RX1 cc nL ret E z) {v : Int32} (hH : wH E (kW E g x) A z H locs) (hdg : decode cc pc = .ok (.putfield 105, 3)) (kk : ∀ (H1 : Heap) (locs1 : List Loc), wH E (kW E g (pI x 28 v)) A z H1 locs1 → V z cs H1 locs1 Q (pc + 3) lv st) : V z cs H locs Q pc lv (.int v :: .ref g.1 :: st) := fun ls hl => va_put (D := E.2.2) (ci := 0) (v := .int v) (ty := .int) (C := RX1) (T := TX1) (N := 29) C.1.1 C.1.2.1 C.1.2.2.2.2 in_X1 tyX1 tyX1_ok nmX1 C.1.2.2.2.1 C.2.1 hH.1 hH.2.1 hH.2.2.1 0 rfl rfl 28 (by decide) (C.1.2.2.2.2 _ q66) (fun _ h9 => h9) rfl (by decide +kernel) rfl rfl (Nat.le_of_ble_eq_true rfl) hdg (fun H1 locs1 h1 h2 h3 => kk H1 locs1 ⟨h1, h2, h3, hH.2.2.2⟩ ls hl)
end FX1
section FX2
variable {z : ZZ} {cs : Nat × Nat} {H : Heap} {locs : List Loc} {Q : State → Prop} {pc : Nat} {lv : List (Nat × Value)} {st : List Value} {cc : ByteArray} {nL : Nat} {ret : Option FieldType} {E : EE} {A : Nat → Prop} {g : GG} {x : DS}
theorem mg0 (C : kC RX2 cc nL ret E z) (hP : wP E (mW E g x) H) (hdg : decode cc pc = .ok (.getfield 42, 3)) (kk : V z cs H locs Q (pc + 3) lv (.int (sI x 0) :: st)) : V z cs H locs Q pc lv (.ref g.1 :: st) := fun ls hl => va_get (D := E.2.2) (ci := 1) (v := .int (sI x 0)) (C := RX2) (T := TX2) (N := 20) C.1.1 C.1.2.1 C.1.2.2.2.2 in_X2 C.1.2.2.2.1 C.2.1 hP 0 rfl rfl 0 (by decide) (C.1.2.2.2.2 _ q240) (fun _ h9 => h9) rfl hdg (kk ls hl)
theorem mg1 (C : kC RX2 cc nL ret E z) (hP : wP E (mW E g x) H) (hdg : decode cc pc = .ok (.getfield 48, 3)) (kk : V z cs H locs Q (pc + 3) lv (.int (sI x 1) :: st)) : V z cs H locs Q pc lv (.ref g.1 :: st) := fun ls hl => va_get (D := E.2.2) (ci := 1) (v := .int (sI x 1)) (C := RX2) (T := TX2) (N := 20) C.1.1 C.1.2.1 C.1.2.2.2.2 in_X2 C.1.2.2.2.1 C.2.1 hP 0 rfl rfl 1 (by decide) (C.1.2.2.2.2 _ q241) (fun _ h9 => h9) rfl hdg (kk ls hl)
theorem mp1 (C : kC RX2 cc nL ret E z) {v : Int32} (hH : wH E (mW E g x) A z H locs) (hn : v = 0 ∨ v = 1) (hdg : decode cc pc = .ok (.putfield 48, 3)) (kk : ∀ (H1 : Heap) (locs1 : List Loc), wH E (mW E g (pI x 1 v)) A z H1 locs1 → V z cs H1 locs1 Q (pc + 3) lv st) : V z cs H locs Q pc lv (.int v :: .ref g.1 :: st) := fun ls hl => va_put (D := E.2.2) (ci := 1) (v := .int v) (ty := .boolean) (C := RX2) (T := TX2) (N := 20) C.1.1 C.1.2.1 C.1.2.2.2.2 in_X2 tyX2 tyX2_ok nmX2 C.1.2.2.2.1 C.2.1 hH.1 hH.2.1 hH.2.2.1 0 rfl rfl 1 (by decide) (C.1.2.2.2.2 _ q241) (fun _ h9 => h9) rfl (by decide +kernel) (by rcases hn with rfl | rfl <;> rfl) (by rcases hn with rfl | rfl <;> rfl) (Nat.le_of_ble_eq_true rfl) hdg (fun H1 locs1 h1 h2 h3 => kk H1 locs1 ⟨h1, h2, h3, hH.2.2.2⟩ ls hl)
theorem mg2 (C : kC RX2 cc nL ret E z) (hP : wP E (mW E g x) H) (hdg : decode cc pc = .ok (.getfield 7, 3)) (kk : V z cs H locs Q (pc + 3) lv (.int (sI x 2) :: st)) : V z cs H locs Q pc lv (.ref g.1 :: st) := fun ls hl => va_get (D := E.2.2) (ci := 1) (v := .int (sI x 2)) (C := RX2) (T := TX2) (N := 20) C.1.1 C.1.2.1 C.1.2.2.2.2 in_X2 C.1.2.2.2.1 C.2.1 hP 0 rfl rfl 2 (by decide) (C.1.2.2.2.2 _ q242) (fun _ h9 => h9) rfl hdg (kk ls hl)
theorem mp2 (C : kC RX2 cc nL ret E z) {v : Int32} (hH : wH E (mW E g x) A z H locs) (hdg : decode cc pc = .ok (.putfield 7, 3)) (kk : ∀ (H1 : Heap) (locs1 : List Loc), wH E (mW E g (pI x 2 v)) A z H1 locs1 → V z cs H1 locs1 Q (pc + 3) lv st) : V z cs H locs Q pc lv (.int v :: .ref g.1 :: st) := fun ls hl => va_put (D := E.2.2) (ci := 1) (v := .int v) (ty := .int) (C := RX2) (T := TX2) (N := 20) C.1.1 C.1.2.1 C.1.2.2.2.2 in_X2 tyX2 tyX2_ok nmX2 C.1.2.2.2.1 C.2.1 hH.1 hH.2.1 hH.2.2.1 0 rfl rfl 2 (by decide) (C.1.2.2.2.2 _ q242) (fun _ h9 => h9) rfl (by decide +kernel) rfl rfl (Nat.le_of_ble_eq_true rfl) hdg (fun H1 locs1 h1 h2 h3 => kk H1 locs1 ⟨h1, h2, h3, hH.2.2.2⟩ ls hl)
theorem mg3 (C : kC RX2 cc nL ret E z) (hP : wP E (mW E g x) H) (hdg : decode cc pc = .ok (.getfield 52, 3)) (kk : V z cs H locs Q (pc + 3) lv (.int (sI x 3) :: st)) : V z cs H locs Q pc lv (.ref g.1 :: st) := fun ls hl => va_get (D := E.2.2) (ci := 1) (v := .int (sI x 3)) (C := RX2) (T := TX2) (N := 20) C.1.1 C.1.2.1 C.1.2.2.2.2 in_X2 C.1.2.2.2.1 C.2.1 hP 0 rfl rfl 3 (by decide) (C.1.2.2.2.2 _ q243) (fun _ h9 => h9) rfl hdg (kk ls hl)
theorem mp3 (C : kC RX2 cc nL ret E z) {v : Int32} (hH : wH E (mW E g x) A z H locs) (hdg : decode cc pc = .ok (.putfield 52, 3)) (kk : ∀ (H1 : Heap) (locs1 : List Loc), wH E (mW E g (pI x 3 v)) A z H1 locs1 → V z cs H1 locs1 Q (pc + 3) lv st) : V z cs H locs Q pc lv (.int v :: .ref g.1 :: st) := fun ls hl => va_put (D := E.2.2) (ci := 1) (v := .int v) (ty := .int) (C := RX2) (T := TX2) (N := 20) C.1.1 C.1.2.1 C.1.2.2.2.2 in_X2 tyX2 tyX2_ok nmX2 C.1.2.2.2.1 C.2.1 hH.1 hH.2.1 hH.2.2.1 0 rfl rfl 3 (by decide) (C.1.2.2.2.2 _ q243) (fun _ h9 => h9) rfl (by decide +kernel) rfl rfl (Nat.le_of_ble_eq_true rfl) hdg (fun H1 locs1 h1 h2 h3 => kk H1 locs1 ⟨h1, h2, h3, hH.2.2.2⟩ ls hl)
theorem mg4 (C : kC RX2 cc nL ret E z) (hP : wP E (mW E g x) H) (hdg : decode cc pc = .ok (.getfield 13, 3)) (kk : V z cs H locs Q (pc + 3) lv (.ref (g.2 4) :: st)) : V z cs H locs Q pc lv (.ref g.1 :: st) := fun ls hl => va_get (D := E.2.2) (ci := 1) (v := .ref (g.2 4)) (C := RX2) (T := TX2) (N := 20) C.1.1 C.1.2.1 C.1.2.2.2.2 in_X2 C.1.2.2.2.1 C.2.1 hP 0 rfl rfl 4 (by decide) (C.1.2.2.2.2 _ q244) (fun _ h9 => h9) rfl hdg (kk ls hl)
theorem ma4 (C : kC RX2 cc nL ret E z) {i : Int32} (j : Nat) (hP : wP E (mW E g x) H) (hi : i = nI j) (hj : j < 2400) (hdg : decode cc pc = .ok (.iaload, 1)) (kk : V z cs H locs Q (pc + 1) lv (.int (sA x 4 j) :: st)) : V z cs H locs Q pc lv (.int i :: .ref (g.2 4) :: st) := v_iald C hP 1 rfl j hi hj (by decide) hdg kk
theorem ms4 (C : kC RX2 cc nL ret E z) {i v : Int32} (j : Nat) (hH : wH E (mW E g x) A z H locs) (hi : i = nI j) (hj : j < 2400) (hdg : decode cc pc = .ok (.iastore, 1)) (kk : ∀ (H1 : Heap) (locs1 : List Loc), wH E (mW E g (pA x 4 j v)) A z H1 locs1 → V z cs H1 locs1 Q (pc + 1) lv st) : V z cs H locs Q pc lv (.int v :: .int i :: .ref (g.2 4) :: st) := v_iast C hH 1 rfl j hi hj (by decide) hdg rfl kk
theorem mg5 (C : kC RX2 cc nL ret E z) (hP : wP E (mW E g x) H) (hdg : decode cc pc = .ok (.getfield 17, 3)) (kk : V z cs H locs Q (pc + 3) lv (.ref (g.2 5) :: st)) : V z cs H locs Q pc lv (.ref g.1 :: st) := fun ls hl => va_get (D := E.2.2) (ci := 1) (v := .ref (g.2 5)) (C := RX2) (T := TX2) (N := 20) C.1.1 C.1.2.1 C.1.2.2.2.2 in_X2 C.1.2.2.2.1 C.2.1 hP 0 rfl rfl 5 (by decide) (C.1.2.2.2.2 _ q245) (fun _ h9 => h9) rfl hdg (kk ls hl)
theorem ma5 (C : kC RX2 cc nL ret E z) {i : Int32} (j : Nat) (hP : wP E (mW E g x) H) (hi : i = nI j) (hj : j < 60) (hdg : decode cc pc = .ok (.iaload, 1)) (kk : V z cs H locs Q (pc + 1) lv (.int (sA x 5 j) :: st)) : V z cs H locs Q pc lv (.int i :: .ref (g.2 5) :: st) := v_iald C hP 2 rfl j hi hj (by decide) hdg kk
theorem ms5 (C : kC RX2 cc nL ret E z) {i v : Int32} (j : Nat) (hH : wH E (mW E g x) A z H locs) (hi : i = nI j) (hj : j < 60) (hdg : decode cc pc = .ok (.iastore, 1)) (kk : ∀ (H1 : Heap) (locs1 : List Loc), wH E (mW E g (pA x 5 j v)) A z H1 locs1 → V z cs H1 locs1 Q (pc + 1) lv st) : V z cs H locs Q pc lv (.int v :: .int i :: .ref (g.2 5) :: st) := v_iast C hH 2 rfl j hi hj (by decide) hdg rfl kk
theorem mg6 (C : kC RX2 cc nL ret E z) (hP : wP E (mW E g x) H) (hdg : decode cc pc = .ok (.getfield 20, 3)) (kk : V z cs H locs Q (pc + 3) lv (.ref (g.2 6) :: st)) : V z cs H locs Q pc lv (.ref g.1 :: st) := fun ls hl => va_get (D := E.2.2) (ci := 1) (v := .ref (g.2 6)) (C := RX2) (T := TX2) (N := 20) C.1.1 C.1.2.1 C.1.2.2.2.2 in_X2 C.1.2.2.2.1 C.2.1 hP 0 rfl rfl 6 (by decide) (C.1.2.2.2.2 _ q246) (fun _ h9 => h9) rfl hdg (kk ls hl)
theorem ma6 (C : kC RX2 cc nL ret E z) {i : Int32} (j : Nat) (hP : wP E (mW E g x) H) (hi : i = nI j) (hj : j < 40) (hdg : decode cc pc = .ok (.iaload, 1)) (kk : V z cs H locs Q (pc + 1) lv (.int (sA x 6 j) :: st)) : V z cs H locs Q pc lv (.int i :: .ref (g.2 6) :: st) := v_iald C hP 3 rfl j hi hj (by decide) hdg kk
theorem ms6 (C : kC RX2 cc nL ret E z) {i v : Int32} (j : Nat) (hH : wH E (mW E g x) A z H locs) (hi : i = nI j) (hj : j < 40) (hdg : decode cc pc = .ok (.iastore, 1)) (kk : ∀ (H1 : Heap) (locs1 : List Loc), wH E (mW E g (pA x 6 j v)) A z H1 locs1 → V z cs H1 locs1 Q (pc + 1) lv st) : V z cs H locs Q pc lv (.int v :: .int i :: .ref (g.2 6) :: st) := v_iast C hH 3 rfl j hi hj (by decide) hdg rfl kk
theorem mg7 (C : kC RX2 cc nL ret E z) (hP : wP E (mW E g x) H) (hdg : decode cc pc = .ok (.getfield 45, 3)) (kk : V z cs H locs Q (pc + 3) lv (.int (sI x 7) :: st)) : V z cs H locs Q pc lv (.ref g.1 :: st) := fun ls hl => va_get (D := E.2.2) (ci := 1) (v := .int (sI x 7)) (C := RX2) (T := TX2) (N := 20) C.1.1 C.1.2.1 C.1.2.2.2.2 in_X2 C.1.2.2.2.1 C.2.1 hP 0 rfl rfl 7 (by decide) (C.1.2.2.2.2 _ q247) (fun _ h9 => h9) rfl hdg (kk ls hl)
theorem mp7 (C : kC RX2 cc nL ret E z) {v : Int32} (hH : wH E (mW E g x) A z H locs) (hdg : decode cc pc = .ok (.putfield 45, 3)) (kk : ∀ (H1 : Heap) (locs1 : List Loc), wH E (mW E g (pI x 7 v)) A z H1 locs1 → V z cs H1 locs1 Q (pc + 3) lv st) : V z cs H locs Q pc lv (.int v :: .ref g.1 :: st) := fun ls hl => va_put (D := E.2.2) (ci := 1) (v := .int v) (ty := .int) (C := RX2) (T := TX2) (N := 20) C.1.1 C.1.2.1 C.1.2.2.2.2 in_X2 tyX2 tyX2_ok nmX2 C.1.2.2.2.1 C.2.1 hH.1 hH.2.1 hH.2.2.1 0 rfl rfl 7 (by decide) (C.1.2.2.2.2 _ q247) (fun _ h9 => h9) rfl (by decide +kernel) rfl rfl (Nat.le_of_ble_eq_true rfl) hdg (fun H1 locs1 h1 h2 h3 => kk H1 locs1 ⟨h1, h2, h3, hH.2.2.2⟩ ls hl)
theorem mg8 (C : kC RX2 cc nL ret E z) (hP : wP E (mW E g x) H) (hdg : decode cc pc = .ok (.getfield 23, 3)) (kk : V z cs H locs Q (pc + 3) lv (.ref (g.2 8) :: st)) : V z cs H locs Q pc lv (.ref g.1 :: st) := fun ls hl => va_get (D := E.2.2) (ci := 1) (v := .ref (g.2 8)) (C := RX2) (T := TX2) (N := 20) C.1.1 C.1.2.1 C.1.2.2.2.2 in_X2 C.1.2.2.2.1 C.2.1 hP 0 rfl rfl 8 (by decide) (C.1.2.2.2.2 _ q248) (fun _ h9 => h9) rfl hdg (kk ls hl)
theorem ma8 (C : kC RX2 cc nL ret E z) {i : Int32} (j : Nat) (hP : wP E (mW E g x) H) (hi : i = nI j) (hj : j < 64) (hdg : decode cc pc = .ok (.iaload, 1)) (kk : V z cs H locs Q (pc + 1) lv (.int (sA x 8 j) :: st)) : V z cs H locs Q pc lv (.int i :: .ref (g.2 8) :: st) := v_iald C hP 4 rfl j hi hj (by decide) hdg kk
theorem ms8 (C : kC RX2 cc nL ret E z) {i v : Int32} (j : Nat) (hH : wH E (mW E g x) A z H locs) (hi : i = nI j) (hj : j < 64) (hdg : decode cc pc = .ok (.iastore, 1)) (kk : ∀ (H1 : Heap) (locs1 : List Loc), wH E (mW E g (pA x 8 j v)) A z H1 locs1 → V z cs H1 locs1 Q (pc + 1) lv st) : V z cs H locs Q pc lv (.int v :: .int i :: .ref (g.2 8) :: st) := v_iast C hH 4 rfl j hi hj (by decide) hdg rfl kk
theorem mg9 (C : kC RX2 cc nL ret E z) (hP : wP E (mW E g x) H) (hdg : decode cc pc = .ok (.getfield 55, 3)) (kk : V z cs H locs Q (pc + 3) lv (.int (sI x 9) :: st)) : V z cs H locs Q pc lv (.ref g.1 :: st) := fun ls hl => va_get (D := E.2.2) (ci := 1) (v := .int (sI x 9)) (C := RX2) (T := TX2) (N := 20) C.1.1 C.1.2.1 C.1.2.2.2.2 in_X2 C.1.2.2.2.1 C.2.1 hP 0 rfl rfl 9 (by decide) (C.1.2.2.2.2 _ q249) (fun _ h9 => h9) rfl hdg (kk ls hl)
theorem mp9 (C : kC RX2 cc nL ret E z) {v : Int32} (hH : wH E (mW E g x) A z H locs) (hdg : decode cc pc = .ok (.putfield 55, 3)) (kk : ∀ (H1 : Heap) (locs1 : List Loc), wH E (mW E g (pI x 9 v)) A z H1 locs1 → V z cs H1 locs1 Q (pc + 3) lv st) : V z cs H locs Q pc lv (.int v :: .ref g.1 :: st) := fun ls hl => va_put (D := E.2.2) (ci := 1) (v := .int v) (ty := .int) (C := RX2) (T := TX2) (N := 20) C.1.1 C.1.2.1 C.1.2.2.2.2 in_X2 tyX2 tyX2_ok nmX2 C.1.2.2.2.1 C.2.1 hH.1 hH.2.1 hH.2.2.1 0 rfl rfl 9 (by decide) (C.1.2.2.2.2 _ q249) (fun _ h9 => h9) rfl (by decide +kernel) rfl rfl (Nat.le_of_ble_eq_true rfl) hdg (fun H1 locs1 h1 h2 h3 => kk H1 locs1 ⟨h1, h2, h3, hH.2.2.2⟩ ls hl)
theorem mg10 (C : kC RX2 cc nL ret E z) (hP : wP E (mW E g x) H) (hdg : decode cc pc = .ok (.getfield 58, 3)) (kk : V z cs H locs Q (pc + 3) lv (.long (sL x 10) :: st)) : V z cs H locs Q pc lv (.ref g.1 :: st) := fun ls hl => va_get (D := E.2.2) (ci := 1) (v := .long (sL x 10)) (C := RX2) (T := TX2) (N := 20) C.1.1 C.1.2.1 C.1.2.2.2.2 in_X2 C.1.2.2.2.1 C.2.1 hP 0 rfl rfl 10 (by decide) (C.1.2.2.2.2 _ q250) (fun _ h9 => h9) rfl hdg (kk ls hl)
theorem mp10 (C : kC RX2 cc nL ret E z) {v : Int64} (hH : wH E (mW E g x) A z H locs) (hdg : decode cc pc = .ok (.putfield 58, 3)) (kk : ∀ (H1 : Heap) (locs1 : List Loc), wH E (mW E g (pL x 10 v)) A z H1 locs1 → V z cs H1 locs1 Q (pc + 3) lv st) : V z cs H locs Q pc lv (.long v :: .ref g.1 :: st) := fun ls hl => va_put (D := E.2.2) (ci := 1) (v := .long v) (ty := .long) (C := RX2) (T := TX2) (N := 20) C.1.1 C.1.2.1 C.1.2.2.2.2 in_X2 tyX2 tyX2_ok nmX2 C.1.2.2.2.1 C.2.1 hH.1 hH.2.1 hH.2.2.1 0 rfl rfl 10 (by decide) (C.1.2.2.2.2 _ q250) (fun _ h9 => h9) rfl (by decide +kernel) rfl rfl (Nat.le_of_ble_eq_true rfl) hdg (fun H1 locs1 h1 h2 h3 => kk H1 locs1 ⟨h1, h2, h3, hH.2.2.2⟩ ls hl)
theorem mg11 (C : kC RX2 cc nL ret E z) (hP : wP E (mW E g x) H) (hdg : decode cc pc = .ok (.getfield 62, 3)) (kk : V z cs H locs Q (pc + 3) lv (.long (sL x 11) :: st)) : V z cs H locs Q pc lv (.ref g.1 :: st) := fun ls hl => va_get (D := E.2.2) (ci := 1) (v := .long (sL x 11)) (C := RX2) (T := TX2) (N := 20) C.1.1 C.1.2.1 C.1.2.2.2.2 in_X2 C.1.2.2.2.1 C.2.1 hP 0 rfl rfl 11 (by decide) (C.1.2.2.2.2 _ q251) (fun _ h9 => h9) rfl hdg (kk ls hl)
theorem mp11 (C : kC RX2 cc nL ret E z) {v : Int64} (hH : wH E (mW E g x) A z H locs) (hdg : decode cc pc = .ok (.putfield 62, 3)) (kk : ∀ (H1 : Heap) (locs1 : List Loc), wH E (mW E g (pL x 11 v)) A z H1 locs1 → V z cs H1 locs1 Q (pc + 3) lv st) : V z cs H locs Q pc lv (.long v :: .ref g.1 :: st) := fun ls hl => va_put (D := E.2.2) (ci := 1) (v := .long v) (ty := .long) (C := RX2) (T := TX2) (N := 20) C.1.1 C.1.2.1 C.1.2.2.2.2 in_X2 tyX2 tyX2_ok nmX2 C.1.2.2.2.1 C.2.1 hH.1 hH.2.1 hH.2.2.1 0 rfl rfl 11 (by decide) (C.1.2.2.2.2 _ q251) (fun _ h9 => h9) rfl (by decide +kernel) rfl rfl (Nat.le_of_ble_eq_true rfl) hdg (fun H1 locs1 h1 h2 h3 => kk H1 locs1 ⟨h1, h2, h3, hH.2.2.2⟩ ls hl)
theorem mg12 (C : kC RX2 cc nL ret E z) (hP : wP E (mW E g x) H) (hdg : decode cc pc = .ok (.getfield 26, 3)) (kk : V z cs H locs Q (pc + 3) lv (.int (sI x 12) :: st)) : V z cs H locs Q pc lv (.ref g.1 :: st) := fun ls hl => va_get (D := E.2.2) (ci := 1) (v := .int (sI x 12)) (C := RX2) (T := TX2) (N := 20) C.1.1 C.1.2.1 C.1.2.2.2.2 in_X2 C.1.2.2.2.1 C.2.1 hP 0 rfl rfl 12 (by decide) (C.1.2.2.2.2 _ q252) (fun _ h9 => h9) rfl hdg (kk ls hl)
theorem mp12 (C : kC RX2 cc nL ret E z) {v : Int32} (hH : wH E (mW E g x) A z H locs) (hdg : decode cc pc = .ok (.putfield 26, 3)) (kk : ∀ (H1 : Heap) (locs1 : List Loc), wH E (mW E g (pI x 12 v)) A z H1 locs1 → V z cs H1 locs1 Q (pc + 3) lv st) : V z cs H locs Q pc lv (.int v :: .ref g.1 :: st) := fun ls hl => va_put (D := E.2.2) (ci := 1) (v := .int v) (ty := .int) (C := RX2) (T := TX2) (N := 20) C.1.1 C.1.2.1 C.1.2.2.2.2 in_X2 tyX2 tyX2_ok nmX2 C.1.2.2.2.1 C.2.1 hH.1 hH.2.1 hH.2.2.1 0 rfl rfl 12 (by decide) (C.1.2.2.2.2 _ q252) (fun _ h9 => h9) rfl (by decide +kernel) rfl rfl (Nat.le_of_ble_eq_true rfl) hdg (fun H1 locs1 h1 h2 h3 => kk H1 locs1 ⟨h1, h2, h3, hH.2.2.2⟩ ls hl)
theorem mg13 (C : kC RX2 cc nL ret E z) (hP : wP E (mW E g x) H) (hdg : decode cc pc = .ok (.getfield 76, 3)) (kk : V z cs H locs Q (pc + 3) lv (.int (sI x 13) :: st)) : V z cs H locs Q pc lv (.ref g.1 :: st) := fun ls hl => va_get (D := E.2.2) (ci := 1) (v := .int (sI x 13)) (C := RX2) (T := TX2) (N := 20) C.1.1 C.1.2.1 C.1.2.2.2.2 in_X2 C.1.2.2.2.1 C.2.1 hP 0 rfl rfl 13 (by decide) (C.1.2.2.2.2 _ q253) (fun _ h9 => h9) rfl hdg (kk ls hl)
theorem mp13 (C : kC RX2 cc nL ret E z) {v : Int32} (hH : wH E (mW E g x) A z H locs) (hdg : decode cc pc = .ok (.putfield 76, 3)) (kk : ∀ (H1 : Heap) (locs1 : List Loc), wH E (mW E g (pI x 13 v)) A z H1 locs1 → V z cs H1 locs1 Q (pc + 3) lv st) : V z cs H locs Q pc lv (.int v :: .ref g.1 :: st) := fun ls hl => va_put (D := E.2.2) (ci := 1) (v := .int v) (ty := .int) (C := RX2) (T := TX2) (N := 20) C.1.1 C.1.2.1 C.1.2.2.2.2 in_X2 tyX2 tyX2_ok nmX2 C.1.2.2.2.1 C.2.1 hH.1 hH.2.1 hH.2.2.1 0 rfl rfl 13 (by decide) (C.1.2.2.2.2 _ q253) (fun _ h9 => h9) rfl (by decide +kernel) rfl rfl (Nat.le_of_ble_eq_true rfl) hdg (fun H1 locs1 h1 h2 h3 => kk H1 locs1 ⟨h1, h2, h3, hH.2.2.2⟩ ls hl)
theorem mg14 (C : kC RX2 cc nL ret E z) (hP : wP E (mW E g x) H) (hdg : decode cc pc = .ok (.getfield 29, 3)) (kk : V z cs H locs Q (pc + 3) lv (.ref (g.2 14) :: st)) : V z cs H locs Q pc lv (.ref g.1 :: st) := fun ls hl => va_get (D := E.2.2) (ci := 1) (v := .ref (g.2 14)) (C := RX2) (T := TX2) (N := 20) C.1.1 C.1.2.1 C.1.2.2.2.2 in_X2 C.1.2.2.2.1 C.2.1 hP 0 rfl rfl 14 (by decide) (C.1.2.2.2.2 _ q254) (fun _ h9 => h9) rfl hdg (kk ls hl)
theorem ma14 (C : kC RX2 cc nL ret E z) {i : Int32} (j : Nat) (hP : wP E (mW E g x) H) (hi : i = nI j) (hj : j < 4400) (hdg : decode cc pc = .ok (.iaload, 1)) (kk : V z cs H locs Q (pc + 1) lv (.int (sA x 14 j) :: st)) : V z cs H locs Q pc lv (.int i :: .ref (g.2 14) :: st) := v_iald C hP 5 rfl j hi hj (by decide) hdg kk
theorem ms14 (C : kC RX2 cc nL ret E z) {i v : Int32} (j : Nat) (hH : wH E (mW E g x) A z H locs) (hi : i = nI j) (hj : j < 4400) (hdg : decode cc pc = .ok (.iastore, 1)) (kk : ∀ (H1 : Heap) (locs1 : List Loc), wH E (mW E g (pA x 14 j v)) A z H1 locs1 → V z cs H1 locs1 Q (pc + 1) lv st) : V z cs H locs Q pc lv (.int v :: .int i :: .ref (g.2 14) :: st) := v_iast C hH 5 rfl j hi hj (by decide) hdg rfl kk
theorem mg15 (C : kC RX2 cc nL ret E z) (hP : wP E (mW E g x) H) (hdg : decode cc pc = .ok (.getfield 32, 3)) (kk : V z cs H locs Q (pc + 3) lv (.ref (g.2 15) :: st)) : V z cs H locs Q pc lv (.ref g.1 :: st) := fun ls hl => va_get (D := E.2.2) (ci := 1) (v := .ref (g.2 15)) (C := RX2) (T := TX2) (N := 20) C.1.1 C.1.2.1 C.1.2.2.2.2 in_X2 C.1.2.2.2.1 C.2.1 hP 0 rfl rfl 15 (by decide) (C.1.2.2.2.2 _ q255) (fun _ h9 => h9) rfl hdg (kk ls hl)
theorem ma15 (C : kC RX2 cc nL ret E z) {i : Int32} (j : Nat) (hP : wP E (mW E g x) H) (hi : i = nI j) (hj : j < 4400) (hdg : decode cc pc = .ok (.laload, 1)) (kk : V z cs H locs Q (pc + 1) lv (.long (sF x j) :: st)) : V z cs H locs Q pc lv (.int i :: .ref (g.2 15) :: st) := v_lald C hP 6 rfl j hi hj (by decide) hdg kk
theorem ms15 (C : kC RX2 cc nL ret E z) {i : Int32} {v : Int64} (j : Nat) (hH : wH E (mW E g x) A z H locs) (hi : i = nI j) (hj : j < 4400) (hdg : decode cc pc = .ok (.lastore, 1)) (kk : ∀ (H1 : Heap) (locs1 : List Loc), wH E (mW E g (pF x j v)) A z H1 locs1 → V z cs H1 locs1 Q (pc + 1) lv st) : V z cs H locs Q pc lv (.long v :: .int i :: .ref (g.2 15) :: st) := v_last C hH 6 rfl j hi hj (by decide) hdg rfl kk
theorem mg16 (C : kC RX2 cc nL ret E z) (hP : wP E (mW E g x) H) (hdg : decode cc pc = .ok (.getfield 36, 3)) (kk : V z cs H locs Q (pc + 3) lv (.ref (g.2 16) :: st)) : V z cs H locs Q pc lv (.ref g.1 :: st) := fun ls hl => va_get (D := E.2.2) (ci := 1) (v := .ref (g.2 16)) (C := RX2) (T := TX2) (N := 20) C.1.1 C.1.2.1 C.1.2.2.2.2 in_X2 C.1.2.2.2.1 C.2.1 hP 0 rfl rfl 16 (by decide) (C.1.2.2.2.2 _ q256) (fun _ h9 => h9) rfl hdg (kk ls hl)
theorem ma16 (C : kC RX2 cc nL ret E z) {i : Int32} (j : Nat) (hP : wP E (mW E g x) H) (hi : i = nI j) (hj : j < 4400) (hdg : decode cc pc = .ok (.iaload, 1)) (kk : V z cs H locs Q (pc + 1) lv (.int (sA x 16 j) :: st)) : V z cs H locs Q pc lv (.int i :: .ref (g.2 16) :: st) := v_iald C hP 7 rfl j hi hj (by decide) hdg kk
theorem ms16 (C : kC RX2 cc nL ret E z) {i v : Int32} (j : Nat) (hH : wH E (mW E g x) A z H locs) (hi : i = nI j) (hj : j < 4400) (hdg : decode cc pc = .ok (.iastore, 1)) (kk : ∀ (H1 : Heap) (locs1 : List Loc), wH E (mW E g (pA x 16 j v)) A z H1 locs1 → V z cs H1 locs1 Q (pc + 1) lv st) : V z cs H locs Q pc lv (.int v :: .int i :: .ref (g.2 16) :: st) := v_iast C hH 7 rfl j hi hj (by decide) hdg rfl kk
theorem mg17 (C : kC RX2 cc nL ret E z) (hP : wP E (mW E g x) H) (hdg : decode cc pc = .ok (.getfield 93, 3)) (kk : V z cs H locs Q (pc + 3) lv (.int (sI x 17) :: st)) : V z cs H locs Q pc lv (.ref g.1 :: st) := fun ls hl => va_get (D := E.2.2) (ci := 1) (v := .int (sI x 17)) (C := RX2) (T := TX2) (N := 20) C.1.1 C.1.2.1 C.1.2.2.2.2 in_X2 C.1.2.2.2.1 C.2.1 hP 0 rfl rfl 17 (by decide) (C.1.2.2.2.2 _ q257) (fun _ h9 => h9) rfl hdg (kk ls hl)
theorem mp17 (C : kC RX2 cc nL ret E z) {v : Int32} (hH : wH E (mW E g x) A z H locs) (hdg : decode cc pc = .ok (.putfield 93, 3)) (kk : ∀ (H1 : Heap) (locs1 : List Loc), wH E (mW E g (pI x 17 v)) A z H1 locs1 → V z cs H1 locs1 Q (pc + 3) lv st) : V z cs H locs Q pc lv (.int v :: .ref g.1 :: st) := fun ls hl => va_put (D := E.2.2) (ci := 1) (v := .int v) (ty := .int) (C := RX2) (T := TX2) (N := 20) C.1.1 C.1.2.1 C.1.2.2.2.2 in_X2 tyX2 tyX2_ok nmX2 C.1.2.2.2.1 C.2.1 hH.1 hH.2.1 hH.2.2.1 0 rfl rfl 17 (by decide) (C.1.2.2.2.2 _ q257) (fun _ h9 => h9) rfl (by decide +kernel) rfl rfl (Nat.le_of_ble_eq_true rfl) hdg (fun H1 locs1 h1 h2 h3 => kk H1 locs1 ⟨h1, h2, h3, hH.2.2.2⟩ ls hl)
theorem mg18 (C : kC RX2 cc nL ret E z) (hP : wP E (mW E g x) H) (hdg : decode cc pc = .ok (.getfield 83, 3)) (kk : V z cs H locs Q (pc + 3) lv (.int (sI x 18) :: st)) : V z cs H locs Q pc lv (.ref g.1 :: st) := fun ls hl => va_get (D := E.2.2) (ci := 1) (v := .int (sI x 18)) (C := RX2) (T := TX2) (N := 20) C.1.1 C.1.2.1 C.1.2.2.2.2 in_X2 C.1.2.2.2.1 C.2.1 hP 0 rfl rfl 18 (by decide) (C.1.2.2.2.2 _ q258) (fun _ h9 => h9) rfl hdg (kk ls hl)
theorem mp18 (C : kC RX2 cc nL ret E z) {v : Int32} (hH : wH E (mW E g x) A z H locs) (hn : v = 0 ∨ v = 1) (hdg : decode cc pc = .ok (.putfield 83, 3)) (kk : ∀ (H1 : Heap) (locs1 : List Loc), wH E (mW E g (pI x 18 v)) A z H1 locs1 → V z cs H1 locs1 Q (pc + 3) lv st) : V z cs H locs Q pc lv (.int v :: .ref g.1 :: st) := fun ls hl => va_put (D := E.2.2) (ci := 1) (v := .int v) (ty := .boolean) (C := RX2) (T := TX2) (N := 20) C.1.1 C.1.2.1 C.1.2.2.2.2 in_X2 tyX2 tyX2_ok nmX2 C.1.2.2.2.1 C.2.1 hH.1 hH.2.1 hH.2.2.1 0 rfl rfl 18 (by decide) (C.1.2.2.2.2 _ q258) (fun _ h9 => h9) rfl (by decide +kernel) (by rcases hn with rfl | rfl <;> rfl) (by rcases hn with rfl | rfl <;> rfl) (Nat.le_of_ble_eq_true rfl) hdg (fun H1 locs1 h1 h2 h3 => kk H1 locs1 ⟨h1, h2, h3, hH.2.2.2⟩ ls hl)
theorem mg19 (C : kC RX2 cc nL ret E z) (hP : wP E (mW E g x) H) (hdg : decode cc pc = .ok (.getfield 39, 3)) (kk : V z cs H locs Q (pc + 3) lv (.ref (g.2 19) :: st)) : V z cs H locs Q pc lv (.ref g.1 :: st) := fun ls hl => va_get (D := E.2.2) (ci := 1) (v := .ref (g.2 19)) (C := RX2) (T := TX2) (N := 20) C.1.1 C.1.2.1 C.1.2.2.2.2 in_X2 C.1.2.2.2.1 C.2.1 hP 0 rfl rfl 19 (by decide) (C.1.2.2.2.2 _ q259) (fun _ h9 => h9) rfl hdg (kk ls hl)
theorem ma19 (C : kC RX2 cc nL ret E z) {i : Int32} (j : Nat) (hP : wP E (mW E g x) H) (hi : i = nI j) (hj : j < 4400) (hdg : decode cc pc = .ok (.iaload, 1)) (kk : V z cs H locs Q (pc + 1) lv (.int (sA x 19 j) :: st)) : V z cs H locs Q pc lv (.int i :: .ref (g.2 19) :: st) := v_iald C hP 8 rfl j hi hj (by decide) hdg kk
theorem ms19 (C : kC RX2 cc nL ret E z) {i v : Int32} (j : Nat) (hH : wH E (mW E g x) A z H locs) (hi : i = nI j) (hj : j < 4400) (hdg : decode cc pc = .ok (.iastore, 1)) (kk : ∀ (H1 : Heap) (locs1 : List Loc), wH E (mW E g (pA x 19 j v)) A z H1 locs1 → V z cs H1 locs1 Q (pc + 1) lv st) : V z cs H locs Q pc lv (.int v :: .int i :: .ref (g.2 19) :: st) := v_iast C hH 8 rfl j hi hj (by decide) hdg rfl kk
end FX2
end
section
/-! Plain laws: words, prefixes, links, matches. Strings are kept REVERSED (newest byte first) -/
abbrev Wd : Type := List Int32
/-- the reversed string r is the beginning of some word (or empty) -/
def isPre (D : List Wd) (r : Wd) : Bool := r.isEmpty || D.any (fun w => r.reverse.isPrefixOf w)
theorem isPre_iff {D : List Wd} {r : Wd} : isPre D r = true ↔ r = [] ∨ ∃ w, w ∈ D ∧ r.reverse <+: w := by
  simp [isPre]
theorem isPre_nil {D : List Wd} : isPre D [] = true := rfl
theorem isPre_tail {D : List Wd} {b : Int32} {r : Wd} (h : isPre D (b :: r) = true) : isPre D r = true := by
  rcases isPre_iff.mp h with h | ⟨w, h1, h2⟩
  · cases h
  · refine isPre_iff.mpr (Or.inr ⟨w, h1, ?_⟩)
    rw [List.reverse_cons] at h2
    exact List.IsPrefix.trans (List.prefix_append _ _) h2
/-- the longest take of r, at most m long, that is a beginning -/
def sh (D : List Wd) (r : Wd) : Nat → Nat
  | 0 => 0
  | m + 1 => if isPre D (r.take (m + 1)) = true then m + 1 else sh D r m
theorem sh_le (D : List Wd) (r : Wd) : ∀ m, sh D r m ≤ m
  | 0 => Nat.le_refl _
  | m + 1 => by
    unfold sh
    split
    · exact Nat.le_refl _
    · exact Nat.le_succ_of_le (sh_le D r m)
theorem sh_pre (D : List Wd) (r : Wd) : ∀ m, isPre D (r.take (sh D r m)) = true
  | 0 => rfl
  | m + 1 => by
    unfold sh
    split
    · assumption
    · exact sh_pre D r m
theorem sh_max (D : List Wd) (r : Wd) : ∀ m j, sh D r m < j → j ≤ m → isPre D (r.take j) = false
  | 0, j, h1, h2 => by omega
  | m + 1, j, h1, h2 => by
    unfold sh at h1
    split at h1
    · omega
    · rename_i hn
      by_cases hj : j = m + 1
      · subst hj; simpa using hn
      · exact sh_max D r m j h1 (by omega)
theorem sh_unique {D : List Wd} {r : Wd} {m i : Nat} (hi : i ≤ m) (hp : isPre D (r.take i) = true) (hm : ∀ j, i < j → j ≤ m → isPre D (r.take j) = false) : sh D r m = i := by
  rcases Nat.lt_trichotomy (sh D r m) i with h | h | h
  · rw [sh_max D r m i h hi] at hp; cases hp
  · exact h
  · have := hm _ h (sh_le D r m)
    rw [sh_pre] at this; cases this
/-- the longest beginning that r ends with, shorter than r -/
def lps (D : List Wd) (r : Wd) : Wd := r.take (sh D r (r.length - 1))
theorem lps_nil {D : List Wd} : lps D [] = [] := rfl
theorem lps_len {D : List Wd} {r : Wd} : (lps D r).length = sh D r (r.length - 1) := by
  have := sh_le D r (r.length - 1)
  unfold lps
  rw [List.length_take]
  omega
theorem lps_lt {D : List Wd} {r : Wd} (h : r ≠ []) : (lps D r).length < r.length := by
  have := sh_le D r (r.length - 1)
  have h0 : 0 < r.length := List.length_pos_iff.mpr h
  rw [lps_len]
  omega
theorem lps_pre {D : List Wd} {r : Wd} : isPre D (lps D r) = true := sh_pre D r _
/-- the longest beginning that r ends with -/
def lst (D : List Wd) (r : Wd) : Wd := r.take (sh D r r.length)
theorem take_lps {D : List Wd} {c : Wd} {j : Nat} (h : j ≤ (lps D c).length) : (lps D c).take j = c.take j := by
  rw [lps_len] at h
  unfold lps
  rw [List.take_take, Nat.min_eq_left h]
theorem sh_cons {D : List Wd} {b : Int32} {c : Wd} (hc : c ≠ []) : sh D (b :: c) c.length = sh D (b :: lps D c) (lps D c).length.succ := by
  have hlt := lps_lt (D := D) hc
  have hle := sh_le D (b :: lps D c) (lps D c).length.succ
  refine sh_unique (by omega) ?_ ?_
  · have h1 := sh_pre D (b :: lps D c) (lps D c).length.succ
    cases hi : sh D (b :: lps D c) (lps D c).length.succ with
    | zero => rfl
    | succ i =>
      rw [hi] at h1 hle
      rw [List.take_succ_cons] at h1 ⊢
      rwa [take_lps (by omega)] at h1
  · intro j h1 h2
    cases j with
    | zero => omega
    | succ j =>
      rw [List.take_succ_cons]
      cases hp : isPre D (b :: c.take j) with
      | false => rfl
      | true =>
        have h3 := isPre_tail hp
        have h4 : j ≤ (lps D c).length := by
          rw [lps_len]
          refine Nat.le_of_not_lt (fun h5 => ?_)
          rw [sh_max D c _ j h5 (by omega)] at h3
          cases h3
        have h5 := sh_max D (b :: lps D c) (lps D c).length.succ (j + 1) h1 (by omega)
        rw [List.take_succ_cons, take_lps h4, hp] at h5
        cases h5
theorem lps_cons {D : List Wd} {b : Int32} {c : Wd} (hc : c ≠ []) : lps D (b :: c) = lst D (b :: lps D c) := by
  have hlt := lps_lt (D := D) hc
  have e := sh_cons (D := D) (b := b) hc
  have hle := sh_le D (b :: lps D c) (lps D c).length.succ
  unfold lst
  rw [show lps D (b :: c) = (b :: c).take (sh D (b :: c) c.length) from rfl, e, List.length_cons]
  cases hi : sh D (b :: lps D c) (lps D c).length.succ with
  | zero => rfl
  | succ i =>
    rw [hi] at hle
    rw [List.take_succ_cons, List.take_succ_cons, take_lps (by omega)]
theorem lps_one {D : List Wd} {b : Int32} : lps D [b] = [] := rfl
/-- along the links as long as b leads nowhere -/
def go (D : List Wd) (b : Int32) : Nat → Wd → Int64 → Wd × Int64
  | 0, c, s => (c, s)
  | f + 1, c, s => if isPre D (b :: c) = true ∨ c = [] then (c, s) else go D b f (lps D c) (s + 1)
theorem go_stop {D : List Wd} {b : Int32} {c : Wd} (h : isPre D (b :: c) = true ∨ c = []) (f : Nat) (s : Int64) : go D b f c s = (c, s) := by
  cases f with
  | zero => rfl
  | succ f => unfold go; rw [if_pos h]
theorem go_step {D : List Wd} {b : Int32} {c : Wd} (h1 : isPre D (b :: c) = false) (h2 : c ≠ []) (f : Nat) (s : Int64) : go D b (f + 1) c s = go D b f (lps D c) (s + 1) := by
  rw [go, if_neg]
  rintro (h | h)
  · rw [h1] at h; cases h
  · exact h2 h
/-- more fuel than the length changes nothing -/
theorem go_fuel {D : List Wd} {b : Int32} : ∀ (n : Nat) (c : Wd) (f g : Nat) (s : Int64), c.length ≤ n → c.length ≤ f → c.length ≤ g → go D b f c s = go D b g c s := by
  intro n
  induction n with
  | zero =>
    intro c f g s h1 h2 h3
    have : c = [] := List.length_eq_zero_iff.mp (by omega)
    rw [go_stop (Or.inr this), go_stop (Or.inr this)]
  | succ n ih =>
    intro c f g s h1 h2 h3
    by_cases hc : c = []
    · rw [go_stop (Or.inr hc), go_stop (Or.inr hc)]
    · cases hp : isPre D (b :: c) with
      | true => rw [go_stop (Or.inl hp), go_stop (Or.inl hp)]
      | false =>
        have hlt := lps_lt (D := D) hc
        cases f with
        | zero => omega
        | succ f =>
          cases g with
          | zero => omega
          | succ g =>
            rw [go_step hp hc, go_step hp hc]
            exact ih _ _ _ _ (by omega) (by omega) (by omega)
/-- where one comes from c with b -/
def fol (D : List Wd) (b : Int32) (c : Wd) : Wd := if isPre D (b :: (go D b c.length c 0).1) = true then b :: (go D b c.length c 0).1 else []
theorem go_fst {D : List Wd} {b : Int32} : ∀ (f : Nat) (c : Wd) (s t : Int64), (go D b f c s).1 = (go D b f c t).1 := by
  intro f
  induction f with
  | zero => intro c s t; rfl
  | succ f ih =>
    intro c s t
    unfold go
    split
    · rfl
    · exact ih _ _ _
theorem fol_eq {D : List Wd} {b : Int32} : ∀ (n : Nat) (c : Wd), c.length ≤ n → fol D b c = lst D (b :: c) := by
  intro n
  induction n with
  | zero =>
    intro c h
    have hc : c = [] := List.length_eq_zero_iff.mp (by omega)
    subst hc
    unfold fol lst
    rw [go_stop (Or.inr rfl)]
    simp [sh]
    split <;> rfl
  | succ n ih =>
    intro c h
    cases hp : isPre D (b :: c) with
    | true =>
      unfold fol lst
      rw [go_stop (Or.inl hp), if_pos hp, List.length_cons, sh, if_pos (by rw [List.take_of_length_le (by simp)]; exact hp), List.take_of_length_le (by simp)]
    | false =>
      by_cases hc : c = []
      · subst hc
        unfold fol lst
        rw [go_stop (Or.inr rfl), if_neg (by rw [hp]; simp)]
        simp [sh, hp]
      · have hlt := lps_lt (D := D) hc
        have e1 : fol D b c = fol D b (lps D c) := by
          unfold fol
          have h0 : c.length = (c.length - 1) + 1 := by omega
          have e : (go D b c.length c 0).1 = (go D b (lps D c).length (lps D c) 0).1 := by
            rw [h0, go_step hp hc, go_fst _ _ _ 0, go_fuel (lps D c).length (lps D c) (c.length - 1) (lps D c).length 0 (by omega) (by omega) (by omega)]
          rw [e]
        rw [e1, ih _ (by omega), ← lps_cons hc]
        unfold lps lst
        rw [List.length_cons, sh, if_neg]
        · rfl
        · rw [List.take_of_length_le (by simp), hp]; simp
theorem fol_lps {D : List Wd} {b : Int32} {c : Wd} (hc : c ≠ []) : lps D (b :: c) = fol D b (lps D c) := by
  rw [lps_cons hc, fol_eq _ _ (Nat.le_refl _)]
theorem fol_pre {D : List Wd} {b : Int32} {c : Wd} : isPre D (fol D b c) = true := by
  unfold fol
  split
  · assumption
  · rfl
/-- the words that are r, in order -/
def occ (D : List Wd) (r : Wd) : List Nat := (List.range D.length).filter (fun w => D.getD w [] == r.reverse)
theorem mem_occ {D : List Wd} {r : Wd} {w : Nat} : w ∈ occ D r ↔ w < D.length ∧ D.getD w [] = r.reverse := by
  simp [occ]
theorem occ_nodup {D : List Wd} {r : Wd} : (occ D r).Nodup := List.Nodup.sublist List.filter_sublist List.nodup_range
theorem occ_pre {D : List Wd} {r : Wd} (h : occ D r ≠ []) : isPre D r = true := by
  obtain ⟨w, hw⟩ := List.exists_mem_of_ne_nil _ h
  obtain ⟨h1, h2⟩ := mem_occ.mp hw
  refine isPre_iff.mpr (Or.inr ⟨D.getD w [], ?_, ?_⟩)
  · rw [List.getD_eq_getElem?_getD, List.getElem?_eq_getElem h1]; exact List.getElem_mem h1
  · rw [h2]; exact List.prefix_rfl
/-- all words with which r ends, the longest first -/
def mtU (D : List Wd) (r : Wd) : Nat → List Nat
  | 0 => []
  | n + 1 => occ D (r.take (n + 1)) ++ mtU D r n
def mt (D : List Wd) (r : Wd) : List Nat := mtU D r r.length
theorem mt_nil {D : List Wd} : mt D [] = [] := rfl
theorem mtU_sh {D : List Wd} {r : Wd} : ∀ n, mtU D r n = mtU D r (sh D r n)
  | 0 => rfl
  | n + 1 => by
    unfold sh
    split
    · rfl
    · rename_i hn
      have : occ D (r.take (n + 1)) = [] := by
        cases ho : occ D (r.take (n + 1)) with
        | nil => rfl
        | cons a l => exact absurd (occ_pre (by rw [ho]; simp)) hn
      rw [mtU, this, List.nil_append]
      exact mtU_sh n
theorem mtU_take {D : List Wd} {r : Wd} : ∀ n m, n ≤ m → mtU D (r.take m) n = mtU D r n
  | 0, m, _ => rfl
  | n + 1, m, h => by
    rw [mtU, mtU, List.take_take, Nat.min_eq_left h, mtU_take n m (by omega)]
theorem mt_lps {D : List Wd} {r : Wd} (hr : r ≠ []) : mt D r = occ D r ++ mt D (lps D r) := by
  have h0 : 0 < r.length := List.length_pos_iff.mpr hr
  have e : r.length = (r.length - 1) + 1 := by omega
  have e2 : mt D (lps D r) = mtU D r (r.length - 1) := by
    unfold mt
    rw [lps_len, mtU_sh (r.length - 1)]
    exact mtU_take _ _ (Nat.le_refl _)
  rw [e2]
  unfold mt
  rw [e, mtU, ← e, List.take_length]
theorem mem_mtU {D : List Wd} {r : Wd} {w : Nat} : ∀ n, w ∈ mtU D r n → w < D.length ∧ ∃ i, 1 ≤ i ∧ i ≤ n ∧ D.getD w [] = (r.take i).reverse
  | 0, h => by cases h
  | n + 1, h => by
    rw [mtU] at h
    rcases List.mem_append.mp h with h | h
    · obtain ⟨h1, h2⟩ := mem_occ.mp h
      exact ⟨h1, n + 1, by omega, by omega, h2⟩
    · obtain ⟨h1, i, h2, h3, h4⟩ := mem_mtU n h
      exact ⟨h1, i, h2, by omega, h4⟩
theorem mtU_nodup {D : List Wd} {r : Wd} : ∀ n, n ≤ r.length → (mtU D r n).Nodup
  | 0, _ => List.nodup_nil
  | n + 1, h => by
    rw [mtU, List.nodup_append]
    refine ⟨occ_nodup, mtU_nodup n (by omega), ?_⟩
    intro a h1 b h2 hab
    subst hab
    have h3 := congrArg List.length (mem_occ.mp h1).2
    obtain ⟨-, i, -, h5, h6⟩ := mem_mtU n h2
    have h7 := congrArg List.length h6
    rw [h3] at h7
    simp at h7
    omega
theorem mt_lt {D : List Wd} {r : Wd} {w : Nat} (h : w ∈ mt D r) : w < D.length := (mem_mtU _ h).1
theorem mt_le {D : List Wd} {r : Wd} : (mt D r).length ≤ D.length := by
  have := List.Nodup.length_le_of_subset (l₂ := List.range D.length) (mtU_nodup (D := D) (r := r) r.length (Nat.le_refl _)) (fun w h => List.mem_range.mpr (mem_mtU _ h).1)
  unfold mt
  simpa using this
theorem occ_nil {D : List Wd} (hD : ∀ w, w ∈ D → w ≠ []) : occ D [] = [] := by
  cases ho : occ D [] with
  | nil => rfl
  | cons a l =>
    obtain ⟨h1, h2⟩ := mem_occ.mp (show a ∈ occ D [] by rw [ho]; exact List.mem_cons_self)
    rw [List.getD_eq_getElem?_getD, List.getElem?_eq_getElem h1] at h2
    exact absurd h2 (hD _ (List.getElem_mem h1))
/-- adding a word -/
theorem occ_add {D : List Wd} {d r : Wd} : occ (D ++ [d]) r = occ D r ++ (if r = d.reverse then [D.length] else []) := by
  unfold occ
  rw [List.length_append, List.length_singleton, List.range_succ, List.filter_append]
  congr 1
  · refine List.filter_congr (fun w hw => ?_)
    have : w < D.length := List.mem_range.mp hw
    rw [List.getD_eq_getElem?_getD, List.getD_eq_getElem?_getD, List.getElem?_append_left this]
  · have e : (D ++ [d]).getD D.length [] = d := by simp
    simp only [List.filter_cons, List.filter_nil, e]
    by_cases hr : r = d.reverse
    · subst hr; simp
    · have : ¬ d = r.reverse := fun h => hr (by rw [h]; simp)
      simp [hr, this]
theorem isPre_add {D : List Wd} {d r : Wd} : isPre (D ++ [d]) r = true ↔ isPre D r = true ∨ r.reverse <+: d := by
  rw [isPre_iff, isPre_iff]
  constructor
  · rintro (h | ⟨w, h1, h2⟩)
    · exact Or.inl (Or.inl h)
    · rcases List.mem_append.mp h1 with h | h
      · exact Or.inl (Or.inr ⟨w, h, h2⟩)
      · rw [List.mem_singleton.mp h] at h2; exact Or.inr h2
  · rintro ((h | ⟨w, h1, h2⟩) | h)
    · exact Or.inl h
    · exact Or.inr ⟨w, List.mem_append_left _ h1, h2⟩
    · exact Or.inr ⟨d, by simp, h⟩
/-- how far two words begin alike -/
def cpl : Wd → Wd → Nat
  | [], _ => 0
  | _ :: _, [] => 0
  | a :: u, b :: v => if a = b then cpl u v + 1 else 0
theorem cpl_le1 : ∀ (u v : Wd), cpl u v ≤ u.length
  | [], _ => Nat.le_refl _
  | _ :: _, [] => Nat.zero_le _
  | a :: u, b :: v => by
    have := cpl_le1 u v
    unfold cpl
    split
    · simp; omega
    · exact Nat.zero_le _
theorem cpl_le2 : ∀ (u v : Wd), cpl u v ≤ v.length
  | [], _ => Nat.zero_le _
  | _ :: _, [] => Nat.le_refl _
  | a :: u, b :: v => by
    have := cpl_le2 u v
    unfold cpl
    split
    · simp; omega
    · exact Nat.zero_le _
theorem cpl_at : ∀ (u v : Wd) (k : Nat), k < cpl u v → u.getD k 0 = v.getD k 0
  | [], _, k, h => by simp [cpl] at h
  | _ :: _, [], k, h => by simp [cpl] at h
  | a :: u, b :: v, k, h => by
    unfold cpl at h
    split at h
    · rename_i hab
      cases k with
      | zero => simpa using hab
      | succ k => simpa using cpl_at u v k (by omega)
    · omega
theorem cpl_more : ∀ (u v : Wd) (k : Nat), k ≤ cpl u v → k < u.length → k < v.length → u.getD k 0 = v.getD k 0 → k + 1 ≤ cpl u v
  | [], _, k, _, h, _, _ => by simp at h
  | _ :: _, [], k, _, _, h, _ => by simp at h
  | a :: u, b :: v, k, h, h1, h2, h3 => by
    unfold cpl at h ⊢
    cases k with
    | zero =>
      have : a = b := by simpa using h3
      rw [if_pos this]; omega
    | succ k =>
      split at h
      · have := cpl_more u v k (by omega) (by simpa using h1) (by simpa using h2) (by simpa using h3)
        rw [if_pos ‹a = b›]; omega
      · omega
theorem cpl_iff : ∀ (w d : Wd) (k : Nat), k ≤ d.length → (d.take k <+: w ↔ k ≤ cpl w d)
  | w, d, 0, _ => by simp
  | [], [], k + 1, h => by simp at h
  | [], b :: v, k + 1, h => by simp [cpl]
  | a :: u, [], k + 1, h => by simp at h
  | a :: u, b :: v, k + 1, h => by
    have ih := cpl_iff u v k (by simpa using h)
    rw [List.take_succ_cons, List.cons_prefix_cons, cpl]
    by_cases hab : a = b
    · rw [if_pos hab, ih]
      simp [hab]
    · rw [if_neg hab]
      constructor
      · intro q; exact absurd q.1.symm hab
      · intro q; omega
/-- how far d begins like some word -/
def com (D : List Wd) (d : Wd) : Nat → Nat
  | 0 => 0
  | w + 1 => if com D d w < cpl (D.getD w []) d then cpl (D.getD w []) d else com D d w
theorem com_iff {D : List Wd} {d : Wd} {k : Nat} : ∀ n, (k ≤ com D d n ↔ k = 0 ∨ ∃ w, w < n ∧ k ≤ cpl (D.getD w []) d)
  | 0 => by simp [com]
  | n + 1 => by
    have ih := com_iff (D := D) (d := d) (k := k) n
    unfold com
    constructor
    · intro h
      by_cases h1 : k ≤ com D d n
      · rcases ih.mp h1 with h2 | ⟨w, h2, h3⟩
        · exact Or.inl h2
        · exact Or.inr ⟨w, by omega, h3⟩
      · split at h
        · exact Or.inr ⟨n, by omega, h⟩
        · exact absurd h h1
    · intro h
      have key : k ≤ com D d n ∨ k ≤ cpl (D.getD n []) d := by
        rcases h with h | ⟨w, h1, h2⟩
        · exact Or.inl (by omega)
        · by_cases hw : w = n
          · subst hw; exact Or.inr h2
          · exact Or.inl (ih.mpr (Or.inr ⟨w, by omega, h2⟩))
      split <;> omega
theorem com_le {D : List Wd} {d : Wd} : ∀ n, com D d n ≤ d.length
  | 0 => Nat.zero_le _
  | n + 1 => by
    unfold com
    split
    · exact cpl_le2 _ _
    · exact com_le n
theorem com_pre {D : List Wd} {d : Wd} {k : Nat} (hk : k ≤ d.length) : isPre D (d.take k).reverse = true ↔ k ≤ com D d D.length := by
  rw [isPre_iff, com_iff, List.reverse_reverse]
  constructor
  · rintro (h | ⟨w, h1, h2⟩)
    · left
      have := congrArg List.length h
      rw [List.length_reverse, List.length_take, List.length_nil] at this
      omega
    · right
      obtain ⟨i, h3, h4⟩ := List.getElem_of_mem h1
      refine ⟨i, h3, (cpl_iff _ _ _ hk).mp ?_⟩
      rw [List.getD_eq_getElem?_getD, List.getElem?_eq_getElem h3]
      simpa [h4] using h2
  · rintro (h | ⟨w, h1, h2⟩)
    · left; subst h; rfl
    · right
      refine ⟨D.getD w [], ?_, (cpl_iff _ _ _ hk).mpr h2⟩
      rw [List.getD_eq_getElem?_getD, List.getElem?_eq_getElem h1]; exact List.getElem_mem h1
/-- a row of numbers linked by f, from c on -/
def chain (f : Nat → Int32) : Int32 → List Nat → Prop
  | c, [] => c = -1
  | c, n :: t => c = nI n ∧ chain f (f n) t
theorem chain_congr {f g : Nat → Int32} : ∀ (l : List Nat) (c : Int32), (∀ n, n ∈ l → f n = g n) → chain f c l → chain g c l
  | [], c, _, h => h
  | n :: t, c, hf, h => ⟨h.1, by
      rw [← hf n List.mem_cons_self]
      exact chain_congr t _ (fun k hk => hf k (List.mem_cons_of_mem _ hk)) h.2⟩
/-- appending at the end of a row -/
theorem chain_snoc {f : Nat → Int32} {w : Nat} : ∀ (l : List Nat) (c : Int32) (e : Nat), l.Nodup → w ∉ l → l.getLast? = some e → chain f c l → chain (upd (upd f w (-1)) e (nI w)) c (l ++ [w])
  | [], c, e, _, _, h, _ => by simp at h
  | [n], c, e, hn, hw, h, hc => by
    simp at h
    subst h
    have hne : w ≠ n := fun q => hw (by simp [q])
    refine ⟨hc.1, ?_, ?_⟩
    · simp [upd]
    · show upd (upd f w (-1)) n (nI w) w = -1
      simp [upd, hne]
  | n :: m :: t, c, e, hn, hw, h, hc => by
    have hn' := List.nodup_cons.mp hn
    have he : (m :: t).getLast? = some e := by simpa using h
    have hne : n ≠ e := fun q => hn'.1 (by rw [q]; exact List.mem_of_getLast? he)
    have hwn : n ≠ w := fun q => hw (by rw [q]; exact List.mem_cons_self)
    refine ⟨hc.1, ?_⟩
    have : upd (upd f w (-1)) e (nI w) n = f n := by simp [upd, hne, hwn]
    rw [this]
    exact chain_snoc (m :: t) (f n) e hn'.2 (fun q => hw (List.mem_cons_of_mem _ q)) he hc.2
/-- the first of a row with the label b -/
def childOf (lab : Nat → Int32) : List Nat → Int32 → Int32
  | [], _ => -1
  | n :: t, b => if lab n = b then nI n else childOf lab t b
theorem childOf_spec {lab : Nat → Int32} {b : Int32} : ∀ l, (∃ n, n ∈ l ∧ lab n = b ∧ childOf lab l b = nI n) ∨ ((∀ n, n ∈ l → lab n ≠ b) ∧ childOf lab l b = -1)
  | [] => Or.inr ⟨fun n h => (List.not_mem_nil h).elim, rfl⟩
  | n :: t => by
    unfold childOf
    split
    · exact Or.inl ⟨n, List.mem_cons_self, ‹_›, rfl⟩
    · rename_i hn
      rcases childOf_spec (lab := lab) (b := b) t with ⟨k, h1, h2, h3⟩ | ⟨h1, h2⟩
      · exact Or.inl ⟨k, List.mem_cons_of_mem _ h1, h2, h3⟩
      · refine Or.inr ⟨fun k hk => ?_, h2⟩
        rcases List.mem_cons.mp hk with rfl | hk
        · exact hn
        · exact h1 k hk
end
section
/-! Numbers, and what the cells of the desk and of the model mean -/
theorem nI_m1 {k : Nat} (h : k < 2147483648) : ¬ nI k = -1 := by
  intro e
  have := congrArg Int32.toInt e
  rw [nI_toInt h] at this
  have h2 : (-1 : Int32).toInt = -1 := by decide
  rw [h2] at this
  omega
theorem inc1 (k : Nat) : nI k + Int32.ofInt 1 = nI (k + 1) := nI_1 k
theorem dec1 (k : Nat) : nI (k + 1) + Int32.ofInt (-1) = nI k := pk_m1 k
theorem inc7 (k : Nat) : nI k + Int32.ofInt 7 = nI (k + 7) := nI_add k 7
def DOK (D : List Wd) : Prop := D.length ≤ 60 ∧ ∀ w, w ∈ D → 1 ≤ w.length ∧ w.length ≤ 40
theorem DOK.at {D : List Wd} (h : DOK D) {w : Nat} (hw : w < D.length) : 1 ≤ (D.getD w []).length ∧ (D.getD w []).length ≤ 40 := by
  refine h.2 _ ?_
  rw [List.getD_eq_getElem?_getD, List.getElem?_eq_getElem hw]
  exact List.getElem_mem hw
theorem DOK.pre {D : List Wd} (h : DOK D) {r : Wd} (hr : isPre D r = true) : r.length ≤ 40 := by
  rcases isPre_iff.mp hr with e | ⟨w, h1, h2⟩
  · rw [e]; exact Nat.zero_le _
  · have := h2.length_le
    have := (h.2 w h1).2
    simp at *
    omega
theorem DOK.occ0 {D : List Wd} (h : DOK D) : occ D [] = [] := occ_nil (fun w hw e => by have := (h.2 w hw).1; rw [e] at this; simp at this)
/-- the tree: N nodes, R their strings (reversed), K their children, S the set of strings -/
def Trie (x : DS) (N : Nat) (R : Nat → Wd) (K : Nat → List Nat) (S : Wd → Prop) : Prop :=
  (1 ≤ N ∧ N ≤ 2000) ∧ R 0 = [] ∧ (∀ i j, i < N → j < N → R i = R j → i = j) ∧ (∀ n, n < N → chain (sA x 3) (sA x 2 n) (K n)) ∧ (∀ n, n < N → (K n).Nodup) ∧ (∀ n c, n < N → (c ∈ K n ↔ (c < N ∧ ∃ b, R c = b :: R n))) ∧ (∀ c b r, c < N → R c = b :: r → sA x 1 c = b) ∧ (∀ n, n < N → sA x 4 n = nI (R n).length) ∧ ∀ r, (S r ↔ ∃ n, n < N ∧ R n = r)
theorem Trie.kid {x : DS} {N : Nat} {R : Nat → Wd} {K : Nat → List Nat} {S : Wd → Prop} (h : Trie x N R K S) {n : Nat} (hn : n < N) {c : Nat} (hc : c ∈ K n) : c < N := ((h.2.2.2.2.2.1 n c hn).mp hc).1
/-- what child() answers, in terms of strings -/
theorem Trie.child {x : DS} {N : Nat} {R : Nat → Wd} {K : Nat → List Nat} {S : Wd → Prop} (h : Trie x N R K S) {n : Nat} (hn : n < N) (b : Int32) : (∃ c, c < N ∧ R c = b :: R n ∧ childOf (sA x 1) (K n) b = nI c) ∨ (¬ S (b :: R n) ∧ childOf (sA x 1) (K n) b = -1) := by
  obtain ⟨h1, h2, h3, h4, h5, h6, h7, h8, h9⟩ := h
  rcases childOf_spec (lab := sA x 1) (b := b) (K n) with ⟨c, a1, a2, a3⟩ | ⟨a1, a2⟩
  · obtain ⟨b1, b', b2⟩ := (h6 n c hn).mp a1
    refine Or.inl ⟨c, b1, ?_, a3⟩
    rw [b2, ← a2, h7 c b' (R n) b1 b2]
  · refine Or.inr ⟨fun hs => ?_, a2⟩
    obtain ⟨c, c1, c2⟩ := (h9 _).mp hs
    exact a1 c ((h6 n c hn).mpr ⟨c1, b, c2⟩) (h7 c b _ c1 c2)
/-- the links: of node n, as long as its string is at most m long -/
def LnkU (x : DS) (D : List Wd) (N : Nat) (R : Nat → Wd) (ok : Nat → Prop) : Prop := ∀ n, n < N → ok n → ∃ k, k < N ∧ sA x 6 n = nI k ∧ R k = lps D (R n)
/-- the next whole word -/
def WhlU (x : DS) (D : List Wd) (N : Nat) (R : Nat → Wd) (ok : Nat → Prop) : Prop := ∀ n, n < N → ok n → (sA x 7 n = -1 ∧ mt D (R n) = []) ∨ ∃ v, v < N ∧ sA x 7 n = nI v ∧ mt D (R n) = mt D (R v) ∧ occ D (R v) ≠ [] ∧ (R v).length ≤ (R n).length
def Lnk (x : DS) (D : List Wd) (N : Nat) (R : Nat → Wd) : Prop := LnkU x D N R (fun _ => True) ∧ WhlU x D N R (fun _ => True)
def Wds (x : DS) (D : List Wd) (N : Nat) (R : Nat → Wd) : Prop := (∀ n, n < N → chain (sA x 11) (sA x 5 n) (occ D (R n))) ∧ ∀ w, w < D.length → sA x 12 w = nI (D.getD w []).length
def kDr (x : DS) (dr : Wd) : Prop := sI x 16 = nI dr.length ∧ dr.length ≤ 40 ∧ ∀ k, k < dr.length → sA x 15 k = dr.getD k 0
def bI (b : Bool) : Int32 := if b = true then 1 else 0
abbrev PreS_ (D : List Wd) : Wd → Prop := fun r => isPre D r = true
/-- the desk: words, draft, built or not, nodes, room -/
def kDict (x : DS) (D : List Wd) (bt : Bool) (N rm : Nat) (R : Nat → Wd) (K : Nat → List Nat) : Prop :=
  Trie x N R K (PreS_ D) ∧ Wds x D N R ∧ DOK D ∧ (sI x 0 = nI rm ∧ N ≤ rm ∧ rm ≤ 2000) ∧ sI x 9 = nI N ∧ sI x 10 = bI bt ∧ sI x 14 = nI D.length ∧ (bt = true → Lnk x D N R)
/-- the text so far: the state's string, steps, place, line -/
def kTx (x : DS) (N : Nat) (R : Nat → Wd) (cur : Wd) (sp : Int64) (pl ln : Nat) : Prop := (∃ n, n < N ∧ R n = cur ∧ sI x 17 = nI n) ∧ sL x 18 = lN pl ∧ sL x 19 = sp ∧ sI x 20 = nI ln
abbrev FL : Type := List (Nat × Nat × Nat)
/-- the k-th one found stands in another line than the one before it -/
def newAt (F : FL) (k : Nat) : Bool := k == 0 || (F.getD k (0, 0, 0)).2.2 != (F.getD (k - 1) (0, 0, 0)).2.2
def lc (F : FL) : Nat → Nat
  | 0 => 0
  | k + 1 => if newAt F k = true then lc F k + 1 else lc F k
def lastL (F : FL) : Nat := match F.getLast? with
  | some t => t.2.2
  | none => 0
def cnt (F : FL) (w : Nat) : Nat := F.countP (fun t => t.1 == w)
/-- the desk: what was found -/
def kFd (x : DS) (F : FL) : Prop :=
  sI x 26 = nI F.length ∧ F.length ≤ 4200 ∧ (∀ k, k < F.length → sA x 24 k = nI (F.getD k (0, 0, 0)).1 ∧ sF x k = lN (F.getD k (0, 0, 0)).2.1) ∧ (∀ w, w < 60 → sA x 13 w = nI (cnt F w)) ∧ sI x 23 = nI (lc F F.length) ∧ (∀ k, k < F.length → newAt F k = true → sA x 22 (lc F k) = nI (F.getD k (0, 0, 0)).2.2) ∧ sI x 21 = nI (lastL F)
def kPk (x : DS) (pk : List Nat) : Prop := sI x 28 = nI pk.length ∧ pk.length ≤ 4200 ∧ ∀ k, k < pk.length → sA x 27 k = nI (pk.getD k 0)
/-- plain facts of what was found: words are words, ends rise and lie before the place, lines are from 1 on -/
def FOK (D : List Wd) (F : FL) (pl : Nat) : Prop := (∀ k, k < F.length → (F.getD k (0, 0, 0)).1 < D.length ∧ (F.getD k (0, 0, 0)).2.1 < pl ∧ 1 ≤ (F.getD k (0, 0, 0)).2.2 ∧ (F.getD k (0, 0, 0)).2.2 < 20000) ∧ ∀ i j, i ≤ j → j < F.length → (F.getD i (0, 0, 0)).2.1 ≤ (F.getD j (0, 0, 0)).2.1
/-- the model -/
def mDict (y : DS) (D : List Wd) (bt : Bool) (N rm : Nat) : Prop :=
  DOK D ∧ (sI y 0 = nI rm ∧ N ≤ rm ∧ rm ≤ 2000) ∧ sI y 1 = bI bt ∧ sI y 2 = nI N ∧ sI y 3 = nI D.length ∧ ∀ w, w < D.length → sA y 5 w = nI (D.getD w []).length ∧ ∀ k, k < (D.getD w []).length → sA y 4 (40 * w + k) = (D.getD w []).getD k 0
def mDr (y : DS) (dr : Wd) : Prop := sI y 7 = nI dr.length ∧ dr.length ≤ 40 ∧ ∀ k, k < dr.length → sA y 6 k = dr.getD k 0
def mTx (y : DS) (cur : Wd) (sp : Int64) (pl ln : Nat) : Prop := sI y 9 = nI cur.length ∧ (∀ k, k < cur.length → sA y 8 k = cur.getD k 0) ∧ sL y 10 = sp ∧ sL y 11 = lN pl ∧ sI y 12 = nI ln
def mFd (y : DS) (F : FL) : Prop := sI y 13 = nI F.length ∧ F.length ≤ 4200 ∧ ∀ k, k < F.length → sA y 14 k = nI (F.getD k (0, 0, 0)).1 ∧ sF y k = lN (F.getD k (0, 0, 0)).2.1 ∧ sA y 16 k = nI (F.getD k (0, 0, 0)).2.2
def mPk (y : DS) (pk : List Nat) : Prop := (sI y 18 = 1 ∧ sI y 17 = nI pk.length ∧ pk.length ≤ 4200 ∧ ∀ k, k < pk.length → sA y 19 k = nI (pk.getD k 0)) ∨ (sI y 18 = 0 ∧ pk = [])
theorem lc_le (F : FL) : ∀ k, lc F k ≤ k
  | 0 => Nat.le_refl _
  | k + 1 => by
    have := lc_le F k
    unfold lc
    split <;> omega
theorem cnt_le (F : FL) (w : Nat) : cnt F w ≤ F.length := List.countP_le_length
end
section
/-! Parts of a state, and which law reads which part -/
theorem fol_step {D : List Wd} {b : Int32} {c : Wd} (h1 : isPre D (b :: c) = false) (h2 : c ≠ []) : fol D b c = fol D b (lps D c) := by
  rw [fol_eq _ _ (Nat.le_refl _), fol_eq _ _ (Nat.le_refl _), ← lps_cons h2]
  unfold lps lst
  rw [List.length_cons, sh, if_neg]
  · rfl
  · rw [List.take_of_length_le (by simp), h1]; simp
theorem fol_stop {D : List Wd} {b : Int32} {c : Wd} (h : isPre D (b :: c) = true ∨ c = []) : fol D b c = if isPre D (b :: c) = true then b :: c else [] := by
  unfold fol
  rw [go_stop h]
theorem getD_app {α : Type} {F G : List α} {k : Nat} {d : α} (h : k < F.length) : (F ++ G).getD k d = F.getD k d := by
  rw [List.getD_eq_getElem?_getD, List.getD_eq_getElem?_getD, List.getElem?_append_left h]
theorem getD_snoc {α : Type} {F : List α} {t d : α} : (F ++ [t]).getD F.length d = t := by simp
theorem newAt_app {F G : FL} {k : Nat} (h : k < F.length) : newAt (F ++ G) k = newAt F k := by
  unfold newAt
  cases k with
  | zero => rfl
  | succ k => rw [getD_app h, getD_app (by omega)]
theorem lc_app {F G : FL} : ∀ k, k ≤ F.length → lc (F ++ G) k = lc F k
  | 0, _ => rfl
  | k + 1, h => by
    unfold lc
    rw [newAt_app (by omega), lc_app k (by omega)]
theorem lc_mono (F : FL) : ∀ i j, i ≤ j → lc F i ≤ lc F j
  | i, 0, h => by rw [Nat.le_zero.mp h]; exact Nat.le_refl _
  | i, j + 1, h => by
    by_cases e : i = j + 1
    · rw [e]; exact Nat.le_refl _
    · have := lc_mono F i j (by omega)
      have h2 : lc F j ≤ lc F (j + 1) := by
        rw [lc]; split <;> omega
      omega
theorem lastL_snoc {F : FL} {t : Nat × Nat × Nat} : lastL (F ++ [t]) = t.2.2 := by simp [lastL]
theorem lastL_at {F : FL} (h : F ≠ []) : lastL F = (F.getD (F.length - 1) (0, 0, 0)).2.2 := by
  have h0 : 0 < F.length := List.length_pos_iff.mpr h
  unfold lastL
  rw [List.getLast?_eq_getElem?, List.getD_eq_getElem?_getD, List.getElem?_eq_getElem (by omega)]
  rfl
theorem newAt_snoc {F : FL} {t : Nat × Nat × Nat} (ht : 1 ≤ t.2.2) : newAt (F ++ [t]) F.length = true ↔ ¬ lastL F = t.2.2 := by
  by_cases hF : F = []
  · subst hF
    simp [newAt, lastL]
    omega
  · have h0 : 0 < F.length := List.length_pos_iff.mpr hF
    unfold newAt
    rw [getD_snoc, getD_app (by omega), lastL_at hF]
    simp only [Bool.or_eq_true, beq_iff_eq, bne_iff_ne, ne_eq]
    constructor
    · rintro (h | h)
      · omega
      · exact fun e => h e.symm
    · exact fun h => Or.inr (fun e => h e.symm)
theorem cnt_snoc {F : FL} {t : Nat × Nat × Nat} {w : Nat} : cnt (F ++ [t]) w = cnt F w + if t.1 = w then 1 else 0 := by
  simp [cnt, List.countP_append, List.countP_cons]
def kT (x : DS) : (Nat → Int32) × (Nat → Int32) × (Nat → Int32) × (Nat → Int32) × (Nat → Int32) × (Nat → Int32) × (Nat → Int32) × (Nat → Int32) × (Nat → Int32) × Int32 × Int32 × Int32 × Int32 := (sA x 1, sA x 2, sA x 3, sA x 4, sA x 5, sA x 6, sA x 7, sA x 11, sA x 12, sI x 0, sI x 9, sI x 10, sI x 14)
theorem kT_A1 {x u : DS} (h : kT u = kT x) : sA u 1 = sA x 1 := congrArg (fun t => t.1) h
theorem kT_A2 {x u : DS} (h : kT u = kT x) : sA u 2 = sA x 2 := congrArg (fun t => t.2.1) h
theorem kT_A3 {x u : DS} (h : kT u = kT x) : sA u 3 = sA x 3 := congrArg (fun t => t.2.2.1) h
theorem kT_A4 {x u : DS} (h : kT u = kT x) : sA u 4 = sA x 4 := congrArg (fun t => t.2.2.2.1) h
theorem kT_A5 {x u : DS} (h : kT u = kT x) : sA u 5 = sA x 5 := congrArg (fun t => t.2.2.2.2.1) h
theorem kT_A6 {x u : DS} (h : kT u = kT x) : sA u 6 = sA x 6 := congrArg (fun t => t.2.2.2.2.2.1) h
theorem kT_A7 {x u : DS} (h : kT u = kT x) : sA u 7 = sA x 7 := congrArg (fun t => t.2.2.2.2.2.2.1) h
theorem kT_A11 {x u : DS} (h : kT u = kT x) : sA u 11 = sA x 11 := congrArg (fun t => t.2.2.2.2.2.2.2.1) h
theorem kT_A12 {x u : DS} (h : kT u = kT x) : sA u 12 = sA x 12 := congrArg (fun t => t.2.2.2.2.2.2.2.2.1) h
theorem kT_I0 {x u : DS} (h : kT u = kT x) : sI u 0 = sI x 0 := congrArg (fun t => t.2.2.2.2.2.2.2.2.2.1) h
theorem kT_I9 {x u : DS} (h : kT u = kT x) : sI u 9 = sI x 9 := congrArg (fun t => t.2.2.2.2.2.2.2.2.2.2.1) h
theorem kT_I10 {x u : DS} (h : kT u = kT x) : sI u 10 = sI x 10 := congrArg (fun t => t.2.2.2.2.2.2.2.2.2.2.2.1) h
theorem kT_I14 {x u : DS} (h : kT u = kT x) : sI u 14 = sI x 14 := congrArg (fun t => t.2.2.2.2.2.2.2.2.2.2.2.2) h
def kD (x : DS) : (Nat → Int32) × Int32 := (sA x 15, sI x 16)
theorem kD_A15 {x u : DS} (h : kD u = kD x) : sA u 15 = sA x 15 := congrArg (fun t => t.1) h
theorem kD_I16 {x u : DS} (h : kD u = kD x) : sI u 16 = sI x 16 := congrArg (fun t => t.2) h
def kX (x : DS) : Int64 × Int32 := (sL x 18, sI x 20)
theorem kX_L18 {x u : DS} (h : kX u = kX x) : sL u 18 = sL x 18 := congrArg (fun t => t.1) h
theorem kX_I20 {x u : DS} (h : kX u = kX x) : sI u 20 = sI x 20 := congrArg (fun t => t.2) h
def kP (x : DS) : (Nat → Int32) × Int32 := (sA x 27, sI x 28)
theorem kP_A27 {x u : DS} (h : kP u = kP x) : sA u 27 = sA x 27 := congrArg (fun t => t.1) h
theorem kP_I28 {x u : DS} (h : kP u = kP x) : sI u 28 = sI x 28 := congrArg (fun t => t.2) h
def kY (x : DS) : Int32 × Int64 := (sI x 17, sL x 19)
theorem kY_I17 {x u : DS} (h : kY u = kY x) : sI u 17 = sI x 17 := congrArg (fun t => t.1) h
theorem kY_L19 {x u : DS} (h : kY u = kY x) : sL u 19 = sL x 19 := congrArg (fun t => t.2) h
def kF (x : DS) : (Nat → Int32) × (Nat → Int32) × (Nat → Int32) × (Nat → Int64) × Int32 × Int32 × Int32 := (sA x 13, sA x 22, sA x 24, sF x, sI x 21, sI x 23, sI x 26)
theorem kF_A13 {x u : DS} (h : kF u = kF x) : sA u 13 = sA x 13 := congrArg (fun t => t.1) h
theorem kF_A22 {x u : DS} (h : kF u = kF x) : sA u 22 = sA x 22 := congrArg (fun t => t.2.1) h
theorem kF_A24 {x u : DS} (h : kF u = kF x) : sA u 24 = sA x 24 := congrArg (fun t => t.2.2.1) h
theorem kF_F25 {x u : DS} (h : kF u = kF x) : sF u = sF x := congrArg (fun t => t.2.2.2.1) h
theorem kF_I21 {x u : DS} (h : kF u = kF x) : sI u 21 = sI x 21 := congrArg (fun t => t.2.2.2.2.1) h
theorem kF_I23 {x u : DS} (h : kF u = kF x) : sI u 23 = sI x 23 := congrArg (fun t => t.2.2.2.2.2.1) h
theorem kF_I26 {x u : DS} (h : kF u = kF x) : sI u 26 = sI x 26 := congrArg (fun t => t.2.2.2.2.2.2) h
def mT (x : DS) : (Nat → Int32) × (Nat → Int32) × Int32 × Int32 × Int32 × Int32 := (sA x 4, sA x 5, sI x 0, sI x 1, sI x 2, sI x 3)
theorem mT_A4 {x u : DS} (h : mT u = mT x) : sA u 4 = sA x 4 := congrArg (fun t => t.1) h
theorem mT_A5 {x u : DS} (h : mT u = mT x) : sA u 5 = sA x 5 := congrArg (fun t => t.2.1) h
theorem mT_I0 {x u : DS} (h : mT u = mT x) : sI u 0 = sI x 0 := congrArg (fun t => t.2.2.1) h
theorem mT_I1 {x u : DS} (h : mT u = mT x) : sI u 1 = sI x 1 := congrArg (fun t => t.2.2.2.1) h
theorem mT_I2 {x u : DS} (h : mT u = mT x) : sI u 2 = sI x 2 := congrArg (fun t => t.2.2.2.2.1) h
theorem mT_I3 {x u : DS} (h : mT u = mT x) : sI u 3 = sI x 3 := congrArg (fun t => t.2.2.2.2.2) h
def mD (x : DS) : (Nat → Int32) × Int32 := (sA x 6, sI x 7)
theorem mD_A6 {x u : DS} (h : mD u = mD x) : sA u 6 = sA x 6 := congrArg (fun t => t.1) h
theorem mD_I7 {x u : DS} (h : mD u = mD x) : sI u 7 = sI x 7 := congrArg (fun t => t.2) h
def mX (x : DS) : Int64 × Int32 := (sL x 11, sI x 12)
theorem mX_L11 {x u : DS} (h : mX u = mX x) : sL u 11 = sL x 11 := congrArg (fun t => t.1) h
theorem mX_I12 {x u : DS} (h : mX u = mX x) : sI u 12 = sI x 12 := congrArg (fun t => t.2) h
def mY (x : DS) : (Nat → Int32) × Int32 × Int64 := (sA x 8, sI x 9, sL x 10)
theorem mY_A8 {x u : DS} (h : mY u = mY x) : sA u 8 = sA x 8 := congrArg (fun t => t.1) h
theorem mY_I9 {x u : DS} (h : mY u = mY x) : sI u 9 = sI x 9 := congrArg (fun t => t.2.1) h
theorem mY_L10 {x u : DS} (h : mY u = mY x) : sL u 10 = sL x 10 := congrArg (fun t => t.2.2) h
def mF (x : DS) : (Nat → Int32) × (Nat → Int32) × (Nat → Int64) × Int32 := (sA x 14, sA x 16, sF x, sI x 13)
theorem mF_A14 {x u : DS} (h : mF u = mF x) : sA u 14 = sA x 14 := congrArg (fun t => t.1) h
theorem mF_A16 {x u : DS} (h : mF u = mF x) : sA u 16 = sA x 16 := congrArg (fun t => t.2.1) h
theorem mF_F15 {x u : DS} (h : mF u = mF x) : sF u = sF x := congrArg (fun t => t.2.2.1) h
theorem mF_I13 {x u : DS} (h : mF u = mF x) : sI u 13 = sI x 13 := congrArg (fun t => t.2.2.2) h
def mQ (x : DS) : (Nat → Int32) × Int32 × Int32 := (sA x 19, sI x 17, sI x 18)
theorem mQ_A19 {x u : DS} (h : mQ u = mQ x) : sA u 19 = sA x 19 := congrArg (fun t => t.1) h
theorem mQ_I17 {x u : DS} (h : mQ u = mQ x) : sI u 17 = sI x 17 := congrArg (fun t => t.2.1) h
theorem mQ_I18 {x u : DS} (h : mQ u = mQ x) : sI u 18 = sI x 18 := congrArg (fun t => t.2.2) h
theorem Trie.congr {x u : DS} {N : Nat} {R : Nat → Wd} {K : Nat → List Nat} {S : Wd → Prop} (h0 : kT u = kT x) (h : Trie x N R K S) : Trie u N R K S := by
  unfold Trie at h ⊢
  rw [kT_A1 h0, kT_A2 h0, kT_A3 h0, kT_A4 h0]
  exact h
theorem Wds.congr {x u : DS} {N : Nat} {R : Nat → Wd} {D : List Wd} (h0 : kT u = kT x) (h : Wds x D N R) : Wds u D N R := by
  unfold Wds at h ⊢
  rw [kT_A5 h0, kT_A11 h0, kT_A12 h0]
  exact h
theorem LnkU.congr {x u : DS} {N : Nat} {R : Nat → Wd} {D : List Wd} {ok : Nat → Prop} (h0 : kT u = kT x) (h : LnkU x D N R ok) : LnkU u D N R ok := by
  unfold LnkU at h ⊢
  rw [kT_A6 h0]
  exact h
theorem WhlU.congr {x u : DS} {N : Nat} {R : Nat → Wd} {D : List Wd} {ok : Nat → Prop} (h0 : kT u = kT x) (h : WhlU x D N R ok) : WhlU u D N R ok := by
  unfold WhlU at h ⊢
  rw [kT_A7 h0]
  exact h
theorem kDict.congr {x u : DS} {N : Nat} {R : Nat → Wd} {D : List Wd} {bt : Bool} {rm : Nat} {K : Nat → List Nat} (h0 : kT u = kT x) (h : kDict x D bt N rm R K) : kDict u D bt N rm R K := by
  obtain ⟨a1, a2, a3, a4, a5, a6, a7, a8⟩ := h
  refine ⟨a1.congr h0, a2.congr h0, a3, ?_, ?_, ?_, ?_, fun hb => ⟨(a8 hb).1.congr h0, (a8 hb).2.congr h0⟩⟩
  · rw [kT_I0 h0]; exact a4
  · rw [kT_I9 h0]; exact a5
  · rw [kT_I10 h0]; exact a6
  · rw [kT_I14 h0]; exact a7
theorem kDr.congr {x u : DS} {dr : Wd} (h0 : kD u = kD x) (h : kDr x dr) : kDr u dr := by
  unfold kDr at h ⊢
  rw [kD_A15 h0, kD_I16 h0]
  exact h
theorem kTx.congr {x u : DS} {N : Nat} {R : Nat → Wd} {cur : Wd} {sp : Int64} {pl ln : Nat} (h0 : kX u = kX x) (h1 : kY u = kY x) (h : kTx x N R cur sp pl ln) : kTx u N R cur sp pl ln := by
  unfold kTx at h ⊢
  rw [kX_L18 h0, kX_I20 h0, kY_I17 h1, kY_L19 h1]
  exact h
theorem kFd.congr {x u : DS} {F : FL} (h0 : kF u = kF x) (h : kFd x F) : kFd u F := by
  unfold kFd at h ⊢
  rw [kF_A13 h0, kF_A22 h0, kF_A24 h0, kF_F25 h0, kF_I21 h0, kF_I23 h0, kF_I26 h0]
  exact h
theorem kPk.congr {x u : DS} {pk : List Nat} (h0 : kP u = kP x) (h : kPk x pk) : kPk u pk := by
  unfold kPk at h ⊢
  rw [kP_A27 h0, kP_I28 h0]
  exact h
theorem mDict.congr {x u : DS} {N : Nat} {D : List Wd} {bt : Bool} {rm : Nat} (h0 : mT u = mT x) (h : mDict x D bt N rm) : mDict u D bt N rm := by
  unfold mDict at h ⊢
  rw [mT_A4 h0, mT_A5 h0, mT_I0 h0, mT_I1 h0, mT_I2 h0, mT_I3 h0]
  exact h
theorem mDr.congr {x u : DS} {dr : Wd} (h0 : mD u = mD x) (h : mDr x dr) : mDr u dr := by
  unfold mDr at h ⊢
  rw [mD_A6 h0, mD_I7 h0]
  exact h
theorem mTx.congr {x u : DS} {cur : Wd} {sp : Int64} {pl ln : Nat} (h0 : mX u = mX x) (h1 : mY u = mY x) (h : mTx x cur sp pl ln) : mTx u cur sp pl ln := by
  unfold mTx at h ⊢
  rw [mX_L11 h0, mX_I12 h0, mY_A8 h1, mY_I9 h1, mY_L10 h1]
  exact h
theorem mFd.congr {x u : DS} {F : FL} (h0 : mF u = mF x) (h : mFd x F) : mFd u F := by
  unfold mFd at h ⊢
  rw [mF_A14 h0, mF_A16 h0, mF_F15 h0, mF_I13 h0]
  exact h
theorem mPk.congr {x u : DS} {pk : List Nat} (h0 : mQ u = mQ x) (h : mPk x pk) : mPk u pk := by
  unfold mPk at h ⊢
  rw [mQ_A19 h0, mQ_I17 h0, mQ_I18 h0]
  exact h
theorem upd_self {f : Nat → Int32} {k : Nat} {v : Int32} : upd f k v k = v := by simp [upd]
theorem upd_ne {f : Nat → Int32} {k j : Nat} {v : Int32} (h : j ≠ k) : upd f k v j = f j := by simp [upd, h]
theorem updL_self {f : Nat → Int64} {k : Nat} {v : Int64} : vp_updL f k v k = v := by simp [vp_updL]
theorem updL_ne {f : Nat → Int64} {k j : Nat} {v : Int64} (h : j ≠ k) : vp_updL f k v j = f j := by simp [vp_updL, h]
/-- one more found, in a new line or not -/
theorem kFd.keep {x u : DS} {F : FL} {w pl ln : Nat} (h : kFd x F) (hw : w < 60) (hl : 1 ≤ ln) (hF : F.length < 4200)
    (h24 : sA u 24 = upd (sA x 24) F.length (nI w)) (hf : sF u = vp_updL (sF x) F.length (lN pl)) (h26 : sI u 26 = nI (F.length + 1)) (h13 : sA u 13 = upd (sA x 13) w (nI (cnt F w + 1)))
    (hn : (lastL F = ln ∧ sA u 22 = sA x 22 ∧ sI u 23 = sI x 23 ∧ sI u 21 = sI x 21) ∨ (¬ lastL F = ln ∧ sA u 22 = upd (sA x 22) (lc F F.length) (nI ln) ∧ sI u 23 = nI (lc F F.length + 1) ∧ sI u 21 = nI ln)) : kFd u (F ++ [(w, pl, ln)]) := by
  obtain ⟨a1, a2, a3, a4, a5, a6, a7⟩ := h
  have hlen : (F ++ [(w, pl, ln)]).length = F.length + 1 := by simp
  have hnew := newAt_snoc (F := F) (t := (w, pl, ln)) hl
  have hlc : lc (F ++ [(w, pl, ln)]) F.length = lc F F.length := lc_app _ (Nat.le_refl _)
  refine ⟨by rw [hlen]; exact h26, by omega, ?_, ?_, ?_, ?_, ?_⟩
  · intro k hk
    rw [hlen] at hk
    by_cases e : k = F.length
    · subst e
      rw [getD_snoc, h24, hf, upd_self, updL_self]
      exact ⟨rfl, rfl⟩
    · rw [getD_app (by omega), h24, hf, upd_ne e, updL_ne e]
      exact a3 k (by omega)
  · intro v hv
    rw [h13, cnt_snoc]
    by_cases e : v = w
    · subst e
      rw [upd_self, if_pos rfl]
    · rw [upd_ne e, if_neg (fun q => e q.symm)]
      exact a4 v hv
  · rw [hlen, lc, hlc]
    rcases hn with ⟨e, -, b2, -⟩ | ⟨e, -, b2, -⟩
    · rw [if_neg (fun q => hnew.mp q e), b2]; exact a5
    · rw [if_pos (hnew.mpr e)]; exact b2
  · intro k hk hk2
    rw [hlen] at hk
    by_cases e : k = F.length
    · subst e
      rw [hlc, getD_snoc]
      rcases hn with ⟨e, -, -⟩ | ⟨e, b1, -⟩
      · exact absurd e (hnew.mp hk2)
      · rw [b1, upd_self]
    · have hk3 : k < F.length := by omega
      rw [lc_app _ (by omega), getD_app hk3]
      rw [newAt_app hk3] at hk2
      have h6 := a6 k hk3 hk2
      rcases hn with ⟨-, b1, -⟩ | ⟨-, b1, -⟩
      · rw [b1]; exact h6
      · rw [b1, upd_ne]
        · exact h6
        · have : lc F (k + 1) = lc F k + 1 := by rw [lc, if_pos hk2]
          have h8 : lc F (k + 1) ≤ lc F F.length := lc_mono F _ _ (by omega)
          omega
  · rw [lastL_snoc]
    rcases hn with ⟨e, -, -, b3⟩ | ⟨e, -, -, b3⟩
    · rw [b3, a7, e]
    · exact b3
end
section
/-! The text, plainly: a byte comes, a piece of text comes -/
abbrev TS : Type := Wd × Int64 × Nat × Nat × FL
abbrev fnd (pl ln : Nat) (l : List Nat) : FL := l.map (fun w => (w, pl, ln))
/-- a byte comes: state, steps, place, line, found -/
def cm (D : List Wd) (b : Int32) (t : TS) : TS := if b = 10 then ([], t.2.1 + 1, t.2.2.1 + 1, t.2.2.2.1 + 1, t.2.2.2.2) else (fol D b t.1, (go D b t.1.length t.1 (t.2.1 + 1)).2, t.2.2.1 + 1, t.2.2.2.1, t.2.2.2.2 ++ fnd t.2.2.1 t.2.2.2.1 (mt D (fol D b t.1)))
def txt (D : List Wd) (by_ : Nat → Int32) : Nat → TS → TS
  | 0, t => t
  | k + 1, t => cm D (by_ k) (txt D by_ k t)
def tw (a b c d e : Int32) (k : Nat) : Int32 := if k < 4 then a else if k < 8 then b else if k < 12 then c else if k < 16 then d else e
def tb (a b c d e : Int32) (k : Nat) : Int32 := (tw a b c d e k >>> ((24 - 8 * (nI k - nI k / 4 * 4)) &&& 31)) &&& 255
theorem FOK.last {D : List Wd} {F : FL} {pl : Nat} (h : FOK D F pl) : lastL F < 20000 := by
  by_cases hF : F = []
  · subst hF; decide
  · have h0 : 0 < F.length := List.length_pos_iff.mpr hF
    rw [lastL_at hF]
    exact (h.1 _ (by omega)).2.2.2
theorem FOK.mono {D : List Wd} {F : FL} {pl pl' : Nat} (h : FOK D F pl) (hp : pl ≤ pl') : FOK D F pl' := ⟨fun k hk => ⟨(h.1 k hk).1, by have := (h.1 k hk).2.1; omega, (h.1 k hk).2.2⟩, h.2⟩
theorem FOK.nil {D : List Wd} {pl : Nat} : FOK D [] pl := ⟨fun k hk => by simp at hk, fun i j _ hj => by simp at hj⟩
theorem FOK.add {D : List Wd} {F : FL} {pl : Nat} {d : Wd} (h : FOK D F pl) : FOK (D ++ [d]) F pl := ⟨fun k hk => ⟨by have := (h.1 k hk).1; rw [List.length_append]; exact Nat.lt_add_right _ this, (h.1 k hk).2⟩, h.2⟩
theorem FOK.snoc {D : List Wd} {F : FL} {pl w ln : Nat} (h : FOK D F (pl + 1)) (hp : ∀ k, k < F.length → (F.getD k (0, 0, 0)).2.1 ≤ pl) (hw : w < D.length) (h1 : 1 ≤ ln) (h2 : ln < 20000) : FOK D (F ++ [(w, pl, ln)]) (pl + 1) := by
  have hlen : (F ++ [(w, pl, ln)]).length = F.length + 1 := by simp
  refine ⟨fun k hk => ?_, fun i j hij hj => ?_⟩
  · rw [hlen] at hk
    by_cases e : k = F.length
    · subst e
      rw [getD_snoc]
      exact ⟨hw, Nat.lt_succ_self _, h1, h2⟩
    · rw [getD_app (by omega)]
      exact h.1 k (by omega)
  · rw [hlen] at hj
    by_cases e : j = F.length
    · subst e
      rw [getD_snoc]
      by_cases e2 : i = F.length
      · subst e2; rw [getD_snoc]; exact Nat.le_refl _
      · rw [getD_app (by omega)]; exact hp i (by omega)
    · rw [getD_app (by omega), getD_app (by omega)]
      exact h.2 i j hij (by omega)
theorem FOK.fnd1 {D : List Wd} {pl ln : Nat} (h1 : 1 ≤ ln) (h2 : ln < 20000) : ∀ (l : List Nat) (F : FL), FOK D F (pl + 1) → (∀ k, k < F.length → (F.getD k (0, 0, 0)).2.1 ≤ pl) → (∀ w, w ∈ l → w < D.length) → FOK D (F ++ fnd pl ln l) (pl + 1)
  | [], F, h, _, _ => by simpa [fnd] using h
  | w :: t, F, h, hp, hw => by
    have h3 := h.snoc hp (hw w List.mem_cons_self) h1 h2
    have := FOK.fnd1 h1 h2 t (F ++ [(w, pl, ln)]) h3 (fun k hk => by have := (h3.1 k hk).2.1; omega) (fun v hv => hw v (List.mem_cons_of_mem _ hv))
    simpa [fnd] using this
theorem FOK.fnd {D : List Wd} {F : FL} {pl ln : Nat} {l : List Nat} (h : FOK D F pl) (h1 : 1 ≤ ln) (h2 : ln < 20000) (hw : ∀ w, w ∈ l → w < D.length) : FOK D (F ++ fnd pl ln l) (pl + 1) :=
  FOK.fnd1 h1 h2 l F (h.mono (by omega)) (fun k hk => by have := (h.1 k hk).2.1; omega) hw
def TOK (D : List Wd) (t : TS) : Prop := isPre D t.1 = true ∧ FOK D t.2.2.2.2 t.2.2.1 ∧ 1 ≤ t.2.2.2.1
theorem cm_10 {D : List Wd} {t : TS} : cm D 10 t = ([], t.2.1 + 1, t.2.2.1 + 1, t.2.2.2.1 + 1, t.2.2.2.2) := if_pos rfl
theorem cm_n {D : List Wd} {b : Int32} {t : TS} (h : ¬ b = 10) : cm D b t = (fol D b t.1, (go D b t.1.length t.1 (t.2.1 + 1)).2, t.2.2.1 + 1, t.2.2.2.1, t.2.2.2.2 ++ fnd t.2.2.1 t.2.2.2.1 (mt D (fol D b t.1))) := if_neg h
theorem TOK.cm {D : List Wd} {b : Int32} {t : TS} (h : TOK D t) (hl : t.2.2.2.1 < 20000) : TOK D (cm D b t) := by
  obtain ⟨h1, h2, h3⟩ := h
  by_cases hb : b = 10
  · subst hb
    rw [cm_10]
    exact ⟨rfl, h2.mono (Nat.le_succ _), Nat.le_succ_of_le h3⟩
  · rw [cm_n hb]
    exact ⟨fol_pre, h2.fnd h3 hl (fun w hw => mt_lt hw), h3⟩
theorem cm_pl {D : List Wd} {b : Int32} {t : TS} : (cm D b t).2.2.1 = t.2.2.1 + 1 := by unfold cm; split <;> rfl
theorem cm_ln {D : List Wd} {b : Int32} {t : TS} : t.2.2.2.1 ≤ (cm D b t).2.2.2.1 ∧ (cm D b t).2.2.2.1 ≤ t.2.2.2.1 + 1 := by
  unfold cm; split
  · exact ⟨Nat.le_succ _, Nat.le_refl _⟩
  · exact ⟨Nat.le_refl _, Nat.le_succ _⟩
theorem cm_F {D : List Wd} {b : Int32} {t : TS} : t.2.2.2.2.length ≤ (cm D b t).2.2.2.2.length ∧ (cm D b t).2.2.2.2.length ≤ t.2.2.2.2.length + D.length := by
  unfold cm; split
  · exact ⟨Nat.le_refl _, Nat.le_add_right _ _⟩
  · have := mt_le (D := D) (r := fol D b t.1)
    simp [fnd]
    exact this
theorem txt_pl {D : List Wd} {f : Nat → Int32} {t : TS} : ∀ k, (txt D f k t).2.2.1 = t.2.2.1 + k
  | 0 => rfl
  | k + 1 => by rw [txt, cm_pl, txt_pl k]; rfl
theorem txt_ln {D : List Wd} {f : Nat → Int32} {t : TS} : ∀ k, t.2.2.2.1 ≤ (txt D f k t).2.2.2.1 ∧ (txt D f k t).2.2.2.1 ≤ t.2.2.2.1 + k
  | 0 => ⟨Nat.le_refl _, Nat.le_refl _⟩
  | k + 1 => by
    have h1 := txt_ln (D := D) (f := f) (t := t) k
    have h2 := cm_ln (D := D) (b := f k) (t := txt D f k t)
    rw [txt]; omega
theorem txt_F {D : List Wd} {f : Nat → Int32} {t : TS} : ∀ k, (txt D f k t).2.2.2.2.length ≤ t.2.2.2.2.length + k * D.length
  | 0 => by rw [txt]; omega
  | k + 1 => by
    have h1 := txt_F (D := D) (f := f) (t := t) k
    have h2 := cm_F (D := D) (b := f k) (t := txt D f k t)
    rw [txt, Nat.succ_mul]; omega
theorem TOK.txt {D : List Wd} {f : Nat → Int32} {t : TS} (h : TOK D t) : ∀ k, t.2.2.2.1 + k < 20000 → TOK D (txt D f k t)
  | 0, _ => h
  | k + 1, hk => by
    have h1 := txt_ln (D := D) (f := f) (t := t) k
    exact (h.txt k (by omega)).cm (by omega)
theorem go_snd {D : List Wd} {b : Int32} {c : Wd} {s : Int64} : fol D b c = if isPre D (b :: (go D b c.length c s).1) = true then b :: (go D b c.length c s).1 else [] := by
  unfold fol
  rw [go_fst c.length c 0 s]
theorem go_end {D : List Wd} {b : Int32} : ∀ (f : Nat) (c : Wd) (s : Int64), c.length ≤ f → isPre D (b :: (go D b f c s).1) = true ∨ (go D b f c s).1 = []
  | 0, c, s, h => Or.inr (show c = [] from List.length_eq_zero_iff.mp (by omega))
  | f + 1, c, s, h => by
    by_cases hs : isPre D (b :: c) = true ∨ c = []
    · rw [go_stop hs]; exact hs
    · have h1 : isPre D (b :: c) = false := by
        cases e : isPre D (b :: c) with
        | false => rfl
        | true => exact absurd (Or.inl e) hs
      have h2 : c ≠ [] := fun e => hs (Or.inr e)
      have := lps_lt (D := D) h2
      rw [go_step h1 h2]
      exact go_end f _ _ (by omega)
def kTS (x : DS) (N : Nat) (R : Nat → Wd) (t : TS) : Prop := kTx x N R t.1 t.2.1 t.2.2.1 t.2.2.2.1 ∧ kFd x t.2.2.2.2
def mTS (y : DS) (t : TS) : Prop := mTx y t.1 t.2.1 t.2.2.1 t.2.2.2.1 ∧ mFd y t.2.2.2.2
theorem lN_s (n : Nat) : lN n + 1 = lN (n + 1) := lN_1 n
end
section
theorem DX1_child : yX1_child.cls = RX1 ∧ yX1_child.cls ≠ "java/lang/invoke/MethodHandle" ∧ yX1_child.cls ≠ "java/lang/invoke/VarHandle" ∧ (parseMethodDescriptor yX1_child.desc).map (fun d => d.parameters.length) = some 2 := by decide +kernel
theorem DX1_follow : yX1_follow.cls = RX1 ∧ yX1_follow.cls ≠ "java/lang/invoke/MethodHandle" ∧ yX1_follow.cls ≠ "java/lang/invoke/VarHandle" ∧ (parseMethodDescriptor yX1_follow.desc).map (fun d => d.parameters.length) = some 2 := by decide +kernel
theorem DX1_clear : yX1_clear.cls = RX1 ∧ yX1_clear.cls ≠ "java/lang/invoke/MethodHandle" ∧ yX1_clear.cls ≠ "java/lang/invoke/VarHandle" ∧ (parseMethodDescriptor yX1_clear.desc).map (fun d => d.parameters.length) = some 3 := by decide +kernel
theorem DX1_keep : yX1_keep.cls = RX1 ∧ yX1_keep.cls ≠ "java/lang/invoke/MethodHandle" ∧ yX1_keep.cls ≠ "java/lang/invoke/VarHandle" ∧ (parseMethodDescriptor yX1_keep.desc).map (fun d => d.parameters.length) = some 1 := by decide +kernel
theorem DX1_tell : yX1_tell.cls = RX1 ∧ yX1_tell.cls ≠ "java/lang/invoke/MethodHandle" ∧ yX1_tell.cls ≠ "java/lang/invoke/VarHandle" ∧ (parseMethodDescriptor yX1_tell.desc).map (fun d => d.parameters.length) = some 0 := by decide +kernel
theorem DX1_come : yX1_come.cls = RX1 ∧ yX1_come.cls ≠ "java/lang/invoke/MethodHandle" ∧ yX1_come.cls ≠ "java/lang/invoke/VarHandle" ∧ (parseMethodDescriptor yX1_come.desc).map (fun d => d.parameters.length) = some 1 := by decide +kernel
theorem DX1_isFound : yX1_isFound.cls = RX1 ∧ yX1_isFound.cls ≠ "java/lang/invoke/MethodHandle" ∧ yX1_isFound.cls ≠ "java/lang/invoke/VarHandle" ∧ (parseMethodDescriptor yX1_isFound.desc).map (fun d => d.parameters.length) = some 1 := by decide +kernel
theorem DX1_begin : yX1_begin.cls = RX1 ∧ yX1_begin.cls ≠ "java/lang/invoke/MethodHandle" ∧ yX1_begin.cls ≠ "java/lang/invoke/VarHandle" ∧ (parseMethodDescriptor yX1_begin.desc).map (fun d => d.parameters.length) = some 1 := by decide +kernel
theorem DX1_isBefore : yX1_isBefore.cls = RX1 ∧ yX1_isBefore.cls ≠ "java/lang/invoke/MethodHandle" ∧ yX1_isBefore.cls ≠ "java/lang/invoke/VarHandle" ∧ (parseMethodDescriptor yX1_isBefore.desc).map (fun d => d.parameters.length) = some 2 := by decide +kernel
theorem DX1_first : yX1_first.cls = RX1 ∧ yX1_first.cls ≠ "java/lang/invoke/MethodHandle" ∧ yX1_first.cls ≠ "java/lang/invoke/VarHandle" ∧ (parseMethodDescriptor yX1_first.desc).map (fun d => d.parameters.length) = some 2 := by decide +kernel
theorem DX1_put : yX1_put.cls = RX1 ∧ yX1_put.cls ≠ "java/lang/invoke/MethodHandle" ∧ yX1_put.cls ≠ "java/lang/invoke/VarHandle" ∧ (parseMethodDescriptor yX1_put.desc).map (fun d => d.parameters.length) = some 1 := by decide +kernel
theorem DX1_add : yX1_add.cls = RX1 ∧ yX1_add.cls ≠ "java/lang/invoke/MethodHandle" ∧ yX1_add.cls ≠ "java/lang/invoke/VarHandle" ∧ (parseMethodDescriptor yX1_add.desc).map (fun d => d.parameters.length) = some 0 := by decide +kernel
theorem DX1_build : yX1_build.cls = RX1 ∧ yX1_build.cls ≠ "java/lang/invoke/MethodHandle" ∧ yX1_build.cls ≠ "java/lang/invoke/VarHandle" ∧ (parseMethodDescriptor yX1_build.desc).map (fun d => d.parameters.length) = some 0 := by decide +kernel
theorem DX1_text : yX1_text.cls = RX1 ∧ yX1_text.cls ≠ "java/lang/invoke/MethodHandle" ∧ yX1_text.cls ≠ "java/lang/invoke/VarHandle" ∧ (parseMethodDescriptor yX1_text.desc).map (fun d => d.parameters.length) = some 6 := by decide +kernel
theorem DX1_skip : yX1_skip.cls = RX1 ∧ yX1_skip.cls ≠ "java/lang/invoke/MethodHandle" ∧ yX1_skip.cls ≠ "java/lang/invoke/VarHandle" ∧ (parseMethodDescriptor yX1_skip.desc).map (fun d => d.parameters.length) = some 1 := by decide +kernel
theorem DX1_place : yX1_place.cls = RX1 ∧ yX1_place.cls ≠ "java/lang/invoke/MethodHandle" ∧ yX1_place.cls ≠ "java/lang/invoke/VarHandle" ∧ (parseMethodDescriptor yX1_place.desc).map (fun d => d.parameters.length) = some 0 := by decide +kernel
theorem DX1_found : yX1_found.cls = RX1 ∧ yX1_found.cls ≠ "java/lang/invoke/MethodHandle" ∧ yX1_found.cls ≠ "java/lang/invoke/VarHandle" ∧ (parseMethodDescriptor yX1_found.desc).map (fun d => d.parameters.length) = some 0 := by decide +kernel
theorem DX1_word : yX1_word.cls = RX1 ∧ yX1_word.cls ≠ "java/lang/invoke/MethodHandle" ∧ yX1_word.cls ≠ "java/lang/invoke/VarHandle" ∧ (parseMethodDescriptor yX1_word.desc).map (fun d => d.parameters.length) = some 1 := by decide +kernel
theorem DX1_end : yX1_end.cls = RX1 ∧ yX1_end.cls ≠ "java/lang/invoke/MethodHandle" ∧ yX1_end.cls ≠ "java/lang/invoke/VarHandle" ∧ (parseMethodDescriptor yX1_end.desc).map (fun d => d.parameters.length) = some 1 := by decide +kernel
theorem DX1_count : yX1_count.cls = RX1 ∧ yX1_count.cls ≠ "java/lang/invoke/MethodHandle" ∧ yX1_count.cls ≠ "java/lang/invoke/VarHandle" ∧ (parseMethodDescriptor yX1_count.desc).map (fun d => d.parameters.length) = some 1 := by decide +kernel
theorem DX1_lines : yX1_lines.cls = RX1 ∧ yX1_lines.cls ≠ "java/lang/invoke/MethodHandle" ∧ yX1_lines.cls ≠ "java/lang/invoke/VarHandle" ∧ (parseMethodDescriptor yX1_lines.desc).map (fun d => d.parameters.length) = some 0 := by decide +kernel
theorem DX1_line : yX1_line.cls = RX1 ∧ yX1_line.cls ≠ "java/lang/invoke/MethodHandle" ∧ yX1_line.cls ≠ "java/lang/invoke/VarHandle" ∧ (parseMethodDescriptor yX1_line.desc).map (fun d => d.parameters.length) = some 1 := by decide +kernel
theorem DX1_steps : yX1_steps.cls = RX1 ∧ yX1_steps.cls ≠ "java/lang/invoke/MethodHandle" ∧ yX1_steps.cls ≠ "java/lang/invoke/VarHandle" ∧ (parseMethodDescriptor yX1_steps.desc).map (fun d => d.parameters.length) = some 0 := by decide +kernel
theorem DX1_state : yX1_state.cls = RX1 ∧ yX1_state.cls ≠ "java/lang/invoke/MethodHandle" ∧ yX1_state.cls ≠ "java/lang/invoke/VarHandle" ∧ (parseMethodDescriptor yX1_state.desc).map (fun d => d.parameters.length) = some 0 := by decide +kernel
theorem DX1_pick : yX1_pick.cls = RX1 ∧ yX1_pick.cls ≠ "java/lang/invoke/MethodHandle" ∧ yX1_pick.cls ≠ "java/lang/invoke/VarHandle" ∧ (parseMethodDescriptor yX1_pick.desc).map (fun d => d.parameters.length) = some 0 := by decide +kernel
theorem DX1_picked : yX1_picked.cls = RX1 ∧ yX1_picked.cls ≠ "java/lang/invoke/MethodHandle" ∧ yX1_picked.cls ≠ "java/lang/invoke/VarHandle" ∧ (parseMethodDescriptor yX1_picked.desc).map (fun d => d.parameters.length) = some 1 := by decide +kernel
theorem DX2_isPrefix : yX2_isPrefix.cls = RX2 ∧ yX2_isPrefix.cls ≠ "java/lang/invoke/MethodHandle" ∧ yX2_isPrefix.cls ≠ "java/lang/invoke/VarHandle" ∧ (parseMethodDescriptor yX2_isPrefix.desc).map (fun d => d.parameters.length) = some 1 := by decide +kernel
theorem DX2_isWord : yX2_isWord.cls = RX2 ∧ yX2_isWord.cls ≠ "java/lang/invoke/MethodHandle" ∧ yX2_isWord.cls ≠ "java/lang/invoke/VarHandle" ∧ (parseMethodDescriptor yX2_isWord.desc).map (fun d => d.parameters.length) = some 1 := by decide +kernel
theorem DX2_shorter : yX2_shorter.cls = RX2 ∧ yX2_shorter.cls ≠ "java/lang/invoke/MethodHandle" ∧ yX2_shorter.cls ≠ "java/lang/invoke/VarHandle" ∧ (parseMethodDescriptor yX2_shorter.desc).map (fun d => d.parameters.length) = some 1 := by decide +kernel
theorem DX2_come : yX2_come.cls = RX2 ∧ yX2_come.cls ≠ "java/lang/invoke/MethodHandle" ∧ yX2_come.cls ≠ "java/lang/invoke/VarHandle" ∧ (parseMethodDescriptor yX2_come.desc).map (fun d => d.parameters.length) = some 1 := by decide +kernel
theorem DX2_isFound : yX2_isFound.cls = RX2 ∧ yX2_isFound.cls ≠ "java/lang/invoke/MethodHandle" ∧ yX2_isFound.cls ≠ "java/lang/invoke/VarHandle" ∧ (parseMethodDescriptor yX2_isFound.desc).map (fun d => d.parameters.length) = some 1 := by decide +kernel
theorem DX2_begin : yX2_begin.cls = RX2 ∧ yX2_begin.cls ≠ "java/lang/invoke/MethodHandle" ∧ yX2_begin.cls ≠ "java/lang/invoke/VarHandle" ∧ (parseMethodDescriptor yX2_begin.desc).map (fun d => d.parameters.length) = some 1 := by decide +kernel
theorem DX2_put : yX2_put.cls = RX2 ∧ yX2_put.cls ≠ "java/lang/invoke/MethodHandle" ∧ yX2_put.cls ≠ "java/lang/invoke/VarHandle" ∧ (parseMethodDescriptor yX2_put.desc).map (fun d => d.parameters.length) = some 1 := by decide +kernel
theorem DX2_add : yX2_add.cls = RX2 ∧ yX2_add.cls ≠ "java/lang/invoke/MethodHandle" ∧ yX2_add.cls ≠ "java/lang/invoke/VarHandle" ∧ (parseMethodDescriptor yX2_add.desc).map (fun d => d.parameters.length) = some 0 := by decide +kernel
theorem DX2_build : yX2_build.cls = RX2 ∧ yX2_build.cls ≠ "java/lang/invoke/MethodHandle" ∧ yX2_build.cls ≠ "java/lang/invoke/VarHandle" ∧ (parseMethodDescriptor yX2_build.desc).map (fun d => d.parameters.length) = some 0 := by decide +kernel
theorem DX2_text : yX2_text.cls = RX2 ∧ yX2_text.cls ≠ "java/lang/invoke/MethodHandle" ∧ yX2_text.cls ≠ "java/lang/invoke/VarHandle" ∧ (parseMethodDescriptor yX2_text.desc).map (fun d => d.parameters.length) = some 6 := by decide +kernel
theorem DX2_skip : yX2_skip.cls = RX2 ∧ yX2_skip.cls ≠ "java/lang/invoke/MethodHandle" ∧ yX2_skip.cls ≠ "java/lang/invoke/VarHandle" ∧ (parseMethodDescriptor yX2_skip.desc).map (fun d => d.parameters.length) = some 1 := by decide +kernel
theorem DX2_place : yX2_place.cls = RX2 ∧ yX2_place.cls ≠ "java/lang/invoke/MethodHandle" ∧ yX2_place.cls ≠ "java/lang/invoke/VarHandle" ∧ (parseMethodDescriptor yX2_place.desc).map (fun d => d.parameters.length) = some 0 := by decide +kernel
theorem DX2_found : yX2_found.cls = RX2 ∧ yX2_found.cls ≠ "java/lang/invoke/MethodHandle" ∧ yX2_found.cls ≠ "java/lang/invoke/VarHandle" ∧ (parseMethodDescriptor yX2_found.desc).map (fun d => d.parameters.length) = some 0 := by decide +kernel
theorem DX2_word : yX2_word.cls = RX2 ∧ yX2_word.cls ≠ "java/lang/invoke/MethodHandle" ∧ yX2_word.cls ≠ "java/lang/invoke/VarHandle" ∧ (parseMethodDescriptor yX2_word.desc).map (fun d => d.parameters.length) = some 1 := by decide +kernel
theorem DX2_end : yX2_end.cls = RX2 ∧ yX2_end.cls ≠ "java/lang/invoke/MethodHandle" ∧ yX2_end.cls ≠ "java/lang/invoke/VarHandle" ∧ (parseMethodDescriptor yX2_end.desc).map (fun d => d.parameters.length) = some 1 := by decide +kernel
theorem DX2_count : yX2_count.cls = RX2 ∧ yX2_count.cls ≠ "java/lang/invoke/MethodHandle" ∧ yX2_count.cls ≠ "java/lang/invoke/VarHandle" ∧ (parseMethodDescriptor yX2_count.desc).map (fun d => d.parameters.length) = some 1 := by decide +kernel
theorem DX2_lines : yX2_lines.cls = RX2 ∧ yX2_lines.cls ≠ "java/lang/invoke/MethodHandle" ∧ yX2_lines.cls ≠ "java/lang/invoke/VarHandle" ∧ (parseMethodDescriptor yX2_lines.desc).map (fun d => d.parameters.length) = some 0 := by decide +kernel
theorem DX2_line : yX2_line.cls = RX2 ∧ yX2_line.cls ≠ "java/lang/invoke/MethodHandle" ∧ yX2_line.cls ≠ "java/lang/invoke/VarHandle" ∧ (parseMethodDescriptor yX2_line.desc).map (fun d => d.parameters.length) = some 1 := by decide +kernel
theorem DX2_steps : yX2_steps.cls = RX2 ∧ yX2_steps.cls ≠ "java/lang/invoke/MethodHandle" ∧ yX2_steps.cls ≠ "java/lang/invoke/VarHandle" ∧ (parseMethodDescriptor yX2_steps.desc).map (fun d => d.parameters.length) = some 0 := by decide +kernel
theorem DX2_state : yX2_state.cls = RX2 ∧ yX2_state.cls ≠ "java/lang/invoke/MethodHandle" ∧ yX2_state.cls ≠ "java/lang/invoke/VarHandle" ∧ (parseMethodDescriptor yX2_state.desc).map (fun d => d.parameters.length) = some 0 := by decide +kernel
theorem DX2_pick : yX2_pick.cls = RX2 ∧ yX2_pick.cls ≠ "java/lang/invoke/MethodHandle" ∧ yX2_pick.cls ≠ "java/lang/invoke/VarHandle" ∧ (parseMethodDescriptor yX2_pick.desc).map (fun d => d.parameters.length) = some 0 := by decide +kernel
theorem DX2_picked : yX2_picked.cls = RX2 ∧ yX2_picked.cls ≠ "java/lang/invoke/MethodHandle" ∧ yX2_picked.cls ≠ "java/lang/invoke/VarHandle" ∧ (parseMethodDescriptor yX2_picked.desc).map (fun d => d.parameters.length) = some 1 := by decide +kernel
theorem child_loop {z : ZZ} {E : EE} {g : GG} {x : DS} {H : Heap} {Q : State → Prop} {n : Nat} {b : Int32} (C : kC RX1 cX1_child 4 (some .int) E z) (hP : wP E (kW E g x) H) : ∀ (l : List Nat) (c : Int32), chain (sA x 3) c l → (∀ k, k ∈ l → k < 2000) → V z (0, 0) H [] Q 32 [(0, .ref g.1), (1, .int (nI n)), (2, .int b), (3, .int (childOf (sA x 1) l b))] [] → V z (0, 0) H [] Q 7 [(0, .ref g.1), (1, .int (nI n)), (2, .int b), (3, .int c)] [] := by
  intro l
  induction l with
  | nil =>
    intro c hc hl kk
    refine v_iload_n C dX1_child_7 rfl 3 rfl ?_
    refine v_iconst C (-1) (by decide) dX1_child_8 ?_
    refine v_icmp_eq C 32 dX1_child_9 (by decide) (fun h => ?_) (fun h => ?_)
    · rw [show c = -1 from hc]; exact kk
    · exact absurd hc h
  | cons k t ih =>
    intro c hc hl kk
    have hk : k < 2000 := hl k List.mem_cons_self
    obtain ⟨hc1, hc2⟩ := hc
    subst hc1
    refine v_iload_n C dX1_child_7 rfl 3 rfl ?_
    refine v_iconst C (-1) (by decide) dX1_child_8 ?_
    refine v_icmp_eq C 32 dX1_child_9 (by decide) (fun h => ?_) (fun h => ?_)
    · exact absurd h (nI_m1 (by omega))
    · refine v_aload_n C dX1_child_12 rfl 0 rfl ?_
      refine kg1 C hP dX1_child_13 ?_
      refine v_iload_n C dX1_child_16 rfl 3 rfl ?_
      refine ka1 C (k) hP (rfl) (by first | assumption | omega) dX1_child_17 ?_
      refine v_iload_n C dX1_child_18 rfl 2 rfl ?_
      refine v_icmp_eq C 32 dX1_child_19 (by decide) (fun h2 => ?_) (fun h2 => ?_)
      · rw [show childOf (sA x 1) (k :: t) b = nI k from if_pos h2] at kk; exact kk
      · refine v_aload_n C dX1_child_22 rfl 0 rfl ?_
        refine kg3 C hP dX1_child_23 ?_
        refine v_iload_n C dX1_child_26 rfl 3 rfl ?_
        refine ka3 C (k) hP (rfl) (by first | assumption | omega) dX1_child_27 ?_
        refine v_istore_n C [1, 2, 3, 0] [(0, .ref g.1), (1, .int (nI n)), (2, .int b), (3, .int (sA x 3 k))] dX1_child_28 rfl (by decide) rfl ?_
        refine v_goto C 7 dX1_child_29 (by decide) ?_
        exact ih _ hc2 (fun j hj => hl j (List.mem_cons_of_mem _ hj)) (by rw [show childOf (sA x 1) (k :: t) b = childOf (sA x 1) t b from if_neg h2] at kk; exact kk)
theorem metX1_child (l : Launch) {E : EE} {g : GG} {x : DS} {n : Nat} {cs : List Nat} (b : Int32) (hn : n < 2000) (hc : chain (sA x 3) (sA x 2 n) cs) (hl : ∀ k, k ∈ cs → k < 2000) : MRi l yX1_child cX1_child 4 (some .int) 0 E (kW E g x) [.ref g.1, .int (nI n), .int b] (fun r => r = childOf (sA x 1) cs b) := by
  refine MRi.start (own := RX1) (by decide) rfl (Nat.le_of_ble_eq_true rfl) ?_
  intro z hz C hR hP
  show V z (0, 0) _ [] _ 0 [(0, .ref g.1), (1, .int (nI n)), (2, .int b)] []
  refine v_aload_n C dX1_child_0 rfl 0 rfl ?_
  refine kg2 C hP dX1_child_1 ?_
  refine v_iload_n C dX1_child_4 rfl 1 rfl ?_
  refine ka2 C (n) hP (rfl) (by first | assumption | omega) dX1_child_5 ?_
  refine v_istore_n C [1, 2, 3, 0] [(0, .ref g.1), (1, .int (nI n)), (2, .int b), (3, .int (sA x 2 n))] dX1_child_6 rfl (by decide) rfl ?_
  refine child_loop C hP cs _ hc hl ?_
  refine v_iload_n C dX1_child_32 rfl 3 rfl ?_
  exact v_iretR C rfl rfl dX1_child_33
theorem metX1_place (l : Launch) {E : EE} {g : GG} {x : DS} : MRl l yX1_place cX1_place 1 (some .long) 0 E (kW E g x) [.ref g.1] (fun r => r = sL x 18) := by
  refine MRl.start (own := RX1) (by decide) rfl (Nat.le_of_ble_eq_true rfl) ?_
  intro z hz C hR hP
  show V z (0, 0) _ [] _ 0 [(0, .ref g.1)] []
  refine v_aload_n C dX1_place_0 rfl 0 rfl ?_
  refine kg18 C hP dX1_place_1 ?_
  exact v_lretR C rfl rfl dX1_place_4
theorem metX1_found (l : Launch) {E : EE} {g : GG} {x : DS} : MRi l yX1_found cX1_found 1 (some .int) 0 E (kW E g x) [.ref g.1] (fun r => r = sI x 26) := by
  refine MRi.start (own := RX1) (by decide) rfl (Nat.le_of_ble_eq_true rfl) ?_
  intro z hz C hR hP
  show V z (0, 0) _ [] _ 0 [(0, .ref g.1)] []
  refine v_aload_n C dX1_found_0 rfl 0 rfl ?_
  refine kg26 C hP dX1_found_1 ?_
  exact v_iretR C rfl rfl dX1_found_4
theorem metX1_lines (l : Launch) {E : EE} {g : GG} {x : DS} : MRi l yX1_lines cX1_lines 1 (some .int) 0 E (kW E g x) [.ref g.1] (fun r => r = sI x 23) := by
  refine MRi.start (own := RX1) (by decide) rfl (Nat.le_of_ble_eq_true rfl) ?_
  intro z hz C hR hP
  show V z (0, 0) _ [] _ 0 [(0, .ref g.1)] []
  refine v_aload_n C dX1_lines_0 rfl 0 rfl ?_
  refine kg23 C hP dX1_lines_1 ?_
  exact v_iretR C rfl rfl dX1_lines_4
theorem metX1_steps (l : Launch) {E : EE} {g : GG} {x : DS} : MRl l yX1_steps cX1_steps 1 (some .long) 0 E (kW E g x) [.ref g.1] (fun r => r = sL x 19) := by
  refine MRl.start (own := RX1) (by decide) rfl (Nat.le_of_ble_eq_true rfl) ?_
  intro z hz C hR hP
  show V z (0, 0) _ [] _ 0 [(0, .ref g.1)] []
  refine v_aload_n C dX1_steps_0 rfl 0 rfl ?_
  refine kg19 C hP dX1_steps_1 ?_
  exact v_lretR C rfl rfl dX1_steps_4
theorem metX2_place (l : Launch) {E : EE} {g : GG} {x : DS} : MRl l yX2_place cX2_place 1 (some .long) 0 E (mW E g x) [.ref g.1] (fun r => r = sL x 11) := by
  refine MRl.start (own := RX2) (by decide) rfl (Nat.le_of_ble_eq_true rfl) ?_
  intro z hz C hR hP
  show V z (0, 0) _ [] _ 0 [(0, .ref g.1)] []
  refine v_aload_n C dX2_place_0 rfl 0 rfl ?_
  refine mg11 C hP dX2_place_1 ?_
  exact v_lretR C rfl rfl dX2_place_4
theorem metX2_found (l : Launch) {E : EE} {g : GG} {x : DS} : MRi l yX2_found cX2_found 1 (some .int) 0 E (mW E g x) [.ref g.1] (fun r => r = sI x 13) := by
  refine MRi.start (own := RX2) (by decide) rfl (Nat.le_of_ble_eq_true rfl) ?_
  intro z hz C hR hP
  show V z (0, 0) _ [] _ 0 [(0, .ref g.1)] []
  refine v_aload_n C dX2_found_0 rfl 0 rfl ?_
  refine mg13 C hP dX2_found_1 ?_
  exact v_iretR C rfl rfl dX2_found_4
theorem metX2_steps (l : Launch) {E : EE} {g : GG} {x : DS} : MRl l yX2_steps cX2_steps 1 (some .long) 0 E (mW E g x) [.ref g.1] (fun r => r = sL x 10) := by
  refine MRl.start (own := RX2) (by decide) rfl (Nat.le_of_ble_eq_true rfl) ?_
  intro z hz C hR hP
  show V z (0, 0) _ [] _ 0 [(0, .ref g.1)] []
  refine v_aload_n C dX2_steps_0 rfl 0 rfl ?_
  refine mg10 C hP dX2_steps_1 ?_
  exact v_lretR C rfl rfl dX2_steps_4
theorem metX2_state (l : Launch) {E : EE} {g : GG} {x : DS} : MRi l yX2_state cX2_state 1 (some .int) 0 E (mW E g x) [.ref g.1] (fun r => r = sI x 9) := by
  refine MRi.start (own := RX2) (by decide) rfl (Nat.le_of_ble_eq_true rfl) ?_
  intro z hz C hR hP
  show V z (0, 0) _ [] _ 0 [(0, .ref g.1)] []
  refine v_aload_n C dX2_state_0 rfl 0 rfl ?_
  refine mg9 C hP dX2_state_1 ?_
  exact v_iretR C rfl rfl dX2_state_4
end
section
theorem metX1_childT (l : Launch) {E : EE} {g : GG} {x : DS} {N : Nat} {R : Nat → Wd} {K : Nat → List Nat} {S : Wd → Prop} {n : Nat} (b : Int32) (T : Trie x N R K S) (hn : n < N) : MRi l yX1_child cX1_child 4 (some .int) 0 E (kW E g x) [.ref g.1, .int (nI n), .int b] (fun r => r = childOf (sA x 1) (K n) b) := metX1_child l b (Nat.lt_of_lt_of_le hn T.1.2) (T.2.2.2.1 n hn) (fun k hk => Nat.lt_of_lt_of_le (T.kid hn hk) T.1.2)
/-- clear(node, label, depth) -/
theorem metX1_clear (l : Launch) {E : EE} {g : GG} {x : DS} {n : Nat} (a d : Int32) (hn : n < 2000) : MWv l yX1_clear cX1_clear 4 none 0 E (kW E g) x [.ref g.1, .int (nI n), .int a, .int d] (fun u => u = pA (pA (pA (pA (pA x 1 n a) 2 n (-1)) 3 n (-1)) 4 n d) 5 n (-1)) := by
  refine MWv.start (own := RX1) (by decide) rfl (Nat.le_of_ble_eq_true rfl) ?_
  intro z A hz C hR hH
  show V z (0, 0) _ [] _ 0 [(0, .ref g.1), (1, .int (nI n)), (2, .int a), (3, .int d)] []
  refine v_aload_n C dX1_clear_0 rfl 0 rfl ?_
  refine kg1 C hH.1 dX1_clear_1 ?_
  refine v_iload_n C dX1_clear_4 rfl 1 rfl ?_
  refine v_iload_n C dX1_clear_5 rfl 2 rfl ?_
  refine ks1 C (n) hH (rfl) (by first | assumption | omega) dX1_clear_6 (fun H locs hH => ?_)
  refine v_aload_n C dX1_clear_7 rfl 0 rfl ?_
  refine kg2 C hH.1 dX1_clear_8 ?_
  refine v_iload_n C dX1_clear_11 rfl 1 rfl ?_
  refine v_iconst C (-1) (by decide) dX1_clear_12 ?_
  refine ks2 C (n) hH (rfl) (by first | assumption | omega) dX1_clear_13 (fun H locs hH => ?_)
  refine v_aload_n C dX1_clear_14 rfl 0 rfl ?_
  refine kg3 C hH.1 dX1_clear_15 ?_
  refine v_iload_n C dX1_clear_18 rfl 1 rfl ?_
  refine v_iconst C (-1) (by decide) dX1_clear_19 ?_
  refine ks3 C (n) hH (rfl) (by first | assumption | omega) dX1_clear_20 (fun H locs hH => ?_)
  refine v_aload_n C dX1_clear_21 rfl 0 rfl ?_
  refine kg4 C hH.1 dX1_clear_22 ?_
  refine v_iload_n C dX1_clear_25 rfl 1 rfl ?_
  refine v_iload_n C dX1_clear_26 rfl 3 rfl ?_
  refine ks4 C (n) hH (rfl) (by first | assumption | omega) dX1_clear_27 (fun H locs hH => ?_)
  refine v_aload_n C dX1_clear_28 rfl 0 rfl ?_
  refine kg5 C hH.1 dX1_clear_29 ?_
  refine v_iload_n C dX1_clear_32 rfl 1 rfl ?_
  refine v_iconst C (-1) (by decide) dX1_clear_33 ?_
  refine ks5 C (n) hH (rfl) (by first | assumption | omega) dX1_clear_34 (fun H locs hH => ?_)
  exact v_vretW C hH rfl dX1_clear_35
theorem follow_end {z : ZZ} {E : EE} {g : GG} {x : DS} {D : List Wd} {N : Nat} {R : Nat → Wd} {K : Nat → List Nat} {b v1 : Int32} {n : Nat} (C : kC RX1 cX1_follow 5 (some .int) E z) (hR : rmOK 1 (0, 0) z) (hP : wP E (kW E g x) (zs z).heap) (T : Trie x N R K (PreS_ D)) (hn : n < N) (hs : isPre D (b :: R n) = true ∨ R n = []) : V z (0, 0) (zs z).heap [] (QRi z (fun r => ∃ k, k < N ∧ r = nI k ∧ R k = fol D b (R n))) 26 [(0, .ref g.1), (1, .int v1), (2, .int b), (3, .int (nI n))] [] := by
  refine v_aload_n C dX1_follow_26 rfl 0 rfl ?_
  refine v_iload_n C dX1_follow_27 rfl 3 rfl ?_
  refine v_iload_n C dX1_follow_28 rfl 2 rfl ?_
  refine v_callRi C (ci := 0) (vC := (RX1, TX1, 29)) (rest := []) (metX1_childT (zl z) b T hn) (lw_V q136 q138 qs1 q17 q139) DX1_child (hR.lower (by decide)) (by decide) hP rfl rfl rfl (Nat.le_of_ble_eq_true rfl) rfl dX1_follow_29 (fun r hr => ?_)
  refine v_istore C [1, 2, 3, 4, 0] [(0, .ref g.1), (1, .int v1), (2, .int b), (3, .int (nI n)), (4, .int r)] dX1_follow_32 (by decide) rfl ?_
  refine v_iload C dX1_follow_34 4 rfl ?_
  refine v_iconst C (-1) (by decide) dX1_follow_36 ?_
  rw [fol_stop hs]
  have hN := T.1.2
  refine v_icmp_ne C 44 dX1_follow_37 (by decide) (fun h => ?_) (fun h => ?_)
  · refine v_iload C dX1_follow_44 4 rfl ?_
    refine v_iretR C rfl ?_ dX1_follow_46
    rcases T.child hn b with ⟨c, c1, c2, c3⟩ | ⟨c1, c2⟩
    · exact ⟨c, c1, by rw [hr, c3], by rw [c2, if_pos ((T.2.2.2.2.2.2.2.2 _).mpr ⟨c, c1, c2⟩)]⟩
    · exact absurd (hr.trans c2) h
  · refine v_iconst C 0 (by decide) dX1_follow_40 ?_
    refine v_goto C 46 dX1_follow_41 (by decide) ?_
    refine v_iretR C rfl ?_ dX1_follow_46
    rcases T.child hn b with ⟨c, c1, c2, c3⟩ | ⟨c1, c2⟩
    · exact absurd (c3.symm.trans (hr.symm.trans h)) (nI_m1 (by omega))
    · exact ⟨0, T.1.1, rfl, by rw [if_neg c1]; exact T.2.1⟩
theorem follow_loop {z : ZZ} {E : EE} {g : GG} {x : DS} {D : List Wd} {N : Nat} {R : Nat → Wd} {K : Nat → List Nat} {b v1 : Int32} {m : Nat} (C : kC RX1 cX1_follow 5 (some .int) E z) (hR : rmOK 1 (0, 0) z) (hP : wP E (kW E g x) (zs z).heap) (T : Trie x N R K (PreS_ D)) (hL : LnkU x D N R (fun n => (R n).length ≤ m)) : ∀ (f n : Nat), n < N → (R n).length ≤ f → (R n).length ≤ m → V z (0, 0) (zs z).heap [] (QRi z (fun r => ∃ k, k < N ∧ r = nI k ∧ R k = fol D b (R n))) 2 [(0, .ref g.1), (1, .int v1), (2, .int b), (3, .int (nI n))] [] := by
  intro f
  have hN := T.1.2
  induction f with
  | zero =>
    intro n hn hf hm
    refine v_iload_n C dX1_follow_2 rfl 3 rfl ?_
    refine v_if_eq C 26 dX1_follow_3 (by decide) (fun h => ?_) (fun h => ?_)
    · exact follow_end C hR hP T hn (Or.inr (List.length_eq_zero_iff.mp (by omega)))
    · have h1 : n = 0 := T.2.2.1 n 0 hn T.1.1 (by rw [T.2.1]; exact List.length_eq_zero_iff.mp (by omega))
      subst h1
      exact absurd nI_0 h
  | succ f ih =>
    intro n hn hf hm
    refine v_iload_n C dX1_follow_2 rfl 3 rfl ?_
    refine v_if_eq C 26 dX1_follow_3 (by decide) (fun h => ?_) (fun h => ?_)
    · have h1 : n = 0 := (nI_eq (by omega) (by decide)).mp (h.trans nI_0.symm)
      exact follow_end C hR hP T hn (Or.inr (by rw [h1]; exact T.2.1))
    · refine v_aload_n C dX1_follow_6 rfl 0 rfl ?_
      refine v_iload_n C dX1_follow_7 rfl 3 rfl ?_
      refine v_iload_n C dX1_follow_8 rfl 2 rfl ?_
      refine v_callRi C (ci := 0) (vC := (RX1, TX1, 29)) (rest := []) (metX1_childT (zl z) b T hn) (lw_V q136 q138 qs1 q17 q139) DX1_child (hR.lower (by decide)) (by decide) hP rfl rfl rfl (Nat.le_of_ble_eq_true rfl) rfl dX1_follow_9 (fun r hr => ?_)
      refine v_iconst C (-1) (by decide) dX1_follow_12 ?_
      refine v_icmp_ne C 26 dX1_follow_13 (by decide) (fun h2 => ?_) (fun h2 => ?_)
      · refine follow_end C hR hP T hn (Or.inl ?_)
        rcases T.child hn b with ⟨c, c1, c2, c3⟩ | ⟨c1, c2⟩
        · exact (T.2.2.2.2.2.2.2.2 _).mpr ⟨c, c1, c2⟩
        · exact absurd (hr.trans c2) h2
      · have hne : R n ≠ [] := fun e => h (by rw [T.2.2.1 n 0 hn T.1.1 (e.trans T.2.1.symm)]; exact nI_0)
        have hnp : isPre D (b :: R n) = false := by
          rcases T.child hn b with ⟨c, c1, c2, c3⟩ | ⟨c1, c2⟩
          · exact absurd (c3.symm.trans (hr.symm.trans h2)) (nI_m1 (by omega))
          · simpa using c1
        obtain ⟨k, k1, k2, k3⟩ := hL n hn hm
        have hlt := lps_lt (D := D) hne
        refine v_aload_n C dX1_follow_16 rfl 0 rfl ?_
        refine kg6 C hP dX1_follow_17 ?_
        refine v_iload_n C dX1_follow_20 rfl 3 rfl ?_
        refine ka6 C (n) hP (rfl) (by first | assumption | omega) dX1_follow_21 ?_
        refine v_ei (y := nI k) (k2) ?_
        refine v_istore_n C [1, 2, 3, 0] [(0, .ref g.1), (1, .int v1), (2, .int b), (3, .int (nI k))] dX1_follow_22 rfl (by decide) rfl ?_
        refine v_goto C 2 dX1_follow_23 (by decide) ?_
        rw [fol_step hnp hne, ← k3]
        exact ih k k1 (by rw [k3]; omega) (by rw [k3]; omega)
theorem metX1_follow (l : Launch) {E : EE} {g : GG} {x : DS} {D : List Wd} {N : Nat} {R : Nat → Wd} {K : Nat → List Nat} {m n : Nat} (b : Int32) (T : Trie x N R K (PreS_ D)) (hL : LnkU x D N R (fun n => (R n).length ≤ m)) (hn : n < N) (hm : (R n).length ≤ m) : MRi l yX1_follow cX1_follow 5 (some .int) 1 E (kW E g x) [.ref g.1, .int (nI n), .int b] (fun r => ∃ k, k < N ∧ r = nI k ∧ R k = fol D b (R n)) := by
  refine MRi.start (own := RX1) (by decide) rfl (Nat.le_of_ble_eq_true rfl) ?_
  intro z hz C hR hP
  show V z (0, 0) _ [] _ 0 [(0, .ref g.1), (1, .int (nI n)), (2, .int b)] []
  refine v_iload_n C dX1_follow_0 rfl 1 rfl ?_
  refine v_istore_n C [1, 2, 3, 0] [(0, .ref g.1), (1, .int (nI n)), (2, .int b), (3, .int (nI n))] dX1_follow_1 rfl (by decide) rfl ?_
  exact follow_loop C hR hP T hL _ n hn (Nat.le_refl _) hm
/-- keep(w): one more found -/
theorem metX1_keep (l : Launch) {E : EE} {g : GG} {x : DS} {F : FL} {w pl ln : Nat} (hw : w < 60) (hF : kFd x F) (h4 : F.length < 4200) (hp : sL x 18 = lN pl) (hl : sI x 20 = nI ln) (hl1 : 1 ≤ ln) (hl2 : ln < 20000) (hll : lastL F < 20000) : MWv l yX1_keep cX1_keep 2 none 0 E (kW E g) x [.ref g.1, .int (nI w)] (fun u => kT u = kT x ∧ kD u = kD x ∧ kX u = kX x ∧ kP u = kP x ∧ kY u = kY x ∧ kFd u (F ++ [(w, pl, ln)])) := by
  refine MWv.start (own := RX1) (by decide) rfl (Nat.le_of_ble_eq_true rfl) ?_
  intro z A hz C hR hH
  show V z (0, 0) _ [] _ 0 [(0, .ref g.1), (1, .int (nI w))] []
  have hlc := lc_le F F.length
  refine v_aload_n C dX1_keep_0 rfl 0 rfl ?_
  refine kg24 C hH.1 dX1_keep_1 ?_
  refine v_aload_n C dX1_keep_4 rfl 0 rfl ?_
  refine kg26 C hH.1 dX1_keep_5 ?_
  refine v_ei (y := nI F.length) (hF.1) ?_
  refine v_iload_n C dX1_keep_8 rfl 1 rfl ?_
  refine ks24 C (F.length) hH (rfl) (by first | assumption | omega) dX1_keep_9 (fun H locs hH => ?_)
  refine v_aload_n C dX1_keep_10 rfl 0 rfl ?_
  refine kg25 C hH.1 dX1_keep_11 ?_
  refine v_aload_n C dX1_keep_14 rfl 0 rfl ?_
  refine v_dup C rfl dX1_keep_15 ?_
  refine kg26 C hH.1 dX1_keep_16 ?_
  refine v_ei (show sI (pA x 24 F.length (nI w)) 26 = sI x 26 from rfl) ?_
  refine v_ei (y := nI F.length) (hF.1) ?_
  refine v_dup_x1 C rfl rfl dX1_keep_19 ?_
  refine v_iconst C 1 (by decide) dX1_keep_20 ?_
  refine v_iadd C dX1_keep_21 ?_
  refine v_ei (y := nI (F.length + 1)) (nI_1 _) ?_
  refine kp26 C hH dX1_keep_22 (fun H locs hH => ?_)
  refine v_aload_n C dX1_keep_25 rfl 0 rfl ?_
  refine kg18 C hH.1 dX1_keep_26 ?_
  refine v_el (show sL (pI (pA x 24 F.length (nI w)) 26 (nI (F.length + 1))) 18 = sL x 18 from rfl) ?_
  refine v_el (y := lN pl) (hp) ?_
  refine ks25 C (F.length) hH (rfl) (by first | assumption | omega) dX1_keep_29 (fun H locs hH => ?_)
  refine v_aload_n C dX1_keep_30 rfl 0 rfl ?_
  refine kg13 C hH.1 dX1_keep_31 ?_
  refine v_iload_n C dX1_keep_34 rfl 1 rfl ?_
  refine v_dup2_11 C rfl rfl dX1_keep_35 ?_
  refine ka13 C (w) hH.1 (rfl) (by first | assumption | omega) dX1_keep_36 ?_
  refine v_ei (show sA (pF (pI (pA x 24 F.length (nI w)) 26 (nI (F.length + 1))) F.length (lN pl)) 13 w = sA x 13 w from rfl) ?_
  refine v_ei (y := nI (cnt F w)) (hF.2.2.2.1 w hw) ?_
  refine v_iconst C 1 (by decide) dX1_keep_37 ?_
  refine v_iadd C dX1_keep_38 ?_
  refine v_ei (y := nI (cnt F w + 1)) (nI_1 _) ?_
  refine ks13 C (w) hH (rfl) (by first | assumption | omega) dX1_keep_39 (fun H locs hH => ?_)
  refine v_aload_n C dX1_keep_40 rfl 0 rfl ?_
  refine kg21 C hH.1 dX1_keep_41 ?_
  refine v_ei (show sI (pA (pF (pI (pA x 24 F.length (nI w)) 26 (nI (F.length + 1))) F.length (lN pl)) 13 w (nI (cnt F w + 1))) 21 = sI x 21 from rfl) ?_
  refine v_ei (y := nI (lastL F)) (hF.2.2.2.2.2.2) ?_
  refine v_aload_n C dX1_keep_44 rfl 0 rfl ?_
  refine kg20 C hH.1 dX1_keep_45 ?_
  refine v_ei (show sI (pA (pF (pI (pA x 24 F.length (nI w)) 26 (nI (F.length + 1))) F.length (lN pl)) 13 w (nI (cnt F w + 1))) 20 = sI x 20 from rfl) ?_
  refine v_ei (y := nI ln) (hl) ?_
  refine v_icmp_eq C 79 dX1_keep_48 (by decide) (fun h => ?_) (fun h => ?_)
  · have e : lastL F = ln := (nI_eq (by omega) (by omega)).mp h
    refine v_vretW C hH ?_ dX1_keep_79
    exact ⟨rfl, rfl, rfl, rfl, rfl, hF.keep hw hl1 h4 rfl rfl rfl rfl (Or.inl ⟨e, rfl, rfl, rfl⟩)⟩
  · have e : ¬ lastL F = ln := fun q => h (by rw [q])
    refine v_aload_n C dX1_keep_51 rfl 0 rfl ?_
    refine v_aload_n C dX1_keep_52 rfl 0 rfl ?_
    refine kg20 C hH.1 dX1_keep_53 ?_
    refine v_ei (show sI (pA (pF (pI (pA x 24 F.length (nI w)) 26 (nI (F.length + 1))) F.length (lN pl)) 13 w (nI (cnt F w + 1))) 20 = sI x 20 from rfl) ?_
    refine v_ei (y := nI ln) (hl) ?_
    refine kp21 C hH dX1_keep_56 (fun H locs hH => ?_)
    refine v_aload_n C dX1_keep_59 rfl 0 rfl ?_
    refine kg22 C hH.1 dX1_keep_60 ?_
    refine v_aload_n C dX1_keep_63 rfl 0 rfl ?_
    refine v_dup C rfl dX1_keep_64 ?_
    refine kg23 C hH.1 dX1_keep_65 ?_
    refine v_ei (show sI (pI (pA (pF (pI (pA x 24 F.length (nI w)) 26 (nI (F.length + 1))) F.length (lN pl)) 13 w (nI (cnt F w + 1))) 21 (nI ln)) 23 = sI x 23 from rfl) ?_
    refine v_ei (y := nI (lc F F.length)) (hF.2.2.2.2.1) ?_
    refine v_dup_x1 C rfl rfl dX1_keep_68 ?_
    refine v_iconst C 1 (by decide) dX1_keep_69 ?_
    refine v_iadd C dX1_keep_70 ?_
    refine v_ei (y := nI (lc F F.length + 1)) (nI_1 _) ?_
    refine kp23 C hH dX1_keep_71 (fun H locs hH => ?_)
    refine v_aload_n C dX1_keep_74 rfl 0 rfl ?_
    refine kg20 C hH.1 dX1_keep_75 ?_
    refine v_ei (show sI (pI (pI (pA (pF (pI (pA x 24 F.length (nI w)) 26 (nI (F.length + 1))) F.length (lN pl)) 13 w (nI (cnt F w + 1))) 21 (nI ln)) 23 (nI (lc F F.length + 1))) 20 = sI x 20 from rfl) ?_
    refine v_ei (y := nI ln) (hl) ?_
    refine ks22 C (lc F F.length) hH (rfl) (by first | assumption | omega) dX1_keep_78 (fun H locs hH => ?_)
    refine v_vretW C hH ?_ dX1_keep_79
    exact ⟨rfl, rfl, rfl, rfl, rfl, hF.keep hw hl1 h4 rfl rfl rfl rfl (Or.inr ⟨e, rfl, rfl, rfl⟩)⟩
def kSame (u x : DS) : Prop := kT u = kT x ∧ kD u = kD x ∧ kX u = kX x ∧ kP u = kP x ∧ kY u = kY x
theorem kSame.rfl' {x : DS} : kSame x x := ⟨rfl, rfl, rfl, rfl, rfl⟩
theorem kSame.trans {u x w : DS} (h1 : kSame u x) (h2 : kSame x w) : kSame u w := ⟨h1.1.trans h2.1, h1.2.1.trans h2.2.1, h1.2.2.1.trans h2.2.2.1, h1.2.2.2.1.trans h2.2.2.2.1, h1.2.2.2.2.trans h2.2.2.2.2⟩
theorem tell_inner {z : ZZ} {E : EE} {g : GG} {x0 : DS} {A : Nat → Prop} {Q : State → Prop} {v : Int32} {pl ln : Nat} (C : kC RX1 cX1_tell 3 none E z) (hR : rmOK 1 (0, 0) z) (hp : sL x0 18 = lN pl) (hl : sI x0 20 = nI ln) (hl1 : 1 ≤ ln) (hl2 : ln < 20000) : ∀ (ws : List Nat) (c : Int32) (x : DS) (H : Heap) (locs : List Loc) (F : FL), chain (sA x0 11) c ws → (∀ w, w ∈ ws → w < 60) → kSame x x0 → kFd x F → lastL F < 20000 → F.length + ws.length ≤ 4200 → wH E (kW E g x) A z H locs → (∀ (u : DS) (H : Heap) (locs : List Loc), kSame u x0 → kFd u (F ++ fnd pl ln ws) → lastL (F ++ fnd pl ln ws) < 20000 → wH E (kW E g u) A z H locs → V z (0, 0) H locs Q 42 [(0, .ref g.1), (1, .int v), (2, .int (-1))] []) → V z (0, 0) H locs Q 22 [(0, .ref g.1), (1, .int v), (2, .int c)] [] := by
  intro ws
  induction ws with
  | nil =>
    intro c x H locs F hc hw hT hF hll h4 hH kk
    have hc : c = -1 := hc
    subst hc
    refine v_iload_n C dX1_tell_22 rfl 2 rfl ?_
    refine v_iconst C (-1) (by decide) dX1_tell_23 ?_
    refine v_icmp_eq C 42 dX1_tell_24 (by decide) (fun h => ?_) (fun h => ?_)
    · exact kk x H locs hT (by simpa [fnd] using hF) (by simpa [fnd] using hll) hH
    · exact absurd rfl h
  | cons w t ih =>
    intro c x H locs F hc hw hT hF hll h4 hH kk
    obtain ⟨hc1, hc2⟩ := hc
    subst hc1
    have hw1 : w < 60 := hw w List.mem_cons_self
    have h5 : F.length + 1 + t.length ≤ 4200 := by simpa [Nat.add_assoc, Nat.add_comm 1] using h4
    refine v_iload_n C dX1_tell_22 rfl 2 rfl ?_
    refine v_iconst C (-1) (by decide) dX1_tell_23 ?_
    refine v_icmp_eq C 42 dX1_tell_24 (by decide) (fun h => ?_) (fun h => ?_)
    · exact absurd h (nI_m1 (by omega))
    · refine v_aload_n C dX1_tell_27 rfl 0 rfl ?_
      refine v_iload_n C dX1_tell_28 rfl 2 rfl ?_
      refine v_callWv C (ci := 0) (vC := (RX1, TX1, 29)) (rest := []) (metX1_keep (zl z) hw1 hF (by omega) ((kX_L18 hT.2.2.1).trans hp) ((kX_I20 hT.2.2.1).trans hl) hl1 hl2 hll) (lw_V q160 q162 qs5 q17 q163) DX1_keep (hR.lower (by decide)) (by decide) hH rfl rfl rfl (Nat.le_of_ble_eq_true rfl) rfl dX1_tell_29 (fun u H locs hu hH => ?_)
      obtain ⟨u1, u2, u3, u4, u5, hF1⟩ := hu
      have hT1 : kSame u x0 := kSame.trans ⟨u1, u2, u3, u4, u5⟩ hT
      refine v_aload_n C dX1_tell_32 rfl 0 rfl ?_
      refine kg11 C hH.1 dX1_tell_33 ?_
      refine v_iload_n C dX1_tell_36 rfl 2 rfl ?_
      refine ka11 C (w) hH.1 (rfl) (by first | assumption | omega) dX1_tell_37 ?_
      refine v_ei (y := sA x0 11 w) (congrFun (kT_A11 hT1.1) w) ?_
      refine v_istore_n C [1, 2, 0] [(0, .ref g.1), (1, .int v), (2, .int (sA x0 11 w))] dX1_tell_38 rfl (by decide) rfl ?_
      refine v_goto C 22 dX1_tell_39 (by decide) ?_
      have ea : F ++ [(w, pl, ln)] ++ fnd pl ln t = F ++ fnd pl ln (w :: t) := by simp [fnd]
      refine ih _ u H locs (F ++ [(w, pl, ln)]) hc2 (fun j hj => hw j (List.mem_cons_of_mem _ hj)) hT1 hF1 (by rw [lastL_snoc]; exact hl2) (by simpa using h5) hH ?_
      rw [ea]
      exact kk
theorem tell_outer {z : ZZ} {E : EE} {g : GG} {x0 : DS} {A : Nat → Prop} {D : List Wd} {N : Nat} {R : Nat → Wd} {pl ln : Nat} {post : DS → Prop} (C : kC RX1 cX1_tell 3 none E z) (hR : rmOK 1 (0, 0) z) (hN : N ≤ 2000) (hD : DOK D) (hW : Wds x0 D N R) (hL : Lnk x0 D N R) (hp : sL x0 18 = lN pl) (hl : sI x0 20 = nI ln) (hl1 : 1 ≤ ln) (hl2 : ln < 20000) : ∀ (f : Nat) (c v2 : Int32) (r : Wd) (x : DS) (H : Heap) (locs : List Loc) (F : FL) (lv2 : List (Nat × Value)), r.length ≤ f → ((c = -1 ∧ mt D r = []) ∨ ∃ v, v < N ∧ c = nI v ∧ mt D r = mt D (R v) ∧ occ D (R v) ≠ [] ∧ (R v).length ≤ r.length) → kSame x x0 → kFd x F → lastL F < 20000 → F.length + (mt D r).length ≤ 4200 → wH E (kW E g x) A z H locs → (∀ (u : DS), kSame u x0 → kFd u (F ++ fnd pl ln (mt D r)) → lastL (F ++ fnd pl ln (mt D r)) < 20000 → post u) → V z (0, 0) H locs (QWv z E (kW E g) A post) 10 ((0, .ref g.1) :: (1, .int c) :: lv2) [] := by
  intro f
  induction f with
  | zero =>
    intro c v2 r x H locs F lv2 hf hc hT hF hll h4 hH kk
    have hr0 : r = [] := List.length_eq_zero_iff.mp (by omega)
    refine v_sub [0, 1] rfl ?_
    have hc : c = -1 := by
      rcases hc with h | ⟨v, h1, h2, h3, h4, h5⟩
      · exact h.1
      · have h6 : R v = [] := List.length_eq_zero_iff.mp (by omega)
        rw [h6] at h4
        exact absurd hD.occ0 h4
    subst hc
    refine v_iload_n C dX1_tell_10 rfl 1 rfl ?_
    refine v_iconst C (-1) (by decide) dX1_tell_11 ?_
    refine v_icmp_eq C 57 dX1_tell_12 (by decide) (fun h => ?_) (fun h => ?_)
    · refine v_vretW C hH (kk x hT ?_ ?_) dX1_tell_57
      · rw [hr0, mt_nil]; simpa using hF
      · rw [hr0, mt_nil]; simpa using hll
    · exact absurd rfl h
  | succ f ih =>
    intro c v2 r x H locs F lv2 hf hc hT hF hll h4 hH kk
    refine v_sub [0, 1] rfl ?_
    rcases hc with ⟨h1, h2⟩ | ⟨v, h1, h2, h3, h5, h6⟩
    · subst h1
      refine v_iload_n C dX1_tell_10 rfl 1 rfl ?_
      refine v_iconst C (-1) (by decide) dX1_tell_11 ?_
      refine v_icmp_eq C 57 dX1_tell_12 (by decide) (fun h => ?_) (fun h => ?_)
      · refine v_vretW C hH (kk x hT ?_ ?_) dX1_tell_57
        · rw [h2]; simpa using hF
        · rw [h2]; simpa using hll
      · exact absurd rfl h
    · subst h2
      have hv : v < 2000 := by omega
      have hne : R v ≠ [] := fun e => h5 (by rw [e]; exact hD.occ0)
      have hlt := lps_lt (D := D) hne
      have hmt : mt D r = occ D (R v) ++ mt D (lps D (R v)) := by rw [h3]; exact mt_lps hne
      have hlen : (mt D r).length = (occ D (R v)).length + (mt D (lps D (R v))).length := by rw [hmt, List.length_append]
      obtain ⟨k, k1, k2, k3⟩ := hL.1 v h1 trivial
      refine v_iload_n C dX1_tell_10 rfl 1 rfl ?_
      refine v_iconst C (-1) (by decide) dX1_tell_11 ?_
      refine v_icmp_eq C 57 dX1_tell_12 (by decide) (fun h => ?_) (fun h => ?_)
      · exact absurd h (nI_m1 (by omega))
      · refine v_aload_n C dX1_tell_15 rfl 0 rfl ?_
        refine kg5 C hH.1 dX1_tell_16 ?_
        refine v_iload_n C dX1_tell_19 rfl 1 rfl ?_
        refine ka5 C (v) hH.1 (rfl) (by first | assumption | omega) dX1_tell_20 ?_
        refine v_ei (y := sA x0 5 v) (congrFun (kT_A5 hT.1) v) ?_
        refine v_istore_n C [1, 2, 0] [(0, .ref g.1), (1, .int (nI v)), (2, .int (sA x0 5 v))] dX1_tell_21 rfl (by decide) rfl ?_
        refine tell_inner C hR hp hl hl1 hl2 (occ D (R v)) _ x H locs F (hW.1 v h1) (fun w hw => Nat.lt_of_lt_of_le (mem_occ.mp hw).1 hD.1) hT hF hll (by omega) hH (fun u H locs hT hF1 hll1 hH => ?_)
        refine v_aload_n C dX1_tell_42 rfl 0 rfl ?_
        refine kg7 C hH.1 dX1_tell_43 ?_
        refine v_aload_n C dX1_tell_46 rfl 0 rfl ?_
        refine kg6 C hH.1 dX1_tell_47 ?_
        refine v_iload_n C dX1_tell_50 rfl 1 rfl ?_
        refine ka6 C (v) hH.1 (rfl) (by first | assumption | omega) dX1_tell_51 ?_
        refine v_ei (y := nI k) ((congrFun (kT_A6 hT.1) v).trans k2) ?_
        refine ka7 C (k) hH.1 (rfl) (by first | assumption | omega) dX1_tell_52 ?_
        refine v_ei (y := sA x0 7 k) (congrFun (kT_A7 hT.1) k) ?_
        refine v_istore_n C [1, 0, 2] [(0, .ref g.1), (1, .int (sA x0 7 k)), (2, .int (-1))] dX1_tell_53 rfl (by decide) rfl ?_
        refine v_goto C 10 dX1_tell_54 (by decide) ?_
        have ea : F ++ fnd pl ln (occ D (R v)) ++ fnd pl ln (mt D (lps D (R v))) = F ++ fnd pl ln (mt D r) := by rw [hmt]; simp [fnd]
        have hw := hL.2 k k1 trivial
        rw [k3] at hw
        refine ih _ 0 (lps D (R v)) u H locs _ _ (by omega) hw hT hF1 hll1 (by rw [List.length_append, List.length_map]; omega) hH ?_
        rw [ea]
        exact kk
/-- tell(): all words with which the state ends -/
theorem metX1_tell (l : Launch) {E : EE} {g : GG} {x : DS} {D : List Wd} {N : Nat} {R : Nat → Wd} {F : FL} {n pl ln : Nat} (hN : N ≤ 2000) (hD : DOK D) (hW : Wds x D N R) (hL : Lnk x D N R) (hn : n < N) (hnow : sI x 17 = nI n) (hF : kFd x F) (h4 : F.length + (mt D (R n)).length ≤ 4200) (hp : sL x 18 = lN pl) (hl : sI x 20 = nI ln) (hl1 : 1 ≤ ln) (hl2 : ln < 20000) (hll : lastL F < 20000) : MWv l yX1_tell cX1_tell 3 none 1 E (kW E g) x [.ref g.1] (fun u => kSame u x ∧ kFd u (F ++ fnd pl ln (mt D (R n))) ∧ lastL (F ++ fnd pl ln (mt D (R n))) < 20000) := by
  refine MWv.start (own := RX1) (by decide) rfl (Nat.le_of_ble_eq_true rfl) ?_
  intro z A hz C hR hH
  show V z (0, 0) _ [] _ 0 [(0, .ref g.1)] []
  refine v_aload_n C dX1_tell_0 rfl 0 rfl ?_
  refine kg7 C hH.1 dX1_tell_1 ?_
  refine v_aload_n C dX1_tell_4 rfl 0 rfl ?_
  refine kg17 C hH.1 dX1_tell_5 ?_
  refine v_ei (y := nI n) (hnow) ?_
  refine ka7 C (n) hH.1 (rfl) (by first | assumption | omega) dX1_tell_8 ?_
  refine v_istore_n C [1, 0] [(0, .ref g.1), (1, .int (sA x 7 n))] dX1_tell_9 rfl (by decide) rfl ?_
  exact tell_outer C hR hN hD hW hL hp hl hl1 hl2 _ _ 0 (R n) x _ _ F [] (Nat.le_refl _) (hL.2 n hn trivial) kSame.rfl' hF hll h4 hH (fun u a b c => ⟨a, b, c⟩)
end
section
def kZ (u x : DS) : Prop := kT u = kT x ∧ kD u = kD x ∧ kX u = kX x ∧ kP u = kP x ∧ kF u = kF x
theorem come_loop {z : ZZ} {E : EE} {g : GG} {x0 : DS} {A : Nat → Prop} {Q : State → Prop} {D : List Wd} {N : Nat} {R : Nat → Wd} {K : Nat → List Nat} {b : Int32} (C : kC RX1 cX1_come 3 none E z) (hR : rmOK 2 (0, 0) z) (T : Trie x0 N R K (PreS_ D)) (hL : Lnk x0 D N R) : ∀ (f n : Nat) (sp : Int64) (x : DS) (H : Heap) (locs : List Loc), n < N → (R n).length ≤ f → kZ x x0 → sI x 17 = nI n → sL x 19 = sp → wH E (kW E g x) A z H locs → (∀ (n' : Nat) (u : DS) (H : Heap) (locs : List Loc), n' < N → R n' = (go D b f (R n) sp).1 → kZ u x0 → sI u 17 = nI n' → sL u 19 = (go D b f (R n) sp).2 → wH E (kW E g u) A z H locs → V z (0, 0) H locs Q 80 [(0, .ref g.1), (1, .int b)] []) → V z (0, 0) H locs Q 34 [(0, .ref g.1), (1, .int b)] [] := by
  intro f
  have hN := T.1.2
  induction f with
  | zero =>
    intro n sp x H locs hn hf hZ hnow hsp hH kk
    refine v_aload_n C dX1_come_34 rfl 0 rfl ?_
    refine kg17 C hH.1 dX1_come_35 ?_
    refine v_ei (y := nI n) (hnow) ?_
    refine v_if_eq C 80 dX1_come_38 (by decide) (fun h => ?_) (fun h => ?_)
    · exact kk n x H locs hn rfl hZ hnow hsp hH
    · have h1 : n = 0 := T.2.2.1 n 0 hn T.1.1 (by rw [T.2.1]; exact List.length_eq_zero_iff.mp (by omega))
      subst h1
      exact absurd nI_0 h
  | succ f ih =>
    intro n sp x H locs hn hf hZ hnow hsp hH kk
    refine v_aload_n C dX1_come_34 rfl 0 rfl ?_
    refine kg17 C hH.1 dX1_come_35 ?_
    refine v_ei (y := nI n) (hnow) ?_
    refine v_if_eq C 80 dX1_come_38 (by decide) (fun h => ?_) (fun h => ?_)
    · have h1 : n = 0 := (nI_eq (by omega) (by decide)).mp (h.trans nI_0.symm)
      have h2 : R n = [] := by rw [h1]; exact T.2.1
      rw [go_stop (Or.inr h2)] at kk
      exact kk n x H locs hn rfl hZ hnow hsp hH
    · refine v_aload_n C dX1_come_41 rfl 0 rfl ?_
      refine v_aload_n C dX1_come_42 rfl 0 rfl ?_
      refine kg17 C hH.1 dX1_come_43 ?_
      refine v_ei (y := nI n) (hnow) ?_
      refine v_iload_n C dX1_come_46 rfl 1 rfl ?_
      refine v_callRi C (ci := 0) (vC := (RX1, TX1, 29)) (rest := []) (metX1_childT (zl z) b (T.congr hZ.1) hn) (lw_V q136 q138 qs1 q17 q139) DX1_child (hR.lower (by decide)) (by decide) hH.1 rfl rfl rfl (Nat.le_of_ble_eq_true rfl) rfl dX1_come_47 (fun r hr => ?_)
      refine v_iconst C (-1) (by decide) dX1_come_50 ?_
      refine v_icmp_ne C 80 dX1_come_51 (by decide) (fun h2 => ?_) (fun h2 => ?_)
      · have h3 : isPre D (b :: R n) = true := by
          rcases (T.congr hZ.1).child hn b with ⟨c, c1, c2, c3⟩ | ⟨c1, c2⟩
          · exact (T.2.2.2.2.2.2.2.2 _).mpr ⟨c, c1, c2⟩
          · exact absurd (hr.trans c2) h2
        rw [go_stop (Or.inl h3)] at kk
        exact kk n x H locs hn rfl hZ hnow hsp hH
      · have hne : R n ≠ [] := fun e => h (by rw [T.2.2.1 n 0 hn T.1.1 (e.trans T.2.1.symm)]; exact nI_0)
        have hnp : isPre D (b :: R n) = false := by
          rcases (T.congr hZ.1).child hn b with ⟨c, c1, c2, c3⟩ | ⟨c1, c2⟩
          · exact absurd (c3.symm.trans (hr.symm.trans h2)) (nI_m1 (by omega))
          · simpa using c1
        obtain ⟨k, k1, k2, k3⟩ := hL.1 n hn trivial
        have hlt := lps_lt (D := D) hne
        refine v_aload_n C dX1_come_54 rfl 0 rfl ?_
        refine v_aload_n C dX1_come_55 rfl 0 rfl ?_
        refine kg6 C hH.1 dX1_come_56 ?_
        refine v_aload_n C dX1_come_59 rfl 0 rfl ?_
        refine kg17 C hH.1 dX1_come_60 ?_
        refine v_ei (y := nI n) (hnow) ?_
        refine ka6 C (n) hH.1 (rfl) (by first | assumption | omega) dX1_come_63 ?_
        refine v_ei (y := nI k) ((congrFun (kT_A6 hZ.1) n).trans k2) ?_
        refine kp17 C hH dX1_come_64 (fun H locs hH => ?_)
        refine v_aload_n C dX1_come_67 rfl 0 rfl ?_
        refine v_dup C rfl dX1_come_68 ?_
        refine kg19 C hH.1 dX1_come_69 ?_
        refine v_el (show sL (pI x 17 (nI k)) 19 = sL x 19 from rfl) ?_
        refine v_el (y := sp) (hsp) ?_
        refine v_lconst C 1 (by decide) dX1_come_72 ?_
        refine v_ladd C dX1_come_73 ?_
        refine kp19 C hH dX1_come_74 (fun H locs hH => ?_)
        refine v_goto C 34 dX1_come_77 (by decide) ?_
        rw [go_step hnp hne, ← k3] at kk
        exact ih k (sp + 1) (pL (pI x 17 (nI k)) 19 (sp + 1)) H locs k1 (by rw [k3]; omega) ⟨hZ.1, hZ.2.1, hZ.2.2.1, hZ.2.2.2.1, hZ.2.2.2.2⟩ rfl rfl hH kk
/-- come(b): a byte comes -/
theorem metX1_come (l : Launch) {E : EE} {g : GG} {x : DS} {D : List Wd} {N rm : Nat} {R : Nat → Wd} {K : Nat → List Nat} {t : TS} (b : Int32) (hD : kDict x D true N rm R K) (ht : kTS x N R t) (h4 : t.2.2.2.2.length + 60 ≤ 4200) (hl1 : 1 ≤ t.2.2.2.1) (hl2 : t.2.2.2.1 + 1 < 20000) (hll : lastL t.2.2.2.2 < 20000) : MWv l yX1_come cX1_come 3 none 2 E (kW E g) x [.ref g.1, .int b] (fun u => kT u = kT x ∧ kD u = kD x ∧ kP u = kP x ∧ kTS u N R (cm D b t)) := by
  refine MWv.start (own := RX1) (by decide) rfl (Nat.le_of_ble_eq_true rfl) ?_
  intro z A hz C hR hH
  show V z (0, 0) _ [] _ 0 [(0, .ref g.1), (1, .int b)] []
  obtain ⟨T, hW, hDD, hrm, hN9, hB, hwc, hLk⟩ := hD
  have hL := hLk rfl
  obtain ⟨⟨⟨n, hn, hcur, hnow⟩, hpl, hsp, hln⟩, hF⟩ := ht
  have hN := T.1.2
  refine v_aload_n C dX1_come_0 rfl 0 rfl ?_
  refine v_dup C rfl dX1_come_1 ?_
  refine kg19 C hH.1 dX1_come_2 ?_
  refine v_el (y := t.2.1) (hsp) ?_
  refine v_lconst C 1 (by decide) dX1_come_5 ?_
  refine v_ladd C dX1_come_6 ?_
  refine kp19 C hH dX1_come_7 (fun H locs hH => ?_)
  refine v_iload_n C dX1_come_10 rfl 1 rfl ?_
  refine v_bipush C 10 (by decide) dX1_come_11 ?_
  refine v_icmp_ne C 34 dX1_come_13 (by decide) (fun h10 => ?_) (fun h10 => ?_)
  · refine come_loop (x0 := pL x 19 (t.2.1 + 1)) (b := b) C hR T hL t.1.length n (t.2.1 + 1) _ H locs hn (by rw [hcur]; exact Nat.le_refl _) ⟨rfl, rfl, rfl, rfl, rfl⟩ hnow rfl hH ?_
    intro n1 u H locs hn1 hr1 hZ hnow1 hsp1 hH
    rw [hcur] at hr1 hsp1
    have hfol : fol D b t.1 = if isPre D (b :: R n1) = true then b :: R n1 else [] := by rw [hr1]; exact go_snd
    have k101 : ∀ (m : Nat) (r2 : Int32), m < N → R m = fol D b t.1 → V z (0, 0) H locs (QWv z E (kW E g) A (fun u => kT u = kT x ∧ kD u = kD x ∧ kP u = kP x ∧ kTS u N R (cm D b t))) 101 [(0, .ref g.1), (1, .int b), (2, .int r2)] [.int (nI m), .ref g.1] := by
      intro m r2 hm hRm
      refine kp17 C hH dX1_come_101 (fun H locs hH => ?_)
      refine v_aload_n C dX1_come_104 rfl 0 rfl ?_
      refine v_callWv C (ci := 0) (vC := (RX1, TX1, 29)) (rest := []) (metX1_tell (zl z) (N := N) (D := D) (R := R) (n := m) (F := t.2.2.2.2) (pl := t.2.2.1) (ln := t.2.2.2.1) hN hDD (hW.congr (u := pI u 17 (nI m)) hZ.1) ⟨hL.1.congr (u := pI u 17 (nI m)) hZ.1, hL.2.congr (u := pI u 17 (nI m)) hZ.1⟩ hm rfl (hF.congr (u := pI u 17 (nI m)) hZ.2.2.2.2) (by have := mt_le (D := D) (r := R m); have := hDD.1; omega) ((kX_L18 hZ.2.2.1).trans hpl) ((kX_I20 hZ.2.2.1).trans hln) hl1 (by omega) hll) (lw_V q156 q158 qs4 q17 q159) DX1_tell (hR.lower (by decide)) (by decide) hH rfl rfl rfl (Nat.le_of_ble_eq_true rfl) rfl dX1_come_105 (fun u2 H locs hu hH => ?_)
      obtain ⟨⟨s1, s2, s3, s4, s5⟩, hF2, -⟩ := hu
      refine v_aload_n C dX1_come_108 rfl 0 rfl ?_
      refine v_dup C rfl dX1_come_109 ?_
      refine kg18 C hH.1 dX1_come_110 ?_
      refine v_el (y := lN t.2.2.1) ((kX_L18 s3).trans ((kX_L18 hZ.2.2.1).trans hpl)) ?_
      refine v_lconst C 1 (by decide) dX1_come_113 ?_
      refine v_ladd C dX1_come_114 ?_
      refine v_el (y := lN (t.2.2.1 + 1)) (lN_s _) ?_
      refine kp18 C hH dX1_come_115 (fun H locs hH => ?_)
      refine v_vretW C hH ?_ dX1_come_118
      rw [cm_n h10]
      rw [hRm] at hF2
      exact ⟨s1.trans hZ.1, s2.trans hZ.2.1, s4.trans hZ.2.2.2.1, ⟨⟨m, hm, hRm, kY_I17 s5⟩, rfl, (kY_L19 s5).trans hsp1, (kX_I20 s3).trans ((kX_I20 hZ.2.2.1).trans hln)⟩, hF2.congr rfl⟩
    refine v_aload_n C dX1_come_80 rfl 0 rfl ?_
    refine v_aload_n C dX1_come_81 rfl 0 rfl ?_
    refine kg17 C hH.1 dX1_come_82 ?_
    refine v_ei (y := nI n1) (hnow1) ?_
    refine v_iload_n C dX1_come_85 rfl 1 rfl ?_
    refine v_callRi C (ci := 0) (vC := (RX1, TX1, 29)) (rest := []) (metX1_childT (zl z) b (T.congr (u := u) hZ.1) hn1) (lw_V q136 q138 qs1 q17 q139) DX1_child (hR.lower (by decide)) (by decide) hH.1 rfl rfl rfl (Nat.le_of_ble_eq_true rfl) rfl dX1_come_86 (fun r hr => ?_)
    refine v_istore_n C [1, 2, 0] [(0, .ref g.1), (1, .int b), (2, .int r)] dX1_come_89 rfl (by decide) rfl ?_
    refine v_aload_n C dX1_come_90 rfl 0 rfl ?_
    refine v_iload_n C dX1_come_91 rfl 2 rfl ?_
    refine v_iconst C (-1) (by decide) dX1_come_92 ?_
    refine v_icmp_ne C 100 dX1_come_93 (by decide) (fun h2 => ?_) (fun h2 => ?_)
    · refine v_iload_n C dX1_come_100 rfl 2 rfl ?_
      rcases (T.congr (u := u) hZ.1).child hn1 b with ⟨c, c1, c2, c3⟩ | ⟨c1, c2⟩
      · rw [hr.trans c3]
        exact k101 c _ c1 (by rw [hfol, c2, if_pos ((T.2.2.2.2.2.2.2.2 _).mpr ⟨c, c1, c2⟩)])
      · exact absurd (hr.trans c2) h2
    · refine v_iconst C 0 (by decide) dX1_come_96 ?_
      refine v_goto C 101 dX1_come_97 (by decide) ?_
      rcases (T.congr (u := u) hZ.1).child hn1 b with ⟨c, c1, c2, c3⟩ | ⟨c1, c2⟩
      · exact absurd (c3.symm.trans (hr.symm.trans h2)) (nI_m1 (by omega))
      · exact k101 0 _ T.1.1 (by rw [hfol, if_neg c1]; exact T.2.1)
  · refine v_aload_n C dX1_come_16 rfl 0 rfl ?_
    refine v_iconst C 0 (by decide) dX1_come_17 ?_
    refine kp17 C hH dX1_come_18 (fun H locs hH => ?_)
    refine v_aload_n C dX1_come_21 rfl 0 rfl ?_
    refine v_dup C rfl dX1_come_22 ?_
    refine kg20 C hH.1 dX1_come_23 ?_
    refine v_ei (show sI (pI (pL x 19 (t.2.1 + 1)) 17 0) 20 = sI x 20 from rfl) ?_
    refine v_ei (y := nI t.2.2.2.1) (hln) ?_
    refine v_iconst C 1 (by decide) dX1_come_26 ?_
    refine v_iadd C dX1_come_27 ?_
    refine v_ei (y := nI (t.2.2.2.1 + 1)) (nI_1 _) ?_
    refine kp20 C hH dX1_come_28 (fun H locs hH => ?_)
    refine v_goto C 108 dX1_come_31 (by decide) ?_
    refine v_aload_n C dX1_come_108 rfl 0 rfl ?_
    refine v_dup C rfl dX1_come_109 ?_
    refine kg18 C hH.1 dX1_come_110 ?_
    refine v_el (show sL (pI (pI (pL x 19 (t.2.1 + 1)) 17 0) 20 (nI (t.2.2.2.1 + 1))) 18 = sL x 18 from rfl) ?_
    refine v_el (y := lN t.2.2.1) (hpl) ?_
    refine v_lconst C 1 (by decide) dX1_come_113 ?_
    refine v_ladd C dX1_come_114 ?_
    refine v_el (y := lN (t.2.2.1 + 1)) (lN_s _) ?_
    refine kp18 C hH dX1_come_115 (fun H locs hH => ?_)
    refine v_vretW C hH ?_ dX1_come_118
    rw [h10, cm_10]
    exact ⟨rfl, rfl, rfl, ⟨⟨0, T.1.1, T.2.1, rfl⟩, rfl, rfl, rfl⟩, hF.congr rfl⟩
def tcd (bt : Bool) (n : Int32) (F : FL) : Prop := bt = true ∧ ¬ n < 0 ∧ ¬ 20 < n ∧ F.length ≤ 3000
theorem text_loop {z : ZZ} {E : EE} {g : GG} {x0 : DS} {A : Nat → Prop} {Q : State → Prop} {D : List Wd} {N rm : Nat} {R : Nat → Wd} {K : Nat → List Nat} {t : TS} {a b c d e v7 : Int32} {nn : Nat} (C : kC RX1 cX1_text 10 (some .int) E z) (hR : rmOK 3 (0, 0) z) (hD : kDict x0 D true N rm R K) (hT : TOK D t) (h3 : t.2.2.2.2.length ≤ 3000) (hl2 : t.2.2.2.1 ≤ 15000) (hn : nn ≤ 20) : ∀ (j k : Nat) (x : DS) (H : Heap) (locs : List Loc), k + j = nn → kT x = kT x0 → kD x = kD x0 → kP x = kP x0 → kTS x N R (txt D (tb a b c d e) k t) → wH E (kW E g x) A z H locs → (∀ (u : DS) (H : Heap) (locs : List Loc), kT u = kT x0 → kD u = kD x0 → kP u = kP x0 → kTS u N R (txt D (tb a b c d e) nn t) → wH E (kW E g u) A z H locs → V z (0, 0) H locs Q 122 [(0, .ref g.1), (1, .int a), (2, .int b), (3, .int c), (4, .int d), (5, .int e), (6, .int (nI nn)), (7, .int v7), (8, .int (nI nn))] []) → V z (0, 0) H locs Q 40 [(0, .ref g.1), (1, .int a), (2, .int b), (3, .int c), (4, .int d), (5, .int e), (6, .int (nI nn)), (7, .int v7), (8, .int (nI k))] [] := by
  intro j
  induction j with
  | zero =>
    intro k x H locs hk h1 h2 h4 hts hH kk
    have hk : k = nn := by omega
    subst hk
    refine v_iload C dX1_text_40 8 rfl ?_
    refine v_iload C dX1_text_42 6 rfl ?_
    refine v_icmp_ge C 122 dX1_text_44 (by decide) (fun h => ?_) (fun h => ?_)
    · exact kk x H locs h1 h2 h4 hts hH
    · exact absurd (Int32.le_refl _) h
  | succ j ih =>
    intro k x H locs hk h1 h2 h4 hts hH kk
    have hk1 : k < nn := by omega
    refine v_iload C dX1_text_40 8 rfl ?_
    refine v_iload C dX1_text_42 6 rfl ?_
    refine v_icmp_ge C 122 dX1_text_44 (by decide) (fun h => ?_) (fun h => ?_)
    · exact absurd h (nI_ge hk1 (by omega))
    · have hDD := hD.2.2.1
      have hlk := txt_ln (D := D) (f := tb a b c d e) (t := t) k
      have hFk := txt_F (D := D) (f := tb a b c d e) (t := t) k
      have hTk := hT.txt (f := tb a b c d e) k (by omega)
      have h60 : k * D.length ≤ 19 * 60 := Nat.mul_le_mul (by omega) hDD.1
      have k93 : ∀ v : Int32, v = tw a b c d e k → V z (0, 0) H locs Q 93 [(0, .ref g.1), (1, .int a), (2, .int b), (3, .int c), (4, .int d), (5, .int e), (6, .int (nI nn)), (7, .int v7), (8, .int (nI k))] [.int v] := by
        intro v hv
        refine v_istore C [1, 2, 3, 4, 5, 6, 7, 8, 9, 0] [(0, .ref g.1), (1, .int a), (2, .int b), (3, .int c), (4, .int d), (5, .int e), (6, .int (nI nn)), (7, .int v7), (8, .int (nI k)), (9, .int v)] dX1_text_93 (by decide) rfl ?_
        refine v_aload_n C dX1_text_95 rfl 0 rfl ?_
        refine v_iload C dX1_text_96 9 rfl ?_
        refine v_bipush C 24 (by decide) dX1_text_98 ?_
        refine v_bipush C 8 (by decide) dX1_text_100 ?_
        refine v_iload C dX1_text_102 8 rfl ?_
        refine v_iconst C 4 (by decide) dX1_text_104 ?_
        refine v_irem C (by decide) dX1_text_105 ?_
        refine v_imul C dX1_text_106 ?_
        refine v_isub C dX1_text_107 ?_
        refine v_ishr C dX1_text_108 ?_
        refine v_sipush C 255 (by decide) dX1_text_109 ?_
        refine v_iand C dX1_text_112 ?_
        refine v_ei (y := tb a b c d e k) (by subst hv; rfl) ?_
        refine v_callWv C (ci := 0) (vC := (RX1, TX1, 29)) (rest := []) (metX1_come (zl z) (tb a b c d e k) (hD.congr h1) hts (by omega) (by have := hT.2.2; omega) (by omega) hTk.2.1.last) (lw_V q152 q154 qs3 q17 q155) DX1_come (hR.lower (by decide)) (by decide) hH rfl rfl rfl (Nat.le_of_ble_eq_true rfl) rfl dX1_text_113 (fun u H locs hu hH => ?_)
        obtain ⟨u1, u2, u3, u4⟩ := hu
        refine v_iinc C (k := 8) (nI (k + 1)) [1, 2, 3, 4, 5, 6, 7, 8, 0, 9] [(0, .ref g.1), (1, .int a), (2, .int b), (3, .int c), (4, .int d), (5, .int e), (6, .int (nI nn)), (7, .int v7), (8, .int (nI (k + 1))), (9, .int v)] dX1_text_116 rfl (inc1 _) (by decide) rfl ?_
        refine v_goto C 40 dX1_text_119 (by decide) ?_
        refine v_sub [0, 1, 2, 3, 4, 5, 6, 7, 8] rfl ?_
        exact ih (k + 1) u H locs (by omega) (u1.trans h1) (u2.trans h2) (u3.trans h4) u4 hH kk
      refine v_iload C dX1_text_47 8 rfl ?_
      refine v_iconst C 4 (by decide) dX1_text_49 ?_
      refine v_icmp_ge C 57 dX1_text_50 (by decide) (fun g4 => ?_) (fun g4 => ?_)
      · have m4 : 4 ≤ k := (nI_leI (by decide) (by omega)).mp g4
        refine v_iload C dX1_text_57 8 rfl ?_
        refine v_bipush C 8 (by decide) dX1_text_59 ?_
        refine v_icmp_ge C 68 dX1_text_61 (by decide) (fun g8 => ?_) (fun g8 => ?_)
        · have m8 : 8 ≤ k := (nI_leI (by decide) (by omega)).mp g8
          refine v_iload C dX1_text_68 8 rfl ?_
          refine v_bipush C 12 (by decide) dX1_text_70 ?_
          refine v_icmp_ge C 79 dX1_text_72 (by decide) (fun g12 => ?_) (fun g12 => ?_)
          · have m12 : 12 ≤ k := (nI_leI (by decide) (by omega)).mp g12
            refine v_iload C dX1_text_79 8 rfl ?_
            refine v_bipush C 16 (by decide) dX1_text_81 ?_
            refine v_icmp_ge C 91 dX1_text_83 (by decide) (fun g16 => ?_) (fun g16 => ?_)
            · have m16 : 16 ≤ k := (nI_leI (by decide) (by omega)).mp g16
              refine v_iload C dX1_text_91 5 rfl ?_
              exact k93 _ (by simp [tw, show ¬ k < 4 by omega, show ¬ k < 8 by omega, show ¬ k < 12 by omega, show ¬ k < 16 by omega])
            · have m16 : k < 16 := Nat.lt_of_not_le (fun q => g16 ((nI_leI (by decide) (by omega)).mpr q))
              refine v_iload C dX1_text_86 4 rfl ?_
              refine v_goto C 93 dX1_text_88 (by decide) ?_
              exact k93 _ (by simp [tw, m16, show ¬ k < 4 by omega, show ¬ k < 8 by omega, show ¬ k < 12 by omega])
          · have m12 : k < 12 := Nat.lt_of_not_le (fun q => g12 ((nI_leI (by decide) (by omega)).mpr q))
            refine v_iload_n C dX1_text_75 rfl 3 rfl ?_
            refine v_goto C 93 dX1_text_76 (by decide) ?_
            exact k93 _ (by simp [tw, m12, show ¬ k < 4 by omega, show ¬ k < 8 by omega])
        · have m8 : k < 8 := Nat.lt_of_not_le (fun q => g8 ((nI_leI (by decide) (by omega)).mpr q))
          refine v_iload_n C dX1_text_64 rfl 2 rfl ?_
          refine v_goto C 93 dX1_text_65 (by decide) ?_
          exact k93 _ (by simp [tw, m8, show ¬ k < 4 by omega])
      · have m4 : k < 4 := Nat.lt_of_not_le (fun q => g4 ((nI_leI (by decide) (by omega)).mpr q))
        refine v_iload_n C dX1_text_53 rfl 1 rfl ?_
        refine v_goto C 93 dX1_text_54 (by decide) ?_
        exact k93 _ (by simp [tw, m4])
/-- text(..): a piece of text comes -/
theorem metX1_text (l : Launch) {E : EE} {g : GG} {x : DS} {D : List Wd} {bt : Bool} {N rm : Nat} {R : Nat → Wd} {K : Nat → List Nat} {t : TS} {pk : List Nat} (a b c d e n : Int32) (hD : kDict x D bt N rm R K) (ht : kTS x N R t) (hp : kPk x pk) (hT : TOK D t) (hl2 : t.2.2.2.1 ≤ 15000) : MWi l yX1_text cX1_text 10 (some .int) 3 E (kW E g) x [.ref g.1, .int a, .int b, .int c, .int d, .int e, .int n] (fun r u => (tcd bt n t.2.2.2.2 → r = nI (txt D (tb a b c d e) n.toNatClampNeg t).2.2.2.2.length - nI t.2.2.2.2.length ∧ kT u = kT x ∧ kD u = kD x ∧ kTS u N R (txt D (tb a b c d e) n.toNatClampNeg t) ∧ kPk u (if 0 < n then [] else pk)) ∧ (¬ tcd bt n t.2.2.2.2 → r = -1 ∧ u = x)) := by
  refine MWi.start (own := RX1) (by decide) rfl (Nat.le_of_ble_eq_true rfl) ?_
  intro z A hz C hR hH
  show V z (0, 0) _ [] _ 0 [(0, .ref g.1), (1, .int a), (2, .int b), (3, .int c), (4, .int d), (5, .int e), (6, .int n)] []
  have h4200 := ht.2.2.1
  have hno : ¬ tcd bt n t.2.2.2.2 → V z (0, 0) (zs z).heap [] (QWi z E (kW E g) A (fun r u => (tcd bt n t.2.2.2.2 → r = nI (txt D (tb a b c d e) n.toNatClampNeg t).2.2.2.2.length - nI t.2.2.2.2.length ∧ kT u = kT x ∧ kD u = kD x ∧ kTS u N R (txt D (tb a b c d e) n.toNatClampNeg t) ∧ kPk u (if 0 < n then [] else pk)) ∧ (¬ tcd bt n t.2.2.2.2 → r = -1 ∧ u = x))) 29 [(0, .ref g.1), (1, .int a), (2, .int b), (3, .int c), (4, .int d), (5, .int e), (6, .int n)] [] := by
    intro hn
    refine v_iconst C (-1) (by decide) dX1_text_29 ?_
    exact v_iretW C hH ⟨fun q => absurd q hn, fun _ => ⟨rfl, rfl⟩⟩ dX1_text_30
  refine v_aload_n C dX1_text_0 rfl 0 rfl ?_
  refine kg10 C hH.1 dX1_text_1 ?_
  refine v_ei (y := bI bt) (hD.2.2.2.2.2.1) ?_
  refine v_if_eq C 29 dX1_text_4 (by decide) (fun hb => ?_) (fun hb => ?_)
  · exact hno (fun q => by rw [q.1] at hb; exact absurd hb (by decide))
  · have hbt : bt = true := by cases bt with
      | false => exact absurd rfl hb
      | true => rfl
    subst hbt
    refine v_iload C dX1_text_7 6 rfl ?_
    refine v_if_lt C 29 dX1_text_9 (by decide) (fun hn0 => ?_) (fun hn0 => ?_)
    · exact hno (fun q => q.2.1 hn0)
    · refine v_iload C dX1_text_12 6 rfl ?_
      refine v_bipush C 20 (by decide) dX1_text_14 ?_
      refine v_icmp_gt C 29 dX1_text_16 (by decide) (fun hn20 => ?_) (fun hn20 => ?_)
      · exact hno (fun q => q.2.2.1 hn20)
      · refine v_aload_n C dX1_text_19 rfl 0 rfl ?_
        refine kg26 C hH.1 dX1_text_20 ?_
        refine v_ei (y := nI t.2.2.2.2.length) (ht.2.1) ?_
        refine v_sipush C 3000 (by decide) dX1_text_23 ?_
        refine v_icmp_le C 31 dX1_text_26 (by decide) (fun h3 => ?_) (fun h3 => ?_)
        · have h3 : t.2.2.2.2.length ≤ 3000 := (nI_leI (by omega) (by decide)).mp h3
          obtain ⟨nn, hnn, rfl⟩ := nI_of2 (x := n) (M := 20) (n := 20) (by decide) hn0 (Int32.not_lt.mp hn20)
          have hcl : (nI nn).toNatClampNeg = nn := nI_clamp (by omega)
          have htc : tcd true (nI nn) t.2.2.2.2 := ⟨rfl, hn0, hn20, h3⟩
          refine v_aload_n C dX1_text_31 rfl 0 rfl ?_
          refine kg26 C hH.1 dX1_text_32 ?_
          refine v_ei (y := nI t.2.2.2.2.length) (ht.2.1) ?_
          refine v_istore C [1, 2, 3, 4, 5, 6, 7, 0] [(0, .ref g.1), (1, .int a), (2, .int b), (3, .int c), (4, .int d), (5, .int e), (6, .int (nI nn)), (7, .int (nI t.2.2.2.2.length))] dX1_text_35 (by decide) rfl ?_
          refine v_iconst C 0 (by decide) dX1_text_37 ?_
          refine v_istore C [1, 2, 3, 4, 5, 6, 7, 8, 0] [(0, .ref g.1), (1, .int a), (2, .int b), (3, .int c), (4, .int d), (5, .int e), (6, .int (nI nn)), (7, .int (nI t.2.2.2.2.length)), (8, .int 0)] dX1_text_38 (by decide) rfl ?_
          refine text_loop (nn := nn) C hR hD hT h3 hl2 hnn nn 0 x _ _ (by omega) rfl rfl rfl ht hH ?_
          intro u H locs u1 u2 u3 u4 hH
          have k136 : ∀ v : Int32, kPk (pI u 28 v) (if 0 < nI nn then [] else pk) → V z (0, 0) H locs (QWi z E (kW E g) A (fun r u => (tcd true (nI nn) t.2.2.2.2 → r = nI (txt D (tb a b c d e) (nI nn).toNatClampNeg t).2.2.2.2.length - nI t.2.2.2.2.length ∧ kT u = kT x ∧ kD u = kD x ∧ kTS u N R (txt D (tb a b c d e) (nI nn).toNatClampNeg t) ∧ kPk u (if 0 < (nI nn) then [] else pk)) ∧ (¬ tcd true (nI nn) t.2.2.2.2 → r = -1 ∧ u = x))) 136 [(0, .ref g.1), (1, .int a), (2, .int b), (3, .int c), (4, .int d), (5, .int e), (6, .int (nI nn)), (7, .int (nI t.2.2.2.2.length)), (8, .int (nI nn))] [.int v, .ref g.1] := by
            intro v hv
            refine kp28 C hH dX1_text_136 (fun H locs hH => ?_)
            refine v_aload_n C dX1_text_139 rfl 0 rfl ?_
            refine kg26 C hH.1 dX1_text_140 ?_
            refine v_ei (show sI (pI u 28 v) 26 = sI u 26 from rfl) ?_
            refine v_ei (y := nI (txt D (tb a b c d e) nn t).2.2.2.2.length) (u4.2.1) ?_
            refine v_iload C dX1_text_143 7 rfl ?_
            refine v_isub C dX1_text_145 ?_
            refine v_iretW C hH ⟨fun _ => ?_, fun q => absurd htc q⟩ dX1_text_146
            rw [hcl]
            exact ⟨rfl, u1, u2, ⟨u4.1.congr rfl rfl, u4.2.congr rfl⟩, hv⟩
          refine v_aload_n C dX1_text_122 rfl 0 rfl ?_
          refine v_iload C dX1_text_123 6 rfl ?_
          refine v_if_le C 132 dX1_text_125 (by decide) (fun h0 => ?_) (fun h0 => ?_)
          · refine v_aload_n C dX1_text_132 rfl 0 rfl ?_
            refine kg28 C hH.1 dX1_text_133 ?_
            refine k136 _ ?_
            rw [if_neg (Int32.not_lt.mpr h0)]
            exact ⟨(kP_I28 u3).trans hp.1, hp.2.1, fun k hk => (congrFun (kP_A27 u3) k).trans (hp.2.2 k hk)⟩
          · refine v_iconst C 0 (by decide) dX1_text_128 ?_
            refine v_goto C 136 dX1_text_129 (by decide) ?_
            refine k136 _ ?_
            rw [if_pos (Int32.not_le.mp h0)]
            exact ⟨rfl, Nat.zero_le _, fun k hk => absurd hk (Nat.not_lt_zero _)⟩
        · exact hno (fun q => h3 ((nI_leI (by omega) (by decide)).mpr q.2.2.2))
end
section
/-! Reading by number, and picking, plainly -/
def rd (n : Nat) (val : Nat → Int32) (k r : Int32) : Prop := (∃ j, j < n ∧ k = nI j ∧ r = val j) ∨ ((∀ j, j < n → ¬ k = nI j) ∧ r = -1)
def rdL (n : Nat) (val : Nat → Int64) (k : Int32) (r : Int64) : Prop := (∃ j, j < n ∧ k = nI j ∧ r = val j) ∨ ((∀ j, j < n → ¬ k = nI j) ∧ r = -1)
theorem rd_u {n : Nat} {val : Nat → Int32} {k r r' : Int32} (hn : n < 2147483648) (h : rd n val k r) (h' : rd n val k r') : r = r' := by
  rcases h with ⟨j, h1, h2, h3⟩ | ⟨h1, h2⟩ <;> rcases h' with ⟨i, g1, g2, g3⟩ | ⟨g1, g2⟩
  · have : i = j := (nI_eq (by omega) (by omega)).mp (g2.symm.trans h2)
    subst this; rw [h3, g3]
  · exact absurd h2 (g1 j h1)
  · exact absurd g2 (h1 i g1)
  · rw [h2, g2]
theorem rdL_u {n : Nat} {val : Nat → Int64} {k : Int32} {r r' : Int64} (hn : n < 2147483648) (h : rdL n val k r) (h' : rdL n val k r') : r = r' := by
  rcases h with ⟨j, h1, h2, h3⟩ | ⟨h1, h2⟩ <;> rcases h' with ⟨i, g1, g2, g3⟩ | ⟨g1, g2⟩
  · have : i = j := (nI_eq (by omega) (by omega)).mp (g2.symm.trans h2)
    subst this; rw [h3, g3]
  · exact absurd h2 (g1 j h1)
  · exact absurd g2 (h1 i g1)
  · rw [h2, g2]
theorem no_neg {n : Nat} {k : Int32} (hn : n < 2147483648) (h : k < 0) : ∀ j, j < n → ¬ k = nI j := fun j hj e => nI_pos (show j < 2 ^ 31 by omega) (e ▸ h)
theorem no_big {n : Nat} {k : Int32} (hn : n < 2147483648) (h : nI n ≤ k) : ∀ j, j < n → ¬ k = nI j := fun j hj e => nI_ge hj hn (e ▸ h)
theorem is_in {n : Nat} {k : Int32} (hn : n < 2147483648) (h0 : ¬ k < 0) (h1 : ¬ nI n ≤ k) : ∃ j, j < n ∧ k = nI j := by
  rcases pk_ix k hn with h | h | h
  · exact absurd h h0
  · exact absurd h h1
  · exact h
/-- the k-th line in which something was found -/
def spL (F : FL) (k r : Int32) : Prop := (∃ i, i < F.length ∧ newAt F i = true ∧ k = nI (lc F i) ∧ r = nI (F.getD i (0, 0, 0)).2.2) ∨ ((∀ j, j < lc F F.length → ¬ k = nI j) ∧ r = -1)
theorem lc_new {F : FL} {i j : Nat} (hi : newAt F i = true) (h : i < j) : lc F i < lc F j := by
  have h1 : lc F (i + 1) = lc F i + 1 := by rw [lc, if_pos hi]
  have h2 := lc_mono F (i + 1) j h
  omega
theorem lc_inj {F : FL} {i j : Nat} (hi : newAt F i = true) (hj : newAt F j = true) (h : lc F i = lc F j) : i = j := by
  rcases Nat.lt_trichotomy i j with q | q | q
  · have := lc_new hi q; omega
  · exact q
  · have := lc_new hj q; omega
theorem lc_hit {F : FL} : ∀ (n j : Nat), j < lc F n → ∃ i, i < n ∧ newAt F i = true ∧ lc F i = j
  | 0, j, h => by simp [lc] at h
  | n + 1, j, h => by
    rw [lc] at h
    split at h
    · rename_i hn
      by_cases e : j = lc F n
      · exact ⟨n, by omega, hn, e.symm⟩
      · obtain ⟨i, h1, h2, h3⟩ := lc_hit (F := F) n j (by omega)
        exact ⟨i, by omega, h2, h3⟩
    · obtain ⟨i, h1, h2, h3⟩ := lc_hit n j h
      exact ⟨i, by omega, h2, h3⟩
theorem spL_u {F : FL} {k r r' : Int32} (hF : F.length ≤ 4200) (h : spL F k r) (h' : spL F k r') : r = r' := by
  have hlc := lc_le F F.length
  rcases h with ⟨j, h1, h2, h3, h4⟩ | ⟨h1, h2⟩ <;> rcases h' with ⟨i, g1, g2, g3, g4⟩ | ⟨g1, g2⟩
  · have a1 := lc_le F i
    have a2 := lc_le F j
    have : lc F i = lc F j := (nI_eq (by omega) (by omega)).mp (g3.symm.trans h3)
    have := lc_inj g2 h2 this
    subst this; rw [h4, g4]
  · exact absurd h3 (g1 _ (lc_new h2 h1))
  · exact absurd g3 (h1 _ (lc_new g2 g1))
  · rw [h2, g2]
/-- numbers of what was found: word, end, length, beginning -/
def wd (F : FL) (k : Nat) : Nat := (F.getD k (0, 0, 0)).1
def en (F : FL) (k : Nat) : Nat := (F.getD k (0, 0, 0)).2.1
def ln_ (D : List Wd) (F : FL) (k : Nat) : Nat := (D.getD (wd F k) []).length
def bg (D : List Wd) (F : FL) (k : Nat) : Int := (en F k : Int) - (ln_ D F k : Int) + 1
def bef (D : List Wd) (F : FL) (k o : Nat) : Bool := decide (bg D F k < bg D F o) || (decide (bg D F k = bg D F o) && (decide (ln_ D F o < ln_ D F k) || (decide (ln_ D F k = ln_ D F o) && decide (wd F k < wd F o))))
theorem bef_iff {D : List Wd} {F : FL} {k o : Nat} : bef D F k o = true ↔ bg D F k < bg D F o ∨ (bg D F k = bg D F o ∧ (ln_ D F o < ln_ D F k ∨ (ln_ D F k = ln_ D F o ∧ wd F k < wd F o))) := by simp [bef]
def bt_ (D : List Wd) (F : FL) (k : Nat) : Option Nat → Bool
  | none => true
  | some o => bef D F k o
/-- the best of the first n that begins at fr or behind it -/
def sc (D : List Wd) (F : FL) (fr : Int) : Nat → Option Nat
  | 0 => none
  | k + 1 => if fr ≤ bg D F k ∧ bt_ D F k (sc D F fr k) = true then some k else sc D F fr k
def enc : Option Nat → Int32
  | none => -1
  | some k => nI k
theorem sc_none {D : List Wd} {F : FL} {fr : Int} : ∀ n, (∀ j, j < n → bg D F j < fr) → sc D F fr n = none
  | 0, _ => rfl
  | n + 1, h => by
    have := h n (Nat.lt_succ_self _)
    rw [sc, if_neg (fun q => by have := q.1; omega)]
    exact sc_none n (fun j hj => h j (by omega))
theorem sc_some {D : List Wd} {F : FL} {fr : Int} {k : Nat} : ∀ n, sc D F fr n = some k → k < n ∧ fr ≤ bg D F k
  | 0, h => by cases h
  | n + 1, h => by
    rw [sc] at h
    split at h
    · rename_i q
      cases h
      exact ⟨Nat.lt_succ_self _, q.1⟩
    · obtain ⟨h1, h2⟩ := sc_some n h
      exact ⟨by omega, h2⟩
theorem ln_ok {D : List Wd} {F : FL} {pl : Nat} (hD : DOK D) (hF : FOK D F pl) {k : Nat} (hk : k < F.length) : 1 ≤ ln_ D F k ∧ ln_ D F k ≤ 40 := hD.at (hF.1 k hk).1
/-- what ends far behind the best one's beginning changes nothing -/
theorem sc_stop {D : List Wd} {F : FL} {pl : Nat} {fr : Int} {k o : Nat} (hD : DOK D) (hF : FOK D F pl) (hs : sc D F fr k = some o) (he : bg D F o + 40 ≤ (en F k : Int)) : ∀ n, k ≤ n → n ≤ F.length → sc D F fr n = some o := by
  intro n
  induction n with
  | zero => intro h1 h2; rw [Nat.le_zero.mp h1] at hs; exact hs
  | succ n ih =>
    intro h1 h2
    by_cases e : k = n + 1
    · rw [← e]; exact hs
    · have ih := ih (by omega) (by omega)
      rw [sc, ih, if_neg]
      rintro ⟨-, h3⟩
      have h4 : en F k ≤ en F n := hF.2 k n (by omega) (by omega)
      have h5 := (ln_ok hD hF (k := n) (by omega)).2
      have h6 : bg D F n = (en F n : Int) - (ln_ D F n : Int) + 1 := rfl
      rcases bef_iff.mp h3 with h | ⟨h, -⟩ <;> omega
/-- one after the other -/
def pkL (D : List Wd) (F : FL) : Nat → Int → List Nat
  | 0, _ => []
  | f + 1, fr => match sc D F fr F.length with
    | none => []
    | some k => k :: pkL D F f ((en F k : Int) + 1)
def pks (D : List Wd) (F : FL) : List Nat := pkL D F (F.length + 1) 0
theorem pkL_none {D : List Wd} {F : FL} {f : Nat} {fr : Int} (h : sc D F fr F.length = none) : pkL D F f fr = [] := by
  cases f with
  | zero => rfl
  | succ f => rw [pkL, h]
theorem pkL_some {D : List Wd} {F : FL} {f k : Nat} {fr : Int} (h : sc D F fr F.length = some k) : pkL D F (f + 1) fr = k :: pkL D F f ((en F k : Int) + 1) := by rw [pkL, h]
theorem bg_le {D : List Wd} {F : FL} {pl : Nat} (hD : DOK D) (hF : FOK D F pl) {j k : Nat} (hjk : j ≤ k) (hk : k < F.length) : bg D F j < (en F k : Int) + 1 := by
  have h1 := (ln_ok hD hF (k := j) (by omega)).1
  have h2 : en F j ≤ en F k := hF.2 j k hjk hk
  unfold bg
  omega
/-- longs -/
theorem lsub_int {a b : Int64} (h1 : -4611686018427400000 ≤ a.toInt - b.toInt) (h2 : a.toInt - b.toInt < 4611686018427500000) : (a - b).toInt = a.toInt - b.toInt := by
  rw [Int64.toInt_sub, Int.bmod_eq_of_le] <;> omega
theorem ladd_int {a b : Int64} (h1 : -4611686018427400000 ≤ a.toInt + b.toInt) (h2 : a.toInt + b.toInt < 4611686018427500000) : (a + b).toInt = a.toInt + b.toInt := by
  rw [Int64.toInt_add, Int.bmod_eq_of_le] <;> omega
theorem lt_int {a b : Int64} : a < b ↔ a.toInt < b.toInt := Int64.lt_iff_toInt_lt
theorem le_int {a b : Int64} : a ≤ b ↔ a.toInt ≤ b.toInt := Int64.le_iff_toInt_le
theorem eq_int {a b : Int64} : a = b ↔ a.toInt = b.toInt := Int64.toInt_inj.symm
theorem one_int : (1 : Int64).toInt = 1 := by decide
theorem f40_int : (40 : Int64).toInt = 40 := by decide
theorem begin_int {e n : Nat} (he : e < 4611686018427408000) (hn : n ≤ 40) : (lN e - lN n + 1).toInt = (e : Int) - n + 1 := by
  have h1 : (lN e).toInt = (e : Int) := pk_lT (by omega)
  have h2 : (lN n).toInt = (n : Int) := pk_lT (by omega)
  have h3 : (lN e - lN n).toInt = (e : Int) - n := by rw [lsub_int (by omega) (by omega), h1, h2]
  rw [ladd_int (by rw [h3, one_int]; omega) (by rw [h3, one_int]; omega), h3, one_int]
def scd (bt : Bool) (n : Int64) (pl : Nat) : Prop := bt = true ∧ ¬ n < 0 ∧ n ≤ 4611686018427387904 - lN pl
theorem scd_of {bt : Bool} {n : Int64} {pl : Nat} (hp : pl < 4611686018427408000) (h : scd bt n pl) : ∃ m, n = lN m ∧ pl + m ≤ 4611686018427387904 := by
  obtain ⟨-, h1, h2⟩ := h
  obtain ⟨m, hm, rfl⟩ := pk_lOf h1
  refine ⟨m, rfl, ?_⟩
  have h3 : (lN pl).toInt = (pl : Int) := pk_lT (by omega)
  have h4 : (lN m).toInt = (m : Int) := pk_lT hm
  have h5 : (4611686018427387904 : Int64).toInt = 4611686018427387904 := by decide
  have h6 : (4611686018427387904 - lN pl).toInt = 4611686018427387904 - (pl : Int) := by rw [lsub_int (by omega) (by omega), h5, h3]
  have h7 := le_int.mp h2
  omega
def pcd (bt : Bool) (dr : Wd) (b : Int32) : Prop := bt = false ∧ ¬ dr.length = 40 ∧ ¬ b < 0 ∧ ¬ 255 < b ∧ ¬ b = 10
end
section
/-- put(b): a byte more of the draft -/
theorem metX1_put (l : Launch) {E : EE} {g : GG} {x : DS} {bt : Bool} {dr : Wd} (b : Int32) (hb : sI x 10 = bI bt) (hd : kDr x dr) : MWi l yX1_put cX1_put 2 (some .int) 0 E (kW E g) x [.ref g.1, .int b] (fun r u => (pcd bt dr b → r = nI (dr.length + 1) ∧ u = pA (pI x 16 (nI (dr.length + 1))) 15 dr.length b) ∧ (¬ pcd bt dr b → r = -1 ∧ u = x)) := by
  refine MWi.start (own := RX1) (by decide) rfl (Nat.le_of_ble_eq_true rfl) ?_
  intro z A hz C hR hH
  show V z (0, 0) _ [] _ 0 [(0, .ref g.1), (1, .int b)] []
  have h40 := hd.2.1
  have hno : ¬ pcd bt dr b → V z (0, 0) (zs z).heap [] (QWi z E (kW E g) A (fun r u => (pcd bt dr b → r = nI (dr.length + 1) ∧ u = pA (pI x 16 (nI (dr.length + 1))) 15 dr.length b) ∧ (¬ pcd bt dr b → r = -1 ∧ u = x))) 33 [(0, .ref g.1), (1, .int b)] [] := by
    intro hn
    refine v_iconst C (-1) (by decide) dX1_put_33 ?_
    exact v_iretW C hH ⟨fun q => absurd q hn, fun _ => ⟨rfl, rfl⟩⟩ dX1_put_34
  refine v_aload_n C dX1_put_0 rfl 0 rfl ?_
  refine kg10 C hH.1 dX1_put_1 ?_
  refine v_ei (y := bI bt) (hb) ?_
  refine v_if_ne C 33 dX1_put_4 (by decide) (fun h0 => ?_) (fun h0 => ?_)
  · exact hno (fun q => h0 (by rw [q.1]; rfl))
  · have hbt : bt = false := by cases bt with
      | false => rfl
      | true => exact absurd h0 (by decide)
    refine v_aload_n C dX1_put_7 rfl 0 rfl ?_
    refine kg16 C hH.1 dX1_put_8 ?_
    refine v_ei (y := nI dr.length) (hd.1) ?_
    refine v_bipush C 40 (by decide) dX1_put_11 ?_
    refine v_icmp_eq C 33 dX1_put_13 (by decide) (fun h1 => ?_) (fun h1 => ?_)
    · exact hno (fun q => q.2.1 ((nI_eq (by omega) (by decide)).mp h1))
    · refine v_iload_n C dX1_put_16 rfl 1 rfl ?_
      refine v_if_lt C 33 dX1_put_17 (by decide) (fun h2 => ?_) (fun h2 => ?_)
      · exact hno (fun q => q.2.2.1 h2)
      · refine v_iload_n C dX1_put_20 rfl 1 rfl ?_
        refine v_sipush C 255 (by decide) dX1_put_21 ?_
        refine v_icmp_gt C 33 dX1_put_24 (by decide) (fun h3 => ?_) (fun h3 => ?_)
        · exact hno (fun q => q.2.2.2.1 h3)
        · refine v_iload_n C dX1_put_27 rfl 1 rfl ?_
          refine v_bipush C 10 (by decide) dX1_put_28 ?_
          refine v_icmp_ne C 35 dX1_put_30 (by decide) (fun h4 => ?_) (fun h4 => ?_)
          · have h41 : ¬ dr.length = 40 := fun q => h1 (by rw [q]; rfl)
            refine v_aload_n C dX1_put_35 rfl 0 rfl ?_
            refine kg15 C hH.1 dX1_put_36 ?_
            refine v_aload_n C dX1_put_39 rfl 0 rfl ?_
            refine v_dup C rfl dX1_put_40 ?_
            refine kg16 C hH.1 dX1_put_41 ?_
            refine v_ei (y := nI dr.length) (hd.1) ?_
            refine v_dup_x1 C rfl rfl dX1_put_44 ?_
            refine v_iconst C 1 (by decide) dX1_put_45 ?_
            refine v_iadd C dX1_put_46 ?_
            refine v_ei (y := nI (dr.length + 1)) (nI_1 _) ?_
            refine kp16 C hH dX1_put_47 (fun H locs hH => ?_)
            refine v_iload_n C dX1_put_50 rfl 1 rfl ?_
            refine ks15 C (dr.length) hH (rfl) (by first | assumption | omega) dX1_put_51 (fun H locs hH => ?_)
            refine v_aload_n C dX1_put_52 rfl 0 rfl ?_
            refine kg16 C hH.1 dX1_put_53 ?_
            refine v_ei (show sI (pA (pI x 16 (nI (dr.length + 1))) 15 dr.length b) 16 = nI (dr.length + 1) from rfl) ?_
            exact v_iretW C hH ⟨fun _ => ⟨rfl, rfl⟩, fun q => absurd ⟨hbt, h41, h2, h3, h4⟩ q⟩ dX1_put_56
          · exact hno (fun q => q.2.2.2.2 h4)
/-- skip(n) -/
theorem metX1_skip (l : Launch) {E : EE} {g : GG} {x : DS} {bt : Bool} {pl : Nat} (n : Int64) (hb : sI x 10 = bI bt) (hp : sL x 18 = lN pl) : MWi l yX1_skip cX1_skip 3 (some .boolean) 0 E (kW E g) x [.ref g.1, .long n] (fun r u => (scd bt n pl → r = 1 ∧ u = pI (pL x 18 (lN pl + n)) 17 0) ∧ (¬ scd bt n pl → r = 0 ∧ u = x)) := by
  refine MWi.start (own := RX1) (by decide) rfl (Nat.le_of_ble_eq_true rfl) ?_
  intro z A hz C hR hH
  show V z (0, 0) _ [] _ 0 [(0, .ref g.1), (1, .long n)] []
  have hno : ¬ scd bt n pl → V z (0, 0) (zs z).heap [] (QWi z E (kW E g) A (fun r u => (scd bt n pl → r = 1 ∧ u = pI (pL x 18 (lN pl + n)) 17 0) ∧ (¬ scd bt n pl → r = 0 ∧ u = x))) 26 [(0, .ref g.1), (1, .long n)] [] := by
    intro hn
    refine v_iconst C 0 (by decide) dX1_skip_26 ?_
    exact v_zretW C hH ⟨fun q => absurd q hn, fun _ => ⟨rfl, rfl⟩⟩ (Or.inl rfl) dX1_skip_27
  refine v_aload_n C dX1_skip_0 rfl 0 rfl ?_
  refine kg10 C hH.1 dX1_skip_1 ?_
  refine v_ei (y := bI bt) (hb) ?_
  refine v_if_eq C 26 dX1_skip_4 (by decide) (fun h0 => ?_) (fun h0 => ?_)
  · exact hno (fun q => by rw [q.1] at h0; exact absurd h0 (by decide))
  · have hbt : bt = true := by cases bt with
      | false => exact absurd rfl h0
      | true => rfl
    refine v_lload_n C dX1_skip_7 rfl 1 rfl ?_
    refine v_lconst C 0 (by decide) dX1_skip_8 ?_
    refine v_lcmp C dX1_skip_9 ?_
    refine v_ifl_lt C 26 dX1_skip_10 (by decide) (fun h1 => ?_) (fun h1 => ?_)
    · exact hno (fun q => q.2.1 h1)
    · refine v_lload_n C dX1_skip_13 rfl 1 rfl ?_
      refine v_ldc2 C q168 dX1_skip_14 ?_
      refine v_aload_n C dX1_skip_17 rfl 0 rfl ?_
      refine kg18 C hH.1 dX1_skip_18 ?_
      refine v_el (y := lN pl) (hp) ?_
      refine v_lsub C dX1_skip_21 ?_
      refine v_lcmp C dX1_skip_22 ?_
      refine v_ifl_le C 28 dX1_skip_23 (by decide) (fun h2 => ?_) (fun h2 => ?_)
      · refine v_aload_n C dX1_skip_28 rfl 0 rfl ?_
        refine v_dup C rfl dX1_skip_29 ?_
        refine kg18 C hH.1 dX1_skip_30 ?_
        refine v_el (y := lN pl) (hp) ?_
        refine v_lload_n C dX1_skip_33 rfl 1 rfl ?_
        refine v_ladd C dX1_skip_34 ?_
        refine kp18 C hH dX1_skip_35 (fun H locs hH => ?_)
        refine v_aload_n C dX1_skip_38 rfl 0 rfl ?_
        refine v_iconst C 0 (by decide) dX1_skip_39 ?_
        refine kp17 C hH dX1_skip_40 (fun H locs hH => ?_)
        refine v_iconst C 1 (by decide) dX1_skip_43 ?_
        exact v_zretW C hH ⟨fun _ => ⟨rfl, rfl⟩, fun q => absurd ⟨hbt, h1, h2⟩ q⟩ (Or.inr rfl) dX1_skip_44
      · exact hno (fun q => h2 q.2.2)
theorem metX1_isFound (l : Launch) {E : EE} {g : GG} {x : DS} {n : Nat} (k : Int32) (hn : n ≤ 4200) (hf : sI x 26 = nI n) : MRi l yX1_isFound cX1_isFound 2 (some .boolean) 0 E (kW E g x) [.ref g.1, .int k] (fun r => (r = 1 ∧ ∃ j, j < n ∧ k = nI j) ∨ (r = 0 ∧ ∀ j, j < n → ¬ k = nI j)) := by
  refine MRi.start (own := RX1) (by decide) rfl (Nat.le_of_ble_eq_true rfl) ?_
  intro z hz C hR hP
  show V z (0, 0) _ [] _ 0 [(0, .ref g.1), (1, .int k)] []
  refine v_iload_n C dX1_isFound_0 rfl 1 rfl ?_
  refine v_if_lt C 16 dX1_isFound_1 (by decide) (fun h0 => ?_) (fun h0 => ?_)
  · refine v_iconst C 0 (by decide) dX1_isFound_16 ?_
    exact v_zretR C rfl (Or.inr ⟨rfl, no_neg (by omega) h0⟩) (Or.inl rfl) dX1_isFound_17
  · refine v_iload_n C dX1_isFound_4 rfl 1 rfl ?_
    refine v_aload_n C dX1_isFound_5 rfl 0 rfl ?_
    refine kg26 C hP dX1_isFound_6 ?_
    refine v_ei (y := nI n) (hf) ?_
    refine v_icmp_ge C 16 dX1_isFound_9 (by decide) (fun h1 => ?_) (fun h1 => ?_)
    · refine v_iconst C 0 (by decide) dX1_isFound_16 ?_
      exact v_zretR C rfl (Or.inr ⟨rfl, no_big (by omega) h1⟩) (Or.inl rfl) dX1_isFound_17
    · refine v_iconst C 1 (by decide) dX1_isFound_12 ?_
      refine v_goto C 17 dX1_isFound_13 (by decide) ?_
      exact v_zretR C rfl (Or.inl ⟨rfl, is_in (by omega) h0 h1⟩) (Or.inr rfl) dX1_isFound_17
theorem metX1_word (l : Launch) {E : EE} {g : GG} {x : DS} {F : FL} (k : Int32) (hF : kFd x F) : MRi l yX1_word cX1_word 2 (some .int) 1 E (kW E g x) [.ref g.1, .int k] (fun r => rd F.length (fun j => nI (wd F j)) k r) := by
  refine MRi.start (own := RX1) (by decide) rfl (Nat.le_of_ble_eq_true rfl) ?_
  intro z hz C hR hP
  show V z (0, 0) _ [] _ 0 [(0, .ref g.1), (1, .int k)] []
  have h42 := hF.2.1
  refine v_aload_n C dX1_word_0 rfl 0 rfl ?_
  refine v_iload_n C dX1_word_1 rfl 1 rfl ?_
  refine v_callRi C (ci := 0) (vC := (RX1, TX1, 29)) (rest := []) (metX1_isFound (zl z) k hF.2.1 hF.1) (lw_V q181 q183 qs6 q17 q184) DX1_isFound (hR.lower (by decide)) (by decide) hP rfl rfl rfl (Nat.le_of_ble_eq_true rfl) rfl dX1_word_2 (fun r hr => ?_)
  refine v_if_eq C 17 dX1_word_5 (by decide) (fun h0 => ?_) (fun h0 => ?_)
  · refine v_iconst C (-1) (by decide) dX1_word_17 ?_
    rcases hr with ⟨hr, -⟩ | ⟨-, hr⟩
    · rw [hr] at h0; exact absurd h0 (by decide)
    · exact v_iretR C rfl (Or.inr ⟨hr, rfl⟩) dX1_word_18
  · rcases hr with ⟨-, j, hj, rfl⟩ | ⟨hr, -⟩
    · refine v_aload_n C dX1_word_8 rfl 0 rfl ?_
      refine kg24 C hP dX1_word_9 ?_
      refine v_iload_n C dX1_word_12 rfl 1 rfl ?_
      refine ka24 C (j) hP (rfl) (by first | assumption | omega) dX1_word_13 ?_
      refine v_ei (y := nI (wd F j)) ((hF.2.2.1 j hj).1) ?_
      refine v_goto C 18 dX1_word_14 (by decide) ?_
      exact v_iretR C rfl (Or.inl ⟨j, hj, rfl, rfl⟩) dX1_word_18
    · exact absurd hr h0
theorem metX1_end (l : Launch) {E : EE} {g : GG} {x : DS} {F : FL} (k : Int32) (hF : kFd x F) : MRl l yX1_end cX1_end 2 (some .long) 1 E (kW E g x) [.ref g.1, .int k] (fun r => rdL F.length (fun j => lN (en F j)) k r) := by
  refine MRl.start (own := RX1) (by decide) rfl (Nat.le_of_ble_eq_true rfl) ?_
  intro z hz C hR hP
  show V z (0, 0) _ [] _ 0 [(0, .ref g.1), (1, .int k)] []
  have h42 := hF.2.1
  refine v_aload_n C dX1_end_0 rfl 0 rfl ?_
  refine v_iload_n C dX1_end_1 rfl 1 rfl ?_
  refine v_callRi C (ci := 0) (vC := (RX1, TX1, 29)) (rest := []) (metX1_isFound (zl z) k hF.2.1 hF.1) (lw_V q181 q183 qs6 q17 q184) DX1_isFound (hR.lower (by decide)) (by decide) hP rfl rfl rfl (Nat.le_of_ble_eq_true rfl) rfl dX1_end_2 (fun r hr => ?_)
  refine v_if_eq C 17 dX1_end_5 (by decide) (fun h0 => ?_) (fun h0 => ?_)
  · refine v_ldc2 C q189 dX1_end_17 ?_
    rcases hr with ⟨hr, -⟩ | ⟨-, hr⟩
    · rw [hr] at h0; exact absurd h0 (by decide)
    · exact v_lretR C rfl (Or.inr ⟨hr, rfl⟩) dX1_end_20
  · rcases hr with ⟨-, j, hj, rfl⟩ | ⟨hr, -⟩
    · refine v_aload_n C dX1_end_8 rfl 0 rfl ?_
      refine kg25 C hP dX1_end_9 ?_
      refine v_iload_n C dX1_end_12 rfl 1 rfl ?_
      refine ka25 C (j) hP (rfl) (by first | assumption | omega) dX1_end_13 ?_
      refine v_el (y := lN (en F j)) ((hF.2.2.1 j hj).2) ?_
      refine v_goto C 20 dX1_end_14 (by decide) ?_
      exact v_lretR C rfl (Or.inl ⟨j, hj, rfl, rfl⟩) dX1_end_20
    · exact absurd hr h0
theorem metX1_count (l : Launch) {E : EE} {g : GG} {x : DS} {D : List Wd} {F : FL} (k : Int32) (hD : D.length ≤ 60) (hw : sI x 14 = nI D.length) (hF : kFd x F) : MRi l yX1_count cX1_count 2 (some .int) 0 E (kW E g x) [.ref g.1, .int k] (fun r => rd D.length (fun j => nI (cnt F j)) k r) := by
  refine MRi.start (own := RX1) (by decide) rfl (Nat.le_of_ble_eq_true rfl) ?_
  intro z hz C hR hP
  show V z (0, 0) _ [] _ 0 [(0, .ref g.1), (1, .int k)] []
  have hlim : D.length < 2147483648 := by omega
  refine v_iload_n C dX1_count_0 rfl 1 rfl ?_
  refine v_if_lt C 12 dX1_count_1 (by decide) (fun h0 => ?_) (fun h0 => ?_)
  · refine v_iconst C (-1) (by decide) dX1_count_12 ?_
    refine v_goto C 22 dX1_count_13 (by decide) ?_
    exact v_iretR C rfl (Or.inr ⟨no_neg hlim h0, rfl⟩) dX1_count_22
  · refine v_iload_n C dX1_count_4 rfl 1 rfl ?_
    refine v_aload_n C dX1_count_5 rfl 0 rfl ?_
    refine kg14 C hP dX1_count_6 ?_
    refine v_ei (y := nI (D.length)) (hw) ?_
    refine v_icmp_lt C 16 dX1_count_9 (by decide) (fun h1 => ?_) (fun h1 => ?_)
    · obtain ⟨j, hj, rfl⟩ := is_in hlim h0 (Int32.not_le.mpr h1)
      have hj2 : j < 60 := by omega
      refine v_aload_n C dX1_count_16 rfl 0 rfl ?_
      refine kg13 C hP dX1_count_17 ?_
      refine v_iload_n C dX1_count_20 rfl 1 rfl ?_
      refine ka13 C (j) hP (rfl) (by first | assumption | omega) dX1_count_21 ?_
      refine v_ei (y := nI (cnt F j)) (hF.2.2.2.1 j (by omega)) ?_
      exact v_iretR C rfl (Or.inl ⟨j, hj, rfl, rfl⟩) dX1_count_22
    · refine v_iconst C (-1) (by decide) dX1_count_12 ?_
      refine v_goto C 22 dX1_count_13 (by decide) ?_
      exact v_iretR C rfl (Or.inr ⟨no_big hlim (Int32.not_lt.mp h1), rfl⟩) dX1_count_22
theorem metX1_line (l : Launch) {E : EE} {g : GG} {x : DS} {F : FL} (k : Int32) (hF : kFd x F) : MRi l yX1_line cX1_line 2 (some .int) 0 E (kW E g x) [.ref g.1, .int k] (fun r => spL F k r) := by
  refine MRi.start (own := RX1) (by decide) rfl (Nat.le_of_ble_eq_true rfl) ?_
  intro z hz C hR hP
  show V z (0, 0) _ [] _ 0 [(0, .ref g.1), (1, .int k)] []
  have hlim : lc F F.length < 2147483648 := by have := lc_le F F.length; have := hF.2.1; omega
  refine v_iload_n C dX1_line_0 rfl 1 rfl ?_
  refine v_if_lt C 12 dX1_line_1 (by decide) (fun h0 => ?_) (fun h0 => ?_)
  · refine v_iconst C (-1) (by decide) dX1_line_12 ?_
    refine v_goto C 22 dX1_line_13 (by decide) ?_
    exact v_iretR C rfl (Or.inr ⟨no_neg hlim h0, rfl⟩) dX1_line_22
  · refine v_iload_n C dX1_line_4 rfl 1 rfl ?_
    refine v_aload_n C dX1_line_5 rfl 0 rfl ?_
    refine kg23 C hP dX1_line_6 ?_
    refine v_ei (y := nI (lc F F.length)) (hF.2.2.2.2.1) ?_
    refine v_icmp_lt C 16 dX1_line_9 (by decide) (fun h1 => ?_) (fun h1 => ?_)
    · obtain ⟨j, hj, rfl⟩ := is_in hlim h0 (Int32.not_le.mpr h1)
      obtain ⟨i, i1, i2, i3⟩ := lc_hit _ _ hj; have hj2 : j < 4201 := by have := lc_le F F.length; have := hF.2.1; omega
      refine v_aload_n C dX1_line_16 rfl 0 rfl ?_
      refine kg22 C hP dX1_line_17 ?_
      refine v_iload_n C dX1_line_20 rfl 1 rfl ?_
      refine ka22 C (j) hP (rfl) (by first | assumption | omega) dX1_line_21 ?_
      refine v_ei (y := nI (F.getD i (0, 0, 0)).2.2) (by rw [← i3]; exact hF.2.2.2.2.2.1 i i1 i2) ?_
      exact v_iretR C rfl (Or.inl ⟨i, i1, i2, by rw [i3], rfl⟩) dX1_line_22
    · refine v_iconst C (-1) (by decide) dX1_line_12 ?_
      refine v_goto C 22 dX1_line_13 (by decide) ?_
      exact v_iretR C rfl (Or.inr ⟨no_big hlim (Int32.not_lt.mp h1), rfl⟩) dX1_line_22
theorem metX1_picked (l : Launch) {E : EE} {g : GG} {x : DS} {pk : List Nat} (k : Int32) (hp : kPk x pk) : MRi l yX1_picked cX1_picked 2 (some .int) 0 E (kW E g x) [.ref g.1, .int k] (fun r => rd pk.length (fun j => nI (pk.getD j 0)) k r) := by
  refine MRi.start (own := RX1) (by decide) rfl (Nat.le_of_ble_eq_true rfl) ?_
  intro z hz C hR hP
  show V z (0, 0) _ [] _ 0 [(0, .ref g.1), (1, .int k)] []
  have hlim : pk.length < 2147483648 := by have := hp.2.1; omega
  refine v_iload_n C dX1_picked_0 rfl 1 rfl ?_
  refine v_if_lt C 12 dX1_picked_1 (by decide) (fun h0 => ?_) (fun h0 => ?_)
  · refine v_iconst C (-1) (by decide) dX1_picked_12 ?_
    refine v_goto C 22 dX1_picked_13 (by decide) ?_
    exact v_iretR C rfl (Or.inr ⟨no_neg hlim h0, rfl⟩) dX1_picked_22
  · refine v_iload_n C dX1_picked_4 rfl 1 rfl ?_
    refine v_aload_n C dX1_picked_5 rfl 0 rfl ?_
    refine kg28 C hP dX1_picked_6 ?_
    refine v_ei (y := nI (pk.length)) (hp.1) ?_
    refine v_icmp_lt C 16 dX1_picked_9 (by decide) (fun h1 => ?_) (fun h1 => ?_)
    · obtain ⟨j, hj, rfl⟩ := is_in hlim h0 (Int32.not_le.mpr h1)
      have hj2 : j < 4201 := by have := hp.2.1; omega
      refine v_aload_n C dX1_picked_16 rfl 0 rfl ?_
      refine kg27 C hP dX1_picked_17 ?_
      refine v_iload_n C dX1_picked_20 rfl 1 rfl ?_
      refine ka27 C (j) hP (rfl) (by first | assumption | omega) dX1_picked_21 ?_
      refine v_ei (y := nI (pk.getD j 0)) (hp.2.2 j hj) ?_
      exact v_iretR C rfl (Or.inl ⟨j, hj, rfl, rfl⟩) dX1_picked_22
    · refine v_iconst C (-1) (by decide) dX1_picked_12 ?_
      refine v_goto C 22 dX1_picked_13 (by decide) ?_
      exact v_iretR C rfl (Or.inr ⟨no_big hlim (Int32.not_lt.mp h1), rfl⟩) dX1_picked_22
theorem metX1_state (l : Launch) {E : EE} {g : GG} {x : DS} {N : Nat} {R : Nat → Wd} {K : Nat → List Nat} {S : Wd → Prop} {cur : Wd} {sp : Int64} {pl ln : Nat} (T : Trie x N R K S) (ht : kTx x N R cur sp pl ln) : MRi l yX1_state cX1_state 1 (some .int) 0 E (kW E g x) [.ref g.1] (fun r => r = nI cur.length) := by
  obtain ⟨⟨n, hn, hcur, hnow⟩, -⟩ := ht
  have hN := T.1.2
  refine MRi.start (own := RX1) (by decide) rfl (Nat.le_of_ble_eq_true rfl) ?_
  intro z hz C hR hP
  show V z (0, 0) _ [] _ 0 [(0, .ref g.1)] []
  refine v_aload_n C dX1_state_0 rfl 0 rfl ?_
  refine kg4 C hP dX1_state_1 ?_
  refine v_aload_n C dX1_state_4 rfl 0 rfl ?_
  refine kg17 C hP dX1_state_5 ?_
  refine v_ei (y := nI n) (hnow) ?_
  refine ka4 C (n) hP (rfl) (by first | assumption | omega) dX1_state_8 ?_
  refine v_ei (y := nI cur.length) (by rw [T.2.2.2.2.2.2.2.1 n hn, hcur]) ?_
  exact v_iretR C rfl rfl dX1_state_9
/-- what picking rests on -/
def kK (x : DS) (D : List Wd) (F : FL) (pl : Nat) : Prop := kFd x F ∧ (∀ w, w < D.length → sA x 12 w = nI (D.getD w []).length) ∧ DOK D ∧ FOK D F pl ∧ pl < 4611686018427408000
theorem metX1_begin (l : Launch) {E : EE} {g : GG} {x : DS} {D : List Wd} {F : FL} {pl k : Nat} (h : kK x D F pl) (hk : k < F.length) : MRl l yX1_begin cX1_begin 2 (some .long) 0 E (kW E g x) [.ref g.1, .int (nI k)] (fun r => r.toInt = bg D F k) := by
  obtain ⟨hF, hl, hD, hO, hp⟩ := h
  have hw : wd F k < D.length := (hO.1 k hk).1
  have h60 := hD.1
  have h42 := hF.2.1
  have hlen := ln_ok hD hO hk
  have hpl : en F k < pl := (hO.1 k hk).2.1
  refine MRl.start (own := RX1) (by decide) rfl (Nat.le_of_ble_eq_true rfl) ?_
  intro z hz C hR hP
  show V z (0, 0) _ [] _ 0 [(0, .ref g.1), (1, .int (nI k))] []
  refine v_aload_n C dX1_begin_0 rfl 0 rfl ?_
  refine kg25 C hP dX1_begin_1 ?_
  refine v_iload_n C dX1_begin_4 rfl 1 rfl ?_
  refine ka25 C (k) hP (rfl) (by first | assumption | omega) dX1_begin_5 ?_
  refine v_el (y := lN (en F k)) ((hF.2.2.1 k hk).2) ?_
  refine v_aload_n C dX1_begin_6 rfl 0 rfl ?_
  refine kg12 C hP dX1_begin_7 ?_
  refine v_aload_n C dX1_begin_10 rfl 0 rfl ?_
  refine kg24 C hP dX1_begin_11 ?_
  refine v_iload_n C dX1_begin_14 rfl 1 rfl ?_
  refine ka24 C (k) hP (rfl) (by first | assumption | omega) dX1_begin_15 ?_
  refine v_ei (y := nI (wd F k)) ((hF.2.2.1 k hk).1) ?_
  refine ka12 C (wd F k) hP (rfl) (by first | assumption | omega) dX1_begin_16 ?_
  refine v_ei (y := nI (ln_ D F k)) (hl _ hw) ?_
  refine v_i2l C dX1_begin_17 ?_
  refine v_el (y := lN (ln_ D F k)) (nI_l (by omega)) ?_
  refine v_lsub C dX1_begin_18 ?_
  refine v_lconst C 1 (by decide) dX1_begin_19 ?_
  refine v_ladd C dX1_begin_20 ?_
  exact v_lretR C rfl (begin_int (by omega) hlen.2) dX1_begin_21
theorem metX1_isBefore (l : Launch) {E : EE} {g : GG} {x : DS} {D : List Wd} {F : FL} {pl k o : Nat} (h : kK x D F pl) (hk : k < F.length) (ho : o < F.length) : MRi l yX1_isBefore cX1_isBefore 3 (some .boolean) 1 E (kW E g x) [.ref g.1, .int (nI k), .int (nI o)] (fun r => r = bI (bef D F k o)) := by
  have hF := h.1
  have h42 := hF.2.1
  have hpk : en F k < pl := (h.2.2.2.1.1 k hk).2.1
  have hpo : en F o < pl := (h.2.2.2.1.1 o ho).2.1
  have hp := h.2.2.2.2
  have hwk : wd F k < D.length := (h.2.2.2.1.1 k hk).1
  have hwo : wd F o < D.length := (h.2.2.2.1.1 o ho).1
  have h60 := h.2.2.1.1
  have ek : bg D F k = (en F k : Int) - (ln_ D F k : Int) + 1 := rfl
  have eo : bg D F o = (en F o : Int) - (ln_ D F o : Int) + 1 := rfl
  have i1 : (lN (en F k)).toInt = (en F k : Int) := pk_lT (by omega)
  have i2 : (lN (en F o)).toInt = (en F o : Int) := pk_lT (by omega)
  have yes : bef D F k o = true → (1 : Int32) = bI (bef D F k o) := fun q => by rw [q]; rfl
  have no : ¬ bef D F k o = true → (0 : Int32) = bI (bef D F k o) := fun q => by rw [Bool.eq_false_iff.mpr q]; rfl
  refine MRi.start (own := RX1) (by decide) rfl (Nat.le_of_ble_eq_true rfl) ?_
  intro z hz C hR hP
  show V z (0, 0) _ [] _ 0 [(0, .ref g.1), (1, .int (nI k)), (2, .int (nI o))] []
  refine v_aload_n C dX1_isBefore_0 rfl 0 rfl ?_
  refine v_iload_n C dX1_isBefore_1 rfl 1 rfl ?_
  refine v_callRl C (ci := 0) (vC := (RX1, TX1, 29)) (rest := []) (metX1_begin (zl z) h hk) (lw_V q218 q220 qs8 q17 q221) DX1_begin (hR.lower (by decide)) (by decide) hP rfl rfl rfl (Nat.le_of_ble_eq_true rfl) rfl dX1_isBefore_2 (fun r1 hr1 => ?_)
  refine v_aload_n C dX1_isBefore_5 rfl 0 rfl ?_
  refine v_iload_n C dX1_isBefore_6 rfl 2 rfl ?_
  refine v_callRl C (ci := 0) (vC := (RX1, TX1, 29)) (rest := [.long r1]) (metX1_begin (zl z) h ho) (lw_V q218 q220 qs8 q17 q221) DX1_begin (hR.lower (by decide)) (by decide) hP rfl rfl rfl (Nat.le_of_ble_eq_true rfl) rfl dX1_isBefore_7 (fun r2 hr2 => ?_)
  refine v_lcmp C dX1_isBefore_10 ?_
  refine v_ifl_eq C 34 dX1_isBefore_11 (by decide) (fun c1 => ?_) (fun c1 => ?_)
  · have c1 : bg D F k = bg D F o := by rw [← hr1, ← hr2, c1]
    refine v_aload_n C dX1_isBefore_34 rfl 0 rfl ?_
    refine kg25 C hP dX1_isBefore_35 ?_
    refine v_iload_n C dX1_isBefore_38 rfl 1 rfl ?_
    refine ka25 C (k) hP (rfl) (by first | assumption | omega) dX1_isBefore_39 ?_
    refine v_el (y := lN (en F k)) ((hF.2.2.1 k hk).2) ?_
    refine v_aload_n C dX1_isBefore_40 rfl 0 rfl ?_
    refine kg25 C hP dX1_isBefore_41 ?_
    refine v_iload_n C dX1_isBefore_44 rfl 2 rfl ?_
    refine ka25 C (o) hP (rfl) (by first | assumption | omega) dX1_isBefore_45 ?_
    refine v_el (y := lN (en F o)) ((hF.2.2.1 o ho).2) ?_
    refine v_lcmp C dX1_isBefore_46 ?_
    refine v_ifl_eq C 74 dX1_isBefore_47 (by decide) (fun c2 => ?_) (fun c2 => ?_)
    · have c2 : (en F k : Int) = (en F o : Int) := by rw [← i1, ← i2, c2]
      refine v_aload_n C dX1_isBefore_74 rfl 0 rfl ?_
      refine kg24 C hP dX1_isBefore_75 ?_
      refine v_iload_n C dX1_isBefore_78 rfl 1 rfl ?_
      refine ka24 C (k) hP (rfl) (by first | assumption | omega) dX1_isBefore_79 ?_
      refine v_ei (y := nI (wd F k)) ((hF.2.2.1 k hk).1) ?_
      refine v_aload_n C dX1_isBefore_80 rfl 0 rfl ?_
      refine kg24 C hP dX1_isBefore_81 ?_
      refine v_iload_n C dX1_isBefore_84 rfl 2 rfl ?_
      refine ka24 C (o) hP (rfl) (by first | assumption | omega) dX1_isBefore_85 ?_
      refine v_ei (y := nI (wd F o)) ((hF.2.2.1 o ho).1) ?_
      refine v_icmp_ge C 93 dX1_isBefore_86 (by decide) (fun c3 => ?_) (fun c3 => ?_)
      · have c3 := (nI_leI (by omega) (by omega)).mp c3
        refine v_iconst C 0 (by decide) dX1_isBefore_93 ?_
        exact v_zretR C rfl (no (fun q => by rcases bef_iff.mp q with q | ⟨-, q | ⟨-, q⟩⟩ <;> omega)) (Or.inl rfl) dX1_isBefore_94
      · have c3 : wd F k < wd F o := Nat.lt_of_not_le (fun q => c3 ((nI_leI (by omega) (by omega)).mpr q))
        refine v_iconst C 1 (by decide) dX1_isBefore_89 ?_
        refine v_goto C 94 dX1_isBefore_90 (by decide) ?_
        exact v_zretR C rfl (yes (bef_iff.mpr (Or.inr ⟨c1, Or.inr ⟨by omega, c3⟩⟩))) (Or.inr rfl) dX1_isBefore_94
    · have c2 : ¬ (en F k : Int) = (en F o : Int) := fun q => c2 (eq_int.mpr (by rw [i1, i2]; exact q))
      refine v_aload_n C dX1_isBefore_50 rfl 0 rfl ?_
      refine kg25 C hP dX1_isBefore_51 ?_
      refine v_iload_n C dX1_isBefore_54 rfl 1 rfl ?_
      refine ka25 C (k) hP (rfl) (by first | assumption | omega) dX1_isBefore_55 ?_
      refine v_el (y := lN (en F k)) ((hF.2.2.1 k hk).2) ?_
      refine v_aload_n C dX1_isBefore_56 rfl 0 rfl ?_
      refine kg25 C hP dX1_isBefore_57 ?_
      refine v_iload_n C dX1_isBefore_60 rfl 2 rfl ?_
      refine ka25 C (o) hP (rfl) (by first | assumption | omega) dX1_isBefore_61 ?_
      refine v_el (y := lN (en F o)) ((hF.2.2.1 o ho).2) ?_
      refine v_lcmp C dX1_isBefore_62 ?_
      refine v_ifl_le C 70 dX1_isBefore_63 (by decide) (fun c4 => ?_) (fun c4 => ?_)
      · have c4 := le_int.mp c4
        rw [i1, i2] at c4
        refine v_iconst C 0 (by decide) dX1_isBefore_70 ?_
        refine v_goto C 94 dX1_isBefore_71 (by decide) ?_
        exact v_zretR C rfl (no (fun q => by rcases bef_iff.mp q with q | ⟨-, q | ⟨q, -⟩⟩ <;> omega)) (Or.inl rfl) dX1_isBefore_94
      · have c4 : ¬ (en F k : Int) ≤ (en F o : Int) := fun q => c4 (le_int.mpr (by rw [i1, i2]; exact q))
        refine v_iconst C 1 (by decide) dX1_isBefore_66 ?_
        refine v_goto C 94 dX1_isBefore_67 (by decide) ?_
        exact v_zretR C rfl (yes (bef_iff.mpr (Or.inr ⟨c1, Or.inl (by omega)⟩))) (Or.inr rfl) dX1_isBefore_94
  · have c1 : ¬ bg D F k = bg D F o := fun e => c1 (eq_int.mpr (by rw [hr1, hr2]; exact e))
    refine v_aload_n C dX1_isBefore_14 rfl 0 rfl ?_
    refine v_iload_n C dX1_isBefore_15 rfl 1 rfl ?_
    refine v_callRl C (ci := 0) (vC := (RX1, TX1, 29)) (rest := []) (metX1_begin (zl z) h hk) (lw_V q218 q220 qs8 q17 q221) DX1_begin (hR.lower (by decide)) (by decide) hP rfl rfl rfl (Nat.le_of_ble_eq_true rfl) rfl dX1_isBefore_16 (fun r3 hr3 => ?_)
    refine v_aload_n C dX1_isBefore_19 rfl 0 rfl ?_
    refine v_iload_n C dX1_isBefore_20 rfl 2 rfl ?_
    refine v_callRl C (ci := 0) (vC := (RX1, TX1, 29)) (rest := [.long r3]) (metX1_begin (zl z) h ho) (lw_V q218 q220 qs8 q17 q221) DX1_begin (hR.lower (by decide)) (by decide) hP rfl rfl rfl (Nat.le_of_ble_eq_true rfl) rfl dX1_isBefore_21 (fun r4 hr4 => ?_)
    refine v_lcmp C dX1_isBefore_24 ?_
    refine v_ifl_ge C 32 dX1_isBefore_25 (by decide) (fun c5 => ?_) (fun c5 => ?_)
    · have c5 := le_int.mp c5
      rw [hr3, hr4] at c5
      refine v_iconst C 0 (by decide) dX1_isBefore_32 ?_
      exact v_zretR C rfl (no (fun q => by rcases bef_iff.mp q with q | ⟨q, -⟩ <;> omega)) (Or.inl rfl) dX1_isBefore_33
    · have c5 : ¬ bg D F o ≤ bg D F k := fun e => c5 (le_int.mpr (by rw [hr3, hr4]; exact e))
      refine v_iconst C 1 (by decide) dX1_isBefore_28 ?_
      refine v_goto C 33 dX1_isBefore_29 (by decide) ?_
      exact v_zretR C rfl (yes (bef_iff.mpr (Or.inl (by omega)))) (Or.inr rfl) dX1_isBefore_33
theorem first_loop {z : ZZ} {E : EE} {g : GG} {x : DS} {D : List Wd} {F : FL} {pl : Nat} {v1 : Int32} {fr : Int64} {fI : Int} (C : kC RX1 cX1_first 7 (some .int) E z) (hR : rmOK 2 (0, 0) z) (hP : wP E (kW E g x) (zs z).heap) (h : kK x D F pl) (hfr : fr.toInt = fI) : ∀ (j k : Nat), k + j = F.length → V z (0, 0) (zs z).heap [] (QRi z (fun r => r = enc (sc D F fI F.length))) 6 [(0, .ref g.1), (1, .int v1), (2, .long fr), (4, .int (enc (sc D F fI k))), (5, .int (nI k))] [] := by
  have hF := h.1
  have h42 := hF.2.1
  intro j
  induction j with
  | zero =>
    intro k hk
    have hk : k = F.length := by omega
    subst hk
    refine v_iload C dX1_first_6 4 rfl ?_
    refine v_aload_n C dX1_first_8 rfl 0 rfl ?_
    refine kg26 C hP dX1_first_9 ?_
    refine v_ei (y := nI F.length) (hF.1) ?_
    refine v_icmp_ge C 97 dX1_first_12 (by decide) (fun c0 => ?_) (fun c0 => ?_)
    · refine v_iload C dX1_first_97 3 rfl ?_
      exact v_iretR C rfl rfl dX1_first_99
    · exact absurd (Int32.le_refl _) c0
  | succ j ih =>
    intro k hk
    have hk1 : k < F.length := by omega
    have hso : ∀ o, sc D F fI k = some o → o < F.length := fun o q => by have := (sc_some k q).1; omega
    have k75 : ∀ v : Int32, ((v = 1 ∧ sc D F fI (k + 1) = some k) ∨ (v = 0 ∧ sc D F fI (k + 1) = sc D F fI k)) → V z (0, 0) (zs z).heap [] (QRi z (fun r => r = enc (sc D F fI F.length))) 75 [(0, .ref g.1), (1, .int v1), (2, .long fr), (4, .int (enc (sc D F fI k))), (5, .int (nI k))] [.int v] := by
      intro v hv
      refine v_istore C [1, 2, 3, 4, 5, 0] [(0, .ref g.1), (1, .int v1), (2, .long fr), (4, .int (enc (sc D F fI k))), (5, .int (nI k)), (6, .int v)] dX1_first_75 (by decide) rfl ?_
      refine v_iload C dX1_first_77 5 rfl ?_
      refine v_if_eq C 87 dX1_first_79 (by decide) (fun c0 => ?_) (fun c0 => ?_)
      · refine v_iload C dX1_first_87 3 rfl ?_
        refine v_istore C [1, 2, 3, 0, 4, 5] [(0, .ref g.1), (1, .int v1), (2, .long fr), (4, .int (enc (sc D F fI k))), (5, .int (nI k)), (6, .int v)] dX1_first_89 (by decide) rfl ?_
        refine v_iinc C (k := 4) (nI (k + 1)) [1, 2, 3, 4, 0, 5] [(0, .ref g.1), (1, .int v1), (2, .long fr), (4, .int (enc (sc D F fI k))), (5, .int (nI (k + 1))), (6, .int v)] dX1_first_91 rfl (inc1 _) (by decide) rfl ?_
        refine v_goto C 6 dX1_first_94 (by decide) ?_
        refine v_sub [0, 1, 2, 3, 4] rfl ?_
        rcases hv with ⟨hv, -⟩ | ⟨-, hv⟩
        · rw [hv] at c0; exact absurd c0 (by decide)
        · rw [← hv]; exact ih (k + 1) (by omega)
      · refine v_iload C dX1_first_82 4 rfl ?_
        refine v_goto C 89 dX1_first_84 (by decide) ?_
        refine v_istore C [1, 2, 3, 0, 4, 5] [(0, .ref g.1), (1, .int v1), (2, .long fr), (4, .int (nI k)), (5, .int (nI k)), (6, .int v)] dX1_first_89 (by decide) rfl ?_
        refine v_iinc C (k := 4) (nI (k + 1)) [1, 2, 3, 4, 0, 5] [(0, .ref g.1), (1, .int v1), (2, .long fr), (4, .int (nI k)), (5, .int (nI (k + 1))), (6, .int v)] dX1_first_91 rfl (inc1 _) (by decide) rfl ?_
        refine v_goto C 6 dX1_first_94 (by decide) ?_
        refine v_sub [0, 1, 2, 3, 4] rfl ?_
        rcases hv with ⟨-, hv⟩ | ⟨hv, -⟩
        · have := ih (k + 1) (by omega)
          rw [hv] at this
          exact this
        · exact absurd hv c0
    have k42 : V z (0, 0) (zs z).heap [] (QRi z (fun r => r = enc (sc D F fI F.length))) 42 [(0, .ref g.1), (1, .int v1), (2, .long fr), (4, .int (enc (sc D F fI k))), (5, .int (nI k))] [] := by
      refine v_aload_n C dX1_first_42 rfl 0 rfl ?_
      refine v_iload C dX1_first_43 4 rfl ?_
      refine v_callRl C (ci := 0) (vC := (RX1, TX1, 29)) (rest := []) (metX1_begin (zl z) h hk1) (lw_V q218 q220 qs8 q17 q221) DX1_begin (hR.lower (by decide)) (by decide) hP rfl rfl rfl (Nat.le_of_ble_eq_true rfl) rfl dX1_first_45 (fun r hr => ?_)
      refine v_lload_n C dX1_first_48 rfl 2 rfl ?_
      refine v_lcmp C dX1_first_49 ?_
      refine v_ifl_lt C 74 dX1_first_50 (by decide) (fun c1 => ?_) (fun c1 => ?_)
      · have c1 := lt_int.mp c1
        rw [hr, hfr] at c1
        refine v_iconst C 0 (by decide) dX1_first_74 ?_
        exact k75 _ (Or.inr ⟨rfl, by rw [sc, if_neg (fun q => by have := q.1; omega)]⟩)
      · have c1 : fI ≤ bg D F k := by
          have := Int.not_lt.mp (fun q => c1 (lt_int.mpr q))
          rw [hr, hfr] at this
          exact this
        refine v_iload C dX1_first_53 3 rfl ?_
        refine v_iconst C (-1) (by decide) dX1_first_55 ?_
        refine v_icmp_eq C 70 dX1_first_56 (by decide) (fun c2 => ?_) (fun c2 => ?_)
        · refine v_iconst C 1 (by decide) dX1_first_70 ?_
          refine v_goto C 75 dX1_first_71 (by decide) ?_
          refine k75 _ (Or.inl ⟨rfl, ?_⟩)
          cases hs : sc D F fI k with
          | none => rw [sc, hs, if_pos ⟨c1, rfl⟩]
          | some o => rw [hs] at c2; exact absurd c2 (nI_m1 (by have := hso o hs; omega))
        · cases hs : sc D F fI k with
          | none => rw [hs] at c2; exact absurd rfl c2
          | some o =>
            have ho := hso o hs
            rw [hs] at k75
            show V z (0, 0) _ [] _ 59 [(0, .ref g.1), (1, .int v1), (2, .long fr), (4, .int (nI o)), (5, .int (nI k))] []
            refine v_aload_n C dX1_first_59 rfl 0 rfl ?_
            refine v_iload C dX1_first_60 4 rfl ?_
            refine v_iload C dX1_first_62 3 rfl ?_
            refine v_callRi C (ci := 0) (vC := (RX1, TX1, 29)) (rest := []) (metX1_isBefore (zl z) h hk1 ho) (lw_V q223 q225 qs9 q17 q226) DX1_isBefore (hR.lower (by decide)) (by decide) hP rfl rfl rfl (Nat.le_of_ble_eq_true rfl) rfl dX1_first_64 (fun r2 hr2 => ?_)
            refine v_if_eq C 74 dX1_first_67 (by decide) (fun c3 => ?_) (fun c3 => ?_)
            · refine v_iconst C 0 (by decide) dX1_first_74 ?_
              refine k75 _ (Or.inr ⟨rfl, ?_⟩)
              rw [sc, hs, if_neg]
              rintro ⟨-, q⟩
              rw [show bef D F k o = true from q] at hr2
              rw [hr2] at c3
              exact absurd c3 (by decide)
            · refine v_iconst C 1 (by decide) dX1_first_70 ?_
              refine v_goto C 75 dX1_first_71 (by decide) ?_
              refine k75 _ (Or.inl ⟨rfl, ?_⟩)
              rw [sc, hs, if_pos]
              refine ⟨c1, ?_⟩
              show bef D F k o = true
              cases hbb : bef D F k o with
              | true => rfl
              | false => rw [hbb] at hr2; exact absurd hr2 c3
    refine v_iload C dX1_first_6 4 rfl ?_
    refine v_aload_n C dX1_first_8 rfl 0 rfl ?_
    refine kg26 C hP dX1_first_9 ?_
    refine v_ei (y := nI F.length) (hF.1) ?_
    refine v_icmp_ge C 97 dX1_first_12 (by decide) (fun c0 => ?_) (fun c0 => ?_)
    · exact absurd c0 (nI_ge hk1 (by omega))
    · refine v_iload C dX1_first_15 3 rfl ?_
      refine v_iconst C (-1) (by decide) dX1_first_17 ?_
      refine v_icmp_eq C 42 dX1_first_18 (by decide) (fun c2 => ?_) (fun c2 => ?_)
      · exact k42
      · cases hs : sc D F fI k with
        | none => rw [hs] at c2; exact absurd rfl c2
        | some o =>
          have ho := hso o hs
          rw [hs] at k42
          show V z (0, 0) _ [] _ 21 [(0, .ref g.1), (1, .int v1), (2, .long fr), (4, .int (nI o)), (5, .int (nI k))] []
          refine v_aload_n C dX1_first_21 rfl 0 rfl ?_
          refine kg25 C hP dX1_first_22 ?_
          refine v_iload C dX1_first_25 4 rfl ?_
          refine ka25 C (k) hP (rfl) (by first | assumption | omega) dX1_first_27 ?_
          refine v_el (y := lN (en F k)) ((hF.2.2.1 k hk1).2) ?_
          refine v_aload_n C dX1_first_28 rfl 0 rfl ?_
          refine v_iload C dX1_first_29 3 rfl ?_
          refine v_callRl C (ci := 0) (vC := (RX1, TX1, 29)) (rest := [.long (lN (en F k))]) (metX1_begin (zl z) h ho) (lw_V q218 q220 qs8 q17 q221) DX1_begin (hR.lower (by decide)) (by decide) hP rfl rfl rfl (Nat.le_of_ble_eq_true rfl) rfl dX1_first_31 (fun r hr => ?_)
          refine v_ldc2 C q222 dX1_first_34 ?_
          refine v_ladd C dX1_first_37 ?_
          refine v_lcmp C dX1_first_38 ?_
          refine v_ifl_ge C 97 dX1_first_39 (by decide) (fun c3 => ?_) (fun c3 => ?_)
          · refine v_iload C dX1_first_97 3 rfl ?_
            refine v_iretR C rfl ?_ dX1_first_99
            have hpk : en F k < pl := (h.2.2.2.1.1 k hk1).2.1
            have hpo : en F o < pl := (h.2.2.2.1.1 o ho).2.1
            have hp := h.2.2.2.2
            have hlo := ln_ok h.2.2.1 h.2.2.2.1 ho
            have eo : bg D F o = (en F o : Int) - (ln_ D F o : Int) + 1 := rfl
            have i1 : (lN (en F k)).toInt = (en F k : Int) := pk_lT (by omega)
            have c3 := le_int.mp c3
            rw [i1, ladd_int (by rw [hr, f40_int]; omega) (by rw [hr, f40_int]; omega), hr, f40_int] at c3
            rw [sc_stop h.2.2.1 h.2.2.2.1 hs c3 F.length (by omega) (Nat.le_refl _)]
            rfl
          · exact k42
theorem metX1_first (l : Launch) {E : EE} {g : GG} {x : DS} {D : List Wd} {F : FL} {pl s0 : Nat} (fr : Int64) (fI : Int) (h : kK x D F pl) (hfr : fr.toInt = fI) (hs : s0 ≤ F.length) (hb : ∀ j, j < s0 → bg D F j < fI) : MRi l yX1_first cX1_first 7 (some .int) 2 E (kW E g x) [.ref g.1, .int (nI s0), .long fr] (fun r => r = enc (sc D F fI F.length)) := by
  refine MRi.start (own := RX1) (by decide) rfl (Nat.le_of_ble_eq_true rfl) ?_
  intro z hz C hR hP
  show V z (0, 0) _ [] _ 0 [(0, .ref g.1), (1, .int (nI s0)), (2, .long fr)] []
  refine v_iconst C (-1) (by decide) dX1_first_0 ?_
  refine v_istore C [1, 2, 3, 0] [(0, .ref g.1), (1, .int (nI s0)), (2, .long fr), (4, .int (-1))] dX1_first_1 (by decide) rfl ?_
  refine v_iload_n C dX1_first_3 rfl 1 rfl ?_
  refine v_istore C [1, 2, 3, 4, 0] [(0, .ref g.1), (1, .int (nI s0)), (2, .long fr), (4, .int (-1)), (5, .int (nI s0))] dX1_first_4 (by decide) rfl ?_
  have := first_loop (v1 := nI s0) C hR hP h hfr (F.length - s0) s0 (by omega)
  rw [sc_none s0 hb] at this
  exact this
theorem kPk.snoc {x u : DS} {pk : List Nat} {k : Nat} (h : kPk x pk) (h2 : pk.length < 4200) (e1 : sI u 28 = nI (pk.length + 1)) (e2 : sA u 27 = upd (sA x 27) pk.length (nI k)) : kPk u (pk ++ [k]) := by
  have hl : (pk ++ [k]).length = pk.length + 1 := by simp
  refine ⟨by rw [hl]; exact e1, by omega, fun j hj => ?_⟩
  rw [hl] at hj
  by_cases e : j = pk.length
  · subst e
    rw [e2, upd_self, getD_snoc]
  · rw [e2, upd_ne e, getD_app (by omega)]
    exact h.2.2 j (by omega)
theorem kK.congr {x u : DS} {D : List Wd} {F : FL} {pl : Nat} (h0 : kT u = kT x) (h1 : kF u = kF x) (h : kK x D F pl) : kK u D F pl := ⟨h.1.congr h1, fun w hw => (congrFun (kT_A12 h0) w).trans (h.2.1 w hw), h.2.2⟩
theorem pick_loop {z : ZZ} {E : EE} {g : GG} {x0 : DS} {A : Nat → Prop} {D : List Wd} {F : FL} {pl : Nat} (C : kC RX1 cX1_pick 2 (some .int) E z) (hR : rmOK 3 (0, 0) z) (h : kK x0 D F pl) : ∀ (f s0 : Nat) (fI : Int) (done : List Nat) (x : DS) (H : Heap) (locs : List Loc), F.length - s0 < f → s0 ≤ F.length → (∀ j, j < s0 → bg D F j < fI) → done.length ≤ s0 → kT x = kT x0 → kD x = kD x0 → kX x = kX x0 → kY x = kY x0 → kF x = kF x0 → kPk x done → done ++ pkL D F f fI = pks D F → wH E (kW E g x) A z H locs → V z (0, 0) H locs (QWi z E (kW E g) A (fun r u => r = nI (pks D F).length ∧ kT u = kT x0 ∧ kD u = kD x0 ∧ kX u = kX x0 ∧ kY u = kY x0 ∧ kF u = kF x0 ∧ kPk u (pks D F))) 12 [(0, .ref g.1), (1, .int (enc (sc D F fI F.length)))] [] := by
  have h42 := h.1.2.1
  intro f
  induction f with
  | zero => intro s0 fI done x H locs hf; omega
  | succ f ih =>
    intro s0 fI done x H locs hf hs hb hd e1 e2 e3 e4 e5 hp hall hH
    cases hsc : sc D F fI F.length with
    | none =>
      show V z (0, 0) _ _ _ 12 [(0, .ref g.1), (1, .int (-1))] []
      refine v_iload_n C dX1_pick_12 rfl 1 rfl ?_
      refine v_iconst C (-1) (by decide) dX1_pick_13 ?_
      refine v_icmp_eq C 53 dX1_pick_14 (by decide) (fun c0 => ?_) (fun c0 => ?_)
      · refine v_aload_n C dX1_pick_53 rfl 0 rfl ?_
        refine kg28 C hH.1 dX1_pick_54 ?_
        refine v_ei (y := nI done.length) (hp.1) ?_
        rw [pkL_none hsc, List.append_nil] at hall
        rw [hall]
        rw [hall] at hp
        exact v_iretW C hH ⟨rfl, e1, e2, e3, e4, e5, hp⟩ dX1_pick_57
      · exact absurd rfl c0
    | some k =>
      obtain ⟨k1, k2⟩ := sc_some _ hsc
      have k3 : s0 ≤ k := Nat.le_of_not_lt (fun q => by have := hb k q; omega)
      have hpk : en F k < pl := (h.2.2.2.1.1 k k1).2.1
      have hpl := h.2.2.2.2
      have i1 : (lN (en F k)).toInt = (en F k : Int) := pk_lT (by omega)
      show V z (0, 0) _ _ _ 12 [(0, .ref g.1), (1, .int (nI k))] []
      refine v_iload_n C dX1_pick_12 rfl 1 rfl ?_
      refine v_iconst C (-1) (by decide) dX1_pick_13 ?_
      refine v_icmp_eq C 53 dX1_pick_14 (by decide) (fun c0 => ?_) (fun c0 => ?_)
      · exact absurd c0 (nI_m1 (by omega))
      · refine v_aload_n C dX1_pick_17 rfl 0 rfl ?_
        refine kg27 C hH.1 dX1_pick_18 ?_
        refine v_aload_n C dX1_pick_21 rfl 0 rfl ?_
        refine v_dup C rfl dX1_pick_22 ?_
        refine kg28 C hH.1 dX1_pick_23 ?_
        refine v_ei (y := nI done.length) (hp.1) ?_
        refine v_dup_x1 C rfl rfl dX1_pick_26 ?_
        refine v_iconst C 1 (by decide) dX1_pick_27 ?_
        refine v_iadd C dX1_pick_28 ?_
        refine v_ei (y := nI (done.length + 1)) (nI_1 _) ?_
        refine kp28 C hH dX1_pick_29 (fun H locs hH => ?_)
        refine v_iload_n C dX1_pick_32 rfl 1 rfl ?_
        refine ks27 C (done.length) hH (rfl) (by first | assumption | omega) dX1_pick_33 (fun H locs hH => ?_)
        refine v_aload_n C dX1_pick_34 rfl 0 rfl ?_
        refine v_iload_n C dX1_pick_35 rfl 1 rfl ?_
        refine v_iconst C 1 (by decide) dX1_pick_36 ?_
        refine v_iadd C dX1_pick_37 ?_
        refine v_ei (y := nI (k + 1)) (nI_1 _) ?_
        refine v_aload_n C dX1_pick_38 rfl 0 rfl ?_
        refine kg25 C hH.1 dX1_pick_39 ?_
        refine v_iload_n C dX1_pick_42 rfl 1 rfl ?_
        refine ka25 C (k) hH.1 (rfl) (by first | assumption | omega) dX1_pick_43 ?_
        refine v_el (show sF (pA (pI x 28 (nI (done.length + 1))) 27 done.length (nI k)) k = sF x k from rfl) ?_
        refine v_el (y := lN (en F k)) ((congrFun (kF_F25 e5) k).trans (h.1.2.2.1 k k1).2) ?_
        refine v_lconst C 1 (by decide) dX1_pick_44 ?_
        refine v_ladd C dX1_pick_45 ?_
        refine v_callRi C (ci := 0) (vC := (RX1, TX1, 29)) (rest := []) (metX1_first (zl z) (lN (en F k) + 1) ((en F k : Int) + 1) (h.congr (u := pA (pI x 28 (nI (done.length + 1))) 27 done.length (nI k)) e1 e5) (by rw [ladd_int (by rw [i1, one_int]; omega) (by rw [i1, one_int]; omega), i1, one_int]) (by omega) (fun j hj => bg_le h.2.2.1 h.2.2.2.1 (by omega) k1)) (lw_V q214 q216 qs7 q17 q217) DX1_first (hR.lower (by decide)) (by decide) hH.1 rfl rfl rfl (Nat.le_of_ble_eq_true rfl) rfl dX1_pick_46 (fun r hr => ?_)
        subst hr
        refine v_istore_n C [1, 0] [(0, .ref g.1), (1, .int (enc (sc D F ((en F k : Int) + 1) F.length)))] dX1_pick_49 rfl (by decide) rfl ?_
        refine v_goto C 12 dX1_pick_50 (by decide) ?_
        rw [pkL_some hsc] at hall
        exact ih (k + 1) _ (done ++ [k]) (pA (pI x 28 (nI (done.length + 1))) 27 done.length (nI k)) H locs (by omega) (by omega) (fun j hj => bg_le h.2.2.1 h.2.2.2.1 (by omega) k1) (by simp; omega) e1 e2 e3 e4 e5 (hp.snoc (by omega) rfl rfl) (by rw [← hall]; simp) hH
/-- pick() -/
theorem metX1_pick (l : Launch) {E : EE} {g : GG} {x : DS} {D : List Wd} {F : FL} {pl : Nat} (h : kK x D F pl) : MWi l yX1_pick cX1_pick 2 (some .int) 3 E (kW E g) x [.ref g.1] (fun r u => r = nI (pks D F).length ∧ kT u = kT x ∧ kD u = kD x ∧ kX u = kX x ∧ kY u = kY x ∧ kF u = kF x ∧ kPk u (pks D F)) := by
  refine MWi.start (own := RX1) (by decide) rfl (Nat.le_of_ble_eq_true rfl) ?_
  intro z A hz C hR hH
  show V z (0, 0) _ [] _ 0 [(0, .ref g.1)] []
  refine v_aload_n C dX1_pick_0 rfl 0 rfl ?_
  refine v_iconst C 0 (by decide) dX1_pick_1 ?_
  refine kp28 C hH dX1_pick_2 (fun H locs hH => ?_)
  refine v_aload_n C dX1_pick_5 rfl 0 rfl ?_
  refine v_iconst C 0 (by decide) dX1_pick_6 ?_
  refine v_ei (y := nI 0) (nI_0.symm) ?_
  refine v_lconst C 0 (by decide) dX1_pick_7 ?_
  refine v_callRi C (ci := 0) (vC := (RX1, TX1, 29)) (rest := []) (metX1_first (zl z) 0 0 (s0 := 0) (h.congr (u := pI x 28 0) rfl rfl) (by decide) (Nat.zero_le _) (fun j hj => absurd hj (Nat.not_lt_zero _))) (lw_V q214 q216 qs7 q17 q217) DX1_first (hR.lower (by decide)) (by decide) hH.1 rfl rfl rfl (Nat.le_of_ble_eq_true rfl) rfl dX1_pick_8 (fun r hr => ?_)
  subst hr
  refine v_istore_n C [1, 0] [(0, .ref g.1), (1, .int (enc (sc D F 0 F.length)))] dX1_pick_11 rfl (by decide) rfl ?_
  exact pick_loop C hR h (F.length + 1) 0 0 [] (pI x 28 0) H locs (by omega) (Nat.zero_le _) (fun j hj => absurd hj (Nat.not_lt_zero _)) (Nat.zero_le _) rfl rfl rfl rfl rfl ⟨rfl, Nat.zero_le _, fun k hk => absurd hk (Nat.not_lt_zero _)⟩ rfl hH
end
section
/-! Adding a word to the tree, plainly -/
theorem take_rev {d : Wd} {k : Nat} (h : k < d.length) : (d.take (k + 1)).reverse = d.getD k 0 :: (d.take k).reverse := by
  rw [List.take_add_one, List.reverse_append, List.getD_eq_getElem?_getD, List.getElem?_eq_getElem h]
  rfl
def SetK (D : List Wd) (d : Wd) (k : Nat) (r : Wd) : Prop := isPre D r = true ∨ ∃ j, j ≤ k ∧ r = (d.take j).reverse
theorem SetK_succ {D : List Wd} {d r : Wd} {k : Nat} (h : k < d.length) : SetK D d (k + 1) r ↔ SetK D d k r ∨ r = d.getD k 0 :: (d.take k).reverse := by
  constructor
  · rintro (q | ⟨j, h1, h2⟩)
    · exact Or.inl (Or.inl q)
    · by_cases e : j = k + 1
      · subst e; rw [take_rev h] at h2; exact Or.inr h2
      · exact Or.inl (Or.inr ⟨j, by omega, h2⟩)
  · rintro ((q | ⟨j, h1, h2⟩) | q)
    · exact Or.inl q
    · exact Or.inr ⟨j, by omega, h2⟩
    · exact Or.inr ⟨k + 1, Nat.le_refl _, by rw [take_rev h]; exact q⟩
theorem SetK_com {D : List Wd} {d r : Wd} {k : Nat} (h : k ≤ com D d D.length) : SetK D d k r ↔ isPre D r = true := by
  have hc := com_le (D := D) (d := d) D.length
  constructor
  · rintro (q | ⟨j, h1, rfl⟩)
    · exact q
    · exact (com_pre (by omega)).mpr (by omega)
  · exact Or.inl
theorem SetK_all {D : List Wd} {d r : Wd} : SetK D d d.length r ↔ isPre (D ++ [d]) r = true := by
  rw [isPre_add]
  constructor
  · rintro (q | ⟨j, h1, rfl⟩)
    · exact Or.inl q
    · exact Or.inr (by rw [List.reverse_reverse]; exact List.take_prefix _ _)
  · rintro (q | q)
    · exact Or.inl q
    · refine Or.inr ⟨r.length, by have := q.length_le; simpa using this, ?_⟩
      have := List.prefix_iff_eq_take.mp q
      rw [List.length_reverse] at this
      rw [← this, List.reverse_reverse]
theorem SetK_tail {D : List Wd} {d r : Wd} {b : Int32} {k : Nat} (h : SetK D d k (b :: r)) : SetK D d k r := by
  rcases h with q | ⟨j, h1, h2⟩
  · exact Or.inl (isPre_tail q)
  · refine Or.inr ⟨min r.length j, by omega, ?_⟩
    have h3 : d.take j = r.reverse ++ [b] := by
      have := congrArg List.reverse h2
      rw [List.reverse_reverse, List.reverse_cons] at this
      exact this.symm
    have h4 : (d.take j).take r.length = r.reverse := by
      rw [h3, List.take_append_of_le_length (by simp), List.take_of_length_le (by simp)]
    rw [List.take_take] at h4
    rw [h4, List.reverse_reverse]
theorem SetK_new {D : List Wd} {d : Wd} {k : Nat} (hc : com D d D.length ≤ k) (hk : k < d.length) : ¬ SetK D d k (d.getD k 0 :: (d.take k).reverse) := by
  rintro (q | ⟨j, h1, h2⟩)
  · rw [← take_rev hk] at q
    have := (com_pre (by omega)).mp q
    omega
  · have := congrArg List.length h2
    simp at this
    omega
theorem Trie.setS {x : DS} {N : Nat} {R : Nat → Wd} {K : Nat → List Nat} {S S' : Wd → Prop} (h : Trie x N R K S) (hs : ∀ r, S' r ↔ S r) : Trie x N R K S' := by
  obtain ⟨h1, h2, h3, h4, h5, h6, h7, h8, h9⟩ := h
  exact ⟨h1, h2, h3, h4, h5, h6, h7, h8, fun r => (hs r).trans (h9 r)⟩
/-- a new leaf -/
theorem Trie.insert {x u : DS} {N node : Nat} {R : Nat → Wd} {K : Nat → List Nat} {S S' : Wd → Prop} {b : Int32} (h : Trie x N R K S) (hn : node < N) (hN : N < 2000) (hcl : ∀ a r, S (a :: r) → S r) (hb : ¬ S (b :: R node)) (hS : ∀ r, S' r ↔ S r ∨ r = b :: R node)
    (u1 : sA u 1 = upd (sA x 1) N b) (u2 : sA u 2 = upd (upd (sA x 2) N (-1)) node (nI N)) (u3 : sA u 3 = upd (upd (sA x 3) N (-1)) N (sA x 2 node)) (u4 : sA u 4 = upd (sA x 4) N (nI ((R node).length + 1))) :
    Trie u (N + 1) (va_up R N (b :: R node)) (va_up (va_up K N []) node (N :: K node)) S' := by
  obtain ⟨h1, h2, h3, h4, h5, h6, h7, h8, h9⟩ := h
  have rN : va_up R N (b :: R node) N = b :: R node := va_up_self _ _ _
  have rO : ∀ n, n < N → va_up R N (b :: R node) n = R n := fun n hn => va_up_ne _ _ (by omega)
  have kNode : va_up (va_up K N []) node (N :: K node) node = N :: K node := va_up_self _ _ _
  have kN : va_up (va_up K N []) node (N :: K node) N = [] := by rw [va_up_ne _ _ (by omega), va_up_self]
  have kO : ∀ n, n < N → n ≠ node → va_up (va_up K N []) node (N :: K node) n = K n := fun n hn hne => by rw [va_up_ne _ _ hne, va_up_ne _ _ (by omega)]
  have hnotin : ∀ c, c < N → R c ≠ b :: R node := fun c hc e => hb ((h9 _).mpr ⟨c, hc, e⟩)
  have hkid : ∀ n c, n < N → c ∈ K n → c < N := fun n c hn hc => ((h6 n c hn).mp hc).1
  have c3 : ∀ n, n < N → ∀ c, c ∈ K n → sA x 3 c = sA u 3 c := by
    intro n hn c hc
    have := hkid n c hn hc
    rw [u3, upd_ne (by omega), upd_ne (by omega)]
  have cases' : ∀ n, n < N + 1 → n = N ∨ n = node ∨ (n < N ∧ n ≠ node) := by intro n hn; omega
  refine ⟨by omega, by rw [rO 0 (by omega)]; exact h2, ?_, ?_, ?_, ?_, ?_, ?_, ?_⟩
  · intro i j hi hj e
    by_cases ei : i = N <;> by_cases ej : j = N
    · rw [ei, ej]
    · rw [ei, rN, rO j (by omega)] at e; exact absurd e.symm (hnotin j (by omega))
    · rw [ej, rN, rO i (by omega)] at e; exact absurd e (hnotin i (by omega))
    · rw [rO i (by omega), rO j (by omega)] at e; exact h3 i j (by omega) (by omega) e
  · intro n hn
    rcases cases' n hn with e | e | ⟨e1, e2⟩
    · rw [e, kN, u2, upd_ne (by omega), upd_self]; rfl
    · rw [e, kNode, u2, upd_self]
      refine ⟨rfl, ?_⟩
      have : sA u 3 N = sA x 2 node := by rw [u3, upd_self]
      rw [this]
      exact chain_congr _ _ (c3 node ‹_›) (h4 node ‹_›)
    · rw [kO n e1 e2, u2, upd_ne e2, upd_ne (by omega)]
      exact chain_congr _ _ (c3 n e1) (h4 n e1)
  · intro n hn
    rcases cases' n hn with e | e | ⟨e1, e2⟩
    · rw [e, kN]; exact List.nodup_nil
    · rw [e, kNode]
      refine List.nodup_cons.mpr ⟨fun q => ?_, h5 node ‹_›⟩
      have := hkid node N ‹_› q
      omega
    · rw [kO n e1 e2]; exact h5 n e1
  · intro n c hn'
    rcases cases' n hn' with e | e | ⟨e1, e2⟩
    · subst e
      rw [kN, rN]
      refine ⟨fun q => absurd q List.not_mem_nil, ?_⟩
      rintro ⟨hc, a, ha⟩
      exfalso
      by_cases ec : c = n
      · rw [ec, rN] at ha
        have := congrArg List.length ha
        simp at this
      · rw [rO c (by omega)] at ha
        exact hb (hcl a _ ((h9 _).mpr ⟨c, by omega, ha⟩))
    · subst e
      rw [kNode, rO n hn, List.mem_cons, h6 n c hn]
      constructor
      · rintro (q | ⟨q1, a, q2⟩)
        · subst q; exact ⟨by omega, b, rN⟩
        · exact ⟨by omega, a, by rw [rO c q1]; exact q2⟩
      · rintro ⟨q1, a, q2⟩
        by_cases ec : c = N
        · exact Or.inl ec
        · rw [rO c (by omega)] at q2
          exact Or.inr ⟨by omega, a, q2⟩
    · rw [kO n e1 e2, rO n e1, h6 n c e1]
      constructor
      · rintro ⟨q1, a, q2⟩
        exact ⟨by omega, a, by rw [rO c q1]; exact q2⟩
      · rintro ⟨q1, a, q2⟩
        by_cases ec : c = N
        · rw [ec, rN] at q2
          injection q2 with q3 q4
          exact absurd (h3 node n hn e1 q4) (fun q => e2 q.symm)
        · rw [rO c (by omega)] at q2
          exact ⟨by omega, a, q2⟩
  · intro c a r hc e
    by_cases ec : c = N
    · rw [ec, rN] at e
      injection e with e1 e2
      rw [ec, u1, upd_self, e1]
    · rw [rO c (by omega)] at e
      rw [u1, upd_ne ec]
      exact h7 c a r (by omega) e
  · intro n hn'
    by_cases ec : n = N
    · rw [ec, rN, u4, upd_self]; simp
    · rw [rO n (by omega), u4, upd_ne ec]
      exact h8 n (by omega)
  · intro r
    rw [hS, h9]
    constructor
    · rintro (⟨n, q1, q2⟩ | q)
      · exact ⟨n, by omega, by rw [rO n q1]; exact q2⟩
      · exact ⟨N, by omega, by rw [rN, q]⟩
    · rintro ⟨n, q1, q2⟩
      by_cases ec : n = N
      · rw [ec, rN] at q2; exact Or.inr q2.symm
      · rw [rO n (by omega)] at q2
        exact Or.inl ⟨n, by omega, q2⟩
def Wd1 (x : DS) (D : List Wd) (N : Nat) (R : Nat → Wd) : Prop := ∀ n, n < N → chain (sA x 11) (sA x 5 n) (occ D (R n))
theorem Wd1.insert {x u : DS} {D : List Wd} {N : Nat} {R : Nat → Wd} {r : Wd} (h : Wd1 x D N R) (hr : isPre D r = false) (u11 : sA u 11 = sA x 11) (u5 : sA u 5 = upd (sA x 5) N (-1)) : Wd1 u D (N + 1) (va_up R N r) := by
  intro n hn
  by_cases e : n = N
  · subst e
    rw [va_up_self, u11, u5, upd_self]
    have : occ D r = [] := by
      cases ho : occ D r with
      | nil => rfl
      | cons a l => rw [occ_pre (by rw [ho]; simp)] at hr; cases hr
    rw [this]; rfl
  · rw [va_up_ne _ _ e, u11, u5, upd_ne e]
    exact h n (by omega)
theorem chain_m1 {f : Nat → Int32} : ∀ (l : List Nat), (∀ n, n ∈ l → n < 2000) → chain f (-1) l → l = []
  | [], _, _ => rfl
  | n :: t, h, hc => absurd hc.1.symm (nI_m1 (by have := h n List.mem_cons_self; omega))
/-- the new word hangs at its node: the first one there -/
theorem Wds.first {x u : DS} {D : List Wd} {N node : Nat} {R : Nat → Wd} {d : Wd} (h : Wd1 x D N R) (hl : ∀ w, w < D.length → sA x 12 w = nI (D.getD w []).length) (hD : D.length ≤ 60) (hn : node < N) (hi : ∀ i j, i < N → j < N → R i = R j → i = j) (hr : R node = d.reverse) (h1 : sA x 5 node = -1)
    (u11 : sA u 11 = upd (sA x 11) D.length (-1)) (u5 : sA u 5 = upd (sA x 5) node (nI D.length)) (u12 : sA u 12 = upd (sA x 12) D.length (nI d.length)) : Wds u (D ++ [d]) N R := by
  refine ⟨fun n hn' => ?_, fun w hw => ?_⟩
  · rw [occ_add]
    by_cases e : n = node
    · subst e
      have h0 : occ D (R n) = [] := by
        have := h n hn
        rw [h1] at this
        exact chain_m1 _ (fun w hw => by have := (mem_occ.mp hw).1; omega) this
      rw [h0, if_pos hr, u5, upd_self, u11]
      exact ⟨rfl, by rw [upd_self]; rfl⟩
    · rw [if_neg (fun q => e (hi n node hn' hn (q.trans hr.symm))), List.append_nil, u5, upd_ne e, u11]
      refine chain_congr _ _ (fun w hw => ?_) (h n hn')
      have := (mem_occ.mp hw).1
      rw [upd_ne (by omega)]
  · rw [List.length_append, List.length_singleton] at hw
    rw [u12]
    by_cases e : w = D.length
    · subst e; rw [upd_self, getD_snoc]
    · rw [upd_ne e, getD_app (by omega)]
      exact hl w (by omega)
/-- .. or behind the last one there -/
theorem Wds.later {x u : DS} {D : List Wd} {N node e : Nat} {R : Nat → Wd} {d : Wd} (h : Wd1 x D N R) (hl : ∀ w, w < D.length → sA x 12 w = nI (D.getD w []).length) (hn : node < N) (hi : ∀ i j, i < N → j < N → R i = R j → i = j) (hr : R node = d.reverse) (he : (occ D (R node)).getLast? = some e)
    (u11 : sA u 11 = upd (upd (sA x 11) D.length (-1)) e (nI D.length)) (u5 : sA u 5 = sA x 5) (u12 : sA u 12 = upd (sA x 12) D.length (nI d.length)) : Wds u (D ++ [d]) N R := by
  have he2 := mem_occ.mp (List.mem_of_getLast? he)
  refine ⟨fun n hn' => ?_, fun w hw => ?_⟩
  · rw [occ_add]
    by_cases q : n = node
    · subst q
      rw [if_pos hr, u5, u11]
      exact chain_snoc _ _ e occ_nodup (fun q => by have := (mem_occ.mp q).1; omega) he (h n hn)
    · rw [if_neg (fun p => q (hi n node hn' hn (p.trans hr.symm))), List.append_nil, u5, u11]
      refine chain_congr _ _ (fun w hw => ?_) (h n hn')
      have hw2 := mem_occ.mp hw
      have hwe : w ≠ e := by
        intro p
        subst p
        exact q (hi n node hn' hn (List.reverse_inj.mp (hw2.2.symm.trans he2.2)))
      rw [upd_ne hwe, upd_ne (by omega)]
  · rw [List.length_append, List.length_singleton] at hw
    rw [u12]
    by_cases q : w = D.length
    · subst q; rw [upd_self, getD_snoc]
    · rw [upd_ne q, getD_app (by omega)]
      exact hl w (by omega)
theorem DOK.add {D : List Wd} {d : Wd} (h : DOK D) (h1 : ¬ D.length = 60) (h2 : d ≠ []) (h3 : d.length ≤ 40) : DOK (D ++ [d]) := by
  refine ⟨by have := h.1; simp; omega, fun w hw => ?_⟩
  rcases List.mem_append.mp hw with q | q
  · exact h.2 w q
  · rw [List.mem_singleton.mp q]
    exact ⟨List.length_pos_iff.mpr h2, h3⟩
def acd (D : List Wd) (dr : Wd) (N rm : Nat) : Prop := ¬ dr = [] ∧ ¬ D.length = 60 ∧ N + dr.length - com D dr D.length ≤ rm
/-- what adding leaves alone -/
def kI (x : DS) : (Nat → Int32) × (Nat → Int32) × (Nat → Int32) × (Nat → Int32) × Int32 × Int32 × Int32 := (sA x 6, sA x 7, sA x 11, sA x 12, sI x 0, sI x 10, sI x 14)
theorem kI_A6 {x u : DS} (h : kI u = kI x) : sA u 6 = sA x 6 := congrArg (fun t => t.1) h
theorem kI_A7 {x u : DS} (h : kI u = kI x) : sA u 7 = sA x 7 := congrArg (fun t => t.2.1) h
theorem kI_A11 {x u : DS} (h : kI u = kI x) : sA u 11 = sA x 11 := congrArg (fun t => t.2.2.1) h
theorem kI_A12 {x u : DS} (h : kI u = kI x) : sA u 12 = sA x 12 := congrArg (fun t => t.2.2.2.1) h
theorem kI_I0 {x u : DS} (h : kI u = kI x) : sI u 0 = sI x 0 := congrArg (fun t => t.2.2.2.2.1) h
theorem kI_I10 {x u : DS} (h : kI u = kI x) : sI u 10 = sI x 10 := congrArg (fun t => t.2.2.2.2.2.1) h
theorem kI_I14 {x u : DS} (h : kI u = kI x) : sI u 14 = sI x 14 := congrArg (fun t => t.2.2.2.2.2.2) h
def kG (u x : DS) : Prop := kI u = kI x ∧ kD u = kD x ∧ kX u = kX x ∧ kP u = kP x ∧ kY u = kY x ∧ kF u = kF x
end
section
theorem add_far {z : ZZ} {E : EE} {g : GG} {x : DS} {Q : State → Prop} {H : Heap} {locs : List Loc} {D : List Wd} {N : Nat} {R : Nat → Wd} {K : Nat → List Nat} {dr : Wd} (C : kC RX1 cX1_add 5 (some .int) E z) (hR : rmOK 1 (0, 0) z) (hP : wP E (kW E g x) H) (T : Trie x N R K (PreS_ D)) (h40 : dr.length ≤ 40) (hd : ∀ k, k < dr.length → sA x 15 k = dr.getD k 0)
    (kk : ∀ node : Nat, node < N → R node = (dr.take (com D dr D.length)).reverse → V z (0, 0) H locs Q 61 [(0, .ref g.1), (1, .int (nI dr.length)), (2, .int (nI node)), (3, .int (nI (com D dr D.length)))] []) : ∀ (j k node : Nat), k + j = dr.length → node < N → R node = (dr.take k).reverse → V z (0, 0) H locs Q 23 [(0, .ref g.1), (1, .int (nI dr.length)), (2, .int (nI node)), (3, .int (nI k))] [] := by
  have hcl := com_le (D := D) (d := dr) D.length
  have hN := T.1.2
  have hle : ∀ k node, k ≤ dr.length → node < N → R node = (dr.take k).reverse → k ≤ com D dr D.length := fun k node h1 h2 h3 => (com_pre h1).mp ((T.2.2.2.2.2.2.2.2 _).mpr ⟨node, h2, h3⟩)
  intro j
  induction j with
  | zero =>
    intro k node hk hn hr
    have hk : k = dr.length := by omega
    have hc : com D dr D.length = k := by have := hle k node (by omega) hn hr; omega
    subst hk
    refine v_iload_n C dX1_add_23 rfl 3 rfl ?_
    refine v_iload_n C dX1_add_24 rfl 1 rfl ?_
    refine v_icmp_ge C 61 dX1_add_25 (by decide) (fun c0 => ?_) (fun c0 => ?_)
    · have := kk node hn (by rw [hc]; exact hr)
      rw [hc] at this
      exact this
    · exact absurd (Int32.le_refl _) c0
  | succ j ih =>
    intro k node hk hn hr
    have hk1 : k < dr.length := by omega
    refine v_iload_n C dX1_add_23 rfl 3 rfl ?_
    refine v_iload_n C dX1_add_24 rfl 1 rfl ?_
    refine v_icmp_ge C 61 dX1_add_25 (by decide) (fun c0 => ?_) (fun c0 => ?_)
    · exact absurd c0 (nI_ge hk1 (by omega))
    · refine v_aload_n C dX1_add_28 rfl 0 rfl ?_
      refine v_iload_n C dX1_add_29 rfl 2 rfl ?_
      refine v_aload_n C dX1_add_30 rfl 0 rfl ?_
      refine kg15 C hP dX1_add_31 ?_
      refine v_iload_n C dX1_add_34 rfl 3 rfl ?_
      refine ka15 C (k) hP (rfl) (by omega) dX1_add_35 ?_
      refine v_ei (y := dr.getD k 0) (hd k hk1) ?_
      refine v_callRi C (ci := 0) (vC := (RX1, TX1, 29)) (rest := []) (metX1_childT (zl z) (dr.getD k 0) T hn) (lw_V q136 q138 qs1 q17 q139) DX1_child (hR.lower (by decide)) (by decide) hP rfl rfl rfl (Nat.le_of_ble_eq_true rfl) rfl dX1_add_36 (fun r hr1 => ?_)
      refine v_iconst C (-1) (by decide) dX1_add_39 ?_
      refine v_icmp_eq C 61 dX1_add_40 (by decide) (fun c1 => ?_) (fun c1 => ?_)
      · have hnp : ¬ isPre D (dr.getD k 0 :: R node) = true := by
          rcases T.child hn (dr.getD k 0) with ⟨c, a1, a2, a3⟩ | ⟨a1, a2⟩
          · exact absurd (a3.symm.trans (hr1.symm.trans c1)) (nI_m1 (by omega))
          · exact a1
        have hc : com D dr D.length = k := by
          have h1 := hle k node (by omega) hn hr
          rw [hr, ← take_rev hk1] at hnp
          have h2 : ¬ k + 1 ≤ com D dr D.length := fun q => hnp ((com_pre (by omega)).mpr q)
          omega
        have := kk node hn (by rw [hc]; exact hr)
        rw [hc] at this
        exact this
      · rcases T.child hn (dr.getD k 0) with ⟨c, a1, a2, a3⟩ | ⟨a1, a2⟩
        · refine v_aload_n C dX1_add_43 rfl 0 rfl ?_
          refine v_iload_n C dX1_add_44 rfl 2 rfl ?_
          refine v_aload_n C dX1_add_45 rfl 0 rfl ?_
          refine kg15 C hP dX1_add_46 ?_
          refine v_iload_n C dX1_add_49 rfl 3 rfl ?_
          refine v_iinc C (k := 3) (nI (k + 1)) [1, 2, 3, 0] [(0, .ref g.1), (1, .int (nI dr.length)), (2, .int (nI node)), (3, .int (nI (k + 1)))] dX1_add_50 rfl (inc1 _) (by decide) rfl ?_
          refine ka15 C (k) hP (rfl) (by omega) dX1_add_53 ?_
          refine v_ei (y := dr.getD k 0) (hd k hk1) ?_
          refine v_callRi C (ci := 0) (vC := (RX1, TX1, 29)) (rest := []) (metX1_childT (zl z) (dr.getD k 0) T hn) (lw_V q136 q138 qs1 q17 q139) DX1_child (hR.lower (by decide)) (by decide) hP rfl rfl rfl (Nat.le_of_ble_eq_true rfl) rfl dX1_add_54 (fun r2 hr2 => ?_)
          refine v_ei (y := nI c) (hr2.trans a3) ?_
          refine v_istore_n C [1, 2, 0, 3] [(0, .ref g.1), (1, .int (nI dr.length)), (2, .int (nI c)), (3, .int (nI (k + 1)))] dX1_add_57 rfl (by decide) rfl ?_
          refine v_goto C 23 dX1_add_58 (by decide) ?_
          exact ih (k + 1) c (by omega) a1 (by rw [a2, hr, ← take_rev hk1])
        · exact absurd (hr1.trans a2) c1
theorem add_ins {z : ZZ} {E : EE} {g : GG} {x0 : DS} {A : Nat → Prop} {Q : State → Prop} {D : List Wd} {dr : Wd} {R0 : Nat → Wd} {N0 : Nat} (C : kC RX1 cX1_add 5 (some .int) E z) (hR : rmOK 1 (0, 0) z) (h40 : dr.length ≤ 40) (hd : ∀ k, k < dr.length → sA x0 15 k = dr.getD k 0) (hD : DOK D) : ∀ (j k node N : Nat) (R : Nat → Wd) (K : Nat → List Nat) (x : DS) (H : Heap) (locs : List Loc), k + j = dr.length → com D dr D.length ≤ k → node < N → R node = (dr.take k).reverse → Trie x N R K (SetK D dr k) → Wd1 x D N R → N + j ≤ 2000 → N0 ≤ N → (∀ n, n < N0 → R n = R0 n) → sI x 9 = nI N → kG x x0 → wH E (kW E g x) A z H locs → (∀ (node : Nat) (R : Nat → Wd) (K : Nat → List Nat) (u : DS) (H : Heap) (locs : List Loc), node < N + j → R node = dr.reverse → Trie u (N + j) R K (SetK D dr dr.length) → Wd1 u D (N + j) R → (∀ n, n < N0 → R n = R0 n) → sI u 9 = nI (N + j) → kG u x0 → wH E (kW E g u) A z H locs → V z (0, 0) H locs Q 161 [(0, .ref g.1), (1, .int (nI dr.length)), (2, .int (nI node)), (3, .int (nI dr.length))] []) → V z (0, 0) H locs Q 91 [(0, .ref g.1), (1, .int (nI dr.length)), (2, .int (nI node)), (3, .int (nI k))] [] := by
  intro j
  induction j with
  | zero =>
    intro k node N R K x H locs hk hc hn hr T hW hlim h0 hR0 h9 hG hH kk
    have hk : k = dr.length := by omega
    subst hk
    refine v_iload_n C dX1_add_91 rfl 3 rfl ?_
    refine v_iload_n C dX1_add_92 rfl 1 rfl ?_
    refine v_icmp_ge C 161 dX1_add_93 (by decide) (fun c0 => ?_) (fun c0 => ?_)
    · exact kk node R K x H locs hn (by rw [hr, List.take_length]) T hW hR0 h9 hG hH
    · exact absurd (Int32.le_refl _) c0
  | succ j ih =>
    intro k node N R K x H locs hk hc hn hr T hW hlim h0 hR0 h9 hG hH kk
    have hk1 : k < dr.length := by omega
    have hnew : ¬ SetK D dr k (dr.getD k 0 :: R node) := by rw [hr]; exact SetK_new hc hk1
    have hlen : (R node).length ≤ 40 := by rw [hr]; simp; omega
    refine v_iload_n C dX1_add_91 rfl 3 rfl ?_
    refine v_iload_n C dX1_add_92 rfl 1 rfl ?_
    refine v_icmp_ge C 161 dX1_add_93 (by decide) (fun c0 => ?_) (fun c0 => ?_)
    · exact absurd c0 (nI_ge hk1 (by omega))
    · refine v_aload_n C dX1_add_96 rfl 0 rfl ?_
      refine v_aload_n C dX1_add_97 rfl 0 rfl ?_
      refine kg9 C hH.1 dX1_add_98 ?_
      refine v_ei (y := nI N) (h9) ?_
      refine v_aload_n C dX1_add_101 rfl 0 rfl ?_
      refine kg15 C hH.1 dX1_add_102 ?_
      refine v_iload_n C dX1_add_105 rfl 3 rfl ?_
      refine ka15 C (k) hH.1 (rfl) (by omega) dX1_add_106 ?_
      refine v_ei (y := dr.getD k 0) ((congrFun (kD_A15 hG.2.1) k).trans (hd k hk1)) ?_
      refine v_aload_n C dX1_add_107 rfl 0 rfl ?_
      refine kg4 C hH.1 dX1_add_108 ?_
      refine v_iload_n C dX1_add_111 rfl 2 rfl ?_
      refine ka4 C (node) hH.1 (rfl) (by omega) dX1_add_112 ?_
      refine v_ei (y := nI (R node).length) (T.2.2.2.2.2.2.2.1 node hn) ?_
      refine v_iconst C 1 (by decide) dX1_add_113 ?_
      refine v_iadd C dX1_add_114 ?_
      refine v_ei (y := nI ((R node).length + 1)) (nI_1 _) ?_
      refine v_callWv C (ci := 0) (vC := (RX1, TX1, 29)) (rest := []) (metX1_clear (zl z) (n := N) (dr.getD k 0) (nI ((R node).length + 1)) (by omega)) (lw_V q34 q36 qs0 q17 q37) DX1_clear (hR.lower (by decide)) (by decide) hH rfl rfl rfl (Nat.le_of_ble_eq_true rfl) rfl dX1_add_115 (fun u H locs hu hH => ?_)
      subst hu
      refine v_aload_n C dX1_add_118 rfl 0 rfl ?_
      refine kg3 C hH.1 dX1_add_119 ?_
      refine v_aload_n C dX1_add_122 rfl 0 rfl ?_
      refine kg9 C hH.1 dX1_add_123 ?_
      refine v_ei (show sI (pA (pA (pA (pA (pA x 1 N (dr.getD k 0)) 2 N (-1)) 3 N (-1)) 4 N (nI ((R node).length + 1))) 5 N (-1)) 9 = sI x 9 from rfl) ?_
      refine v_ei (y := nI N) (h9) ?_
      refine v_aload_n C dX1_add_126 rfl 0 rfl ?_
      refine kg2 C hH.1 dX1_add_127 ?_
      refine v_iload_n C dX1_add_130 rfl 2 rfl ?_
      refine ka2 C (node) hH.1 (rfl) (by omega) dX1_add_131 ?_
      refine v_ei (show sA (pA (pA (pA (pA (pA x 1 N (dr.getD k 0)) 2 N (-1)) 3 N (-1)) 4 N (nI ((R node).length + 1))) 5 N (-1)) 2 node = upd (sA x 2) N (-1) node from rfl) ?_
      refine v_ei (y := sA x 2 node) (upd_ne (by omega)) ?_
      refine ks3 C (N) hH (rfl) (by omega) dX1_add_132 (fun H locs hH => ?_)
      refine v_aload_n C dX1_add_133 rfl 0 rfl ?_
      refine kg2 C hH.1 dX1_add_134 ?_
      refine v_iload_n C dX1_add_137 rfl 2 rfl ?_
      refine v_aload_n C dX1_add_138 rfl 0 rfl ?_
      refine kg9 C hH.1 dX1_add_139 ?_
      refine v_ei (show sI (pA (pA (pA (pA (pA (pA x 1 N (dr.getD k 0)) 2 N (-1)) 3 N (-1)) 4 N (nI ((R node).length + 1))) 5 N (-1)) 3 N (sA x 2 node)) 9 = sI x 9 from rfl) ?_
      refine v_ei (y := nI N) (h9) ?_
      refine ks2 C (node) hH (rfl) (by omega) dX1_add_142 (fun H locs hH => ?_)
      refine v_aload_n C dX1_add_143 rfl 0 rfl ?_
      refine v_dup C rfl dX1_add_144 ?_
      refine kg9 C hH.1 dX1_add_145 ?_
      refine v_ei (show sI (pA (pA (pA (pA (pA (pA (pA x 1 N (dr.getD k 0)) 2 N (-1)) 3 N (-1)) 4 N (nI ((R node).length + 1))) 5 N (-1)) 3 N (sA x 2 node)) 2 node (nI N)) 9 = sI x 9 from rfl) ?_
      refine v_ei (y := nI N) (h9) ?_
      refine v_dup_x1 C rfl rfl dX1_add_148 ?_
      refine v_iconst C 1 (by decide) dX1_add_149 ?_
      refine v_iadd C dX1_add_150 ?_
      refine v_ei (y := nI (N + 1)) (nI_1 _) ?_
      refine kp9 C hH dX1_add_151 (fun H locs hH => ?_)
      refine v_istore_n C [1, 2, 0, 3] [(0, .ref g.1), (1, .int (nI dr.length)), (2, .int (nI N)), (3, .int (nI k))] dX1_add_154 rfl (by decide) rfl ?_
      refine v_iinc C (k := 3) (nI (k + 1)) [1, 2, 3, 0] [(0, .ref g.1), (1, .int (nI dr.length)), (2, .int (nI N)), (3, .int (nI (k + 1)))] dX1_add_155 rfl (inc1 _) (by decide) rfl ?_
      refine v_goto C 91 dX1_add_158 (by decide) ?_
      refine ih (k + 1) N (N + 1) (va_up R N (dr.getD k 0 :: R node)) (va_up (va_up K N []) node (N :: K node)) (pI (pA (pA (pA (pA (pA (pA (pA x 1 N (dr.getD k 0)) 2 N (-1)) 3 N (-1)) 4 N (nI ((R node).length + 1))) 5 N (-1)) 3 N (sA x 2 node)) 2 node (nI N)) 9 (nI (N + 1))) H locs (by omega) (by omega) (by omega) (by rw [va_up_self, hr, take_rev hk1]) ?_ ?_ (by omega) (by omega) (fun n h => by rw [va_up_ne _ _ (by omega)]; exact hR0 n h) rfl hG hH ?_
      · exact T.insert hn (by omega) (fun a r => SetK_tail) hnew (fun r => by rw [SetK_succ hk1, hr]) rfl rfl rfl rfl
      · exact hW.insert (by cases hp : isPre D (dr.getD k 0 :: R node) with | false => rfl | true => exact absurd (Or.inl hp) hnew) rfl rfl
      · rw [show N + 1 + j = N + (j + 1) by omega]; exact kk
theorem add_last {z : ZZ} {E : EE} {g : GG} {x : DS} {Q : State → Prop} {H : Heap} {locs : List Loc} {v1 v2 v3 : Int32} (C : kC RX1 cX1_add 5 (some .int) E z) (hP : wP E (kW E g x) H) : ∀ (l : List Nat) (c : Int32) (e : Nat), l.getLast? = some e → chain (sA x 11) c l → (∀ w, w ∈ l → w < 60) → V z (0, 0) H locs Q 235 [(0, .ref g.1), (1, .int v1), (2, .int v2), (3, .int v3), (4, .int (nI e))] [] → V z (0, 0) H locs Q 212 [(0, .ref g.1), (1, .int v1), (2, .int v2), (3, .int v3), (4, .int c)] [] := by
  intro l
  induction l with
  | nil => intro c e he; simp at he
  | cons w t ih =>
    intro c e he hc hw kk
    obtain ⟨hc1, hc2⟩ := hc
    subst hc1
    have hw1 : w < 60 := hw w List.mem_cons_self
    cases t with
    | nil =>
      have e1 : w = e := by simpa using he
      subst e1
      have hc2 : sA x 11 w = -1 := hc2
      refine v_aload_n C dX1_add_212 rfl 0 rfl ?_
      refine kg11 C hP dX1_add_213 ?_
      refine v_iload C dX1_add_216 4 rfl ?_
      refine ka11 C (w) hP (rfl) (by first | assumption | omega) dX1_add_218 ?_
      refine v_iconst C (-1) (by decide) dX1_add_219 ?_
      refine v_icmp_eq C 235 dX1_add_220 (by decide) (fun c0 => ?_) (fun c0 => ?_)
      · exact kk
      · exact absurd hc2 c0
    | cons v t =>
      have hv : v < 60 := hw v (by simp)
      have he2 : (v :: t).getLast? = some e := by simpa using he
      have hcv : sA x 11 w = nI v := hc2.1
      refine v_aload_n C dX1_add_212 rfl 0 rfl ?_
      refine kg11 C hP dX1_add_213 ?_
      refine v_iload C dX1_add_216 4 rfl ?_
      refine ka11 C (w) hP (rfl) (by first | assumption | omega) dX1_add_218 ?_
      refine v_ei (y := nI v) (hcv) ?_
      refine v_iconst C (-1) (by decide) dX1_add_219 ?_
      refine v_icmp_eq C 235 dX1_add_220 (by decide) (fun c0 => ?_) (fun c0 => ?_)
      · exact absurd c0 (nI_m1 (by omega))
      · refine v_aload_n C dX1_add_223 rfl 0 rfl ?_
        refine kg11 C hP dX1_add_224 ?_
        refine v_iload C dX1_add_227 4 rfl ?_
        refine ka11 C (w) hP (rfl) (by first | assumption | omega) dX1_add_229 ?_
        refine v_istore C [1, 2, 3, 4, 0] [(0, .ref g.1), (1, .int v1), (2, .int v2), (3, .int v3), (4, .int (sA x 11 w))] dX1_add_230 (by decide) rfl ?_
        refine v_goto C 212 dX1_add_232 (by decide) ?_
        exact ih (sA x 11 w) e he2 hc2 (fun k hk => hw k (List.mem_cons_of_mem _ hk)) kk
theorem add_hang {z : ZZ} {E : EE} {g : GG} {x x0 : DS} {A : Nat → Prop} {H : Heap} {locs : List Loc} {D : List Wd} {dr : Wd} {R R0 : Nat → Wd} {K : Nat → List Nat} {N0 N rm node : Nat} {bt : Bool} {v3 : Int32} (C : kC RX1 cX1_add 5 (some .int) E z) (hbt : bt = false) (ha : acd D dr N0 rm) (eN : N0 + dr.length - com D dr D.length = N) (h40 : dr.length ≤ 40) (hD : DOK D) (hrm : rm ≤ 2000) (h0 : sI x0 0 = nI rm) (h10 : sI x0 10 = bI bt) (h14 : sI x0 14 = nI D.length) (hl : ∀ w, w < D.length → sA x0 12 w = nI (D.getD w []).length) (hn : node < N) (hr : R node = dr.reverse) (T : Trie x N R K (SetK D dr dr.length)) (hW : Wd1 x D N R) (hR0 : ∀ n, n < N0 → R n = R0 n) (h9 : sI x 9 = nI N) (hG : kG x (pI x0 16 0)) (hH : wH E (kW E g x) A z H locs) : V z (0, 0) H locs (QWi z E (kW E g) A (fun r u => (bt = true → r = -1 ∧ u = x0) ∧ (bt = false → ¬ acd D dr N0 rm → r = -1 ∧ u = pI x0 16 0) ∧ (bt = false → acd D dr N0 rm → r = nI D.length ∧ (∃ (R : Nat → Wd) (K : Nat → List Nat), kDict u (D ++ [dr]) false (N0 + dr.length - com D dr D.length) rm R K ∧ ∀ n, n < N0 → R n = R0 n) ∧ kDr u [] ∧ kX u = kX x0 ∧ kP u = kP x0 ∧ kY u = kY x0 ∧ kF u = kF x0))) 161 [(0, .ref g.1), (1, .int (nI dr.length)), (2, .int (nI node)), (3, .int v3)] [] := by
  have hN := T.1.2
  have h60 := hD.1
  have hwc : D.length < 60 := by have := ha.2.1; omega
  have e14 : sI x 14 = nI D.length := (kI_I14 hG.1).trans h14
  have hl2 : ∀ w, w < D.length → sA x 12 w = nI (D.getD w []).length := fun w hw => (congrFun (kI_A12 hG.1) w).trans (hl w hw)
  have fin : ∀ u : DS, Wds u (D ++ [dr]) N R → sA u 1 = sA x 1 → sA u 2 = sA x 2 → sA u 3 = sA x 3 → sA u 4 = sA x 4 → sI u 9 = sI x 9 → sI u 0 = sI x 0 → sI u 10 = sI x 10 → sI u 14 = nI (D.length + 1) → kD u = kD x → kX u = kX x → kP u = kP x → kY u = kY x → kF u = kF x → (fun r u => (bt = true → r = -1 ∧ u = x0) ∧ (bt = false → ¬ acd D dr N0 rm → r = -1 ∧ u = pI x0 16 0) ∧ (bt = false → acd D dr N0 rm → r = nI D.length ∧ (∃ (R : Nat → Wd) (K : Nat → List Nat), kDict u (D ++ [dr]) false (N0 + dr.length - com D dr D.length) rm R K ∧ ∀ n, n < N0 → R n = R0 n) ∧ kDr u [] ∧ kX u = kX x0 ∧ kP u = kP x0 ∧ kY u = kY x0 ∧ kF u = kF x0)) (nI D.length) u := by
    intro u w1 a1 a2 a3 a4 a5 a6 a7 a8 b1 b2 b3 b4 b5
    refine ⟨fun q => absurd (hbt.symm.trans q) (by decide), fun _ q => absurd ha q, fun _ _ => ⟨rfl, ⟨R, K, ⟨?_, by rw [eN]; exact w1, hD.add ha.2.1 ha.1 h40, ⟨(a6.trans (kI_I0 hG.1)).trans h0, ha.2.2, hrm⟩, by rw [eN]; exact a5.trans h9, ?_, ?_, fun q => absurd q (by decide)⟩, hR0⟩, ?_, b2.trans hG.2.2.1, b3.trans hG.2.2.2.1, b4.trans hG.2.2.2.2.1, b5.trans hG.2.2.2.2.2⟩⟩
    · rw [eN]
      have T2 := T.setS (S' := PreS_ (D ++ [dr])) (fun r => SetK_all.symm)
      unfold Trie at T2 ⊢
      rw [a1, a2, a3, a4]
      exact T2
    · rw [a7, kI_I10 hG.1, show sI (pI x0 16 0) 10 = sI x0 10 from rfl, h10, hbt]
    · rw [a8]; simp
    · refine ⟨?_, Nat.zero_le _, fun k hk => absurd hk (Nat.not_lt_zero _)⟩
      rw [kD_I16 b1, kD_I16 hG.2.1]; rfl
  refine v_aload_n C dX1_add_161 rfl 0 rfl ?_
  refine kg11 C hH.1 dX1_add_162 ?_
  refine v_aload_n C dX1_add_165 rfl 0 rfl ?_
  refine kg14 C hH.1 dX1_add_166 ?_
  refine v_ei (y := nI D.length) (e14) ?_
  refine v_iconst C (-1) (by decide) dX1_add_169 ?_
  refine ks11 C (D.length) hH (rfl) (hwc) dX1_add_170 (fun H locs hH => ?_)
  refine v_aload_n C dX1_add_171 rfl 0 rfl ?_
  refine kg12 C hH.1 dX1_add_172 ?_
  refine v_aload_n C dX1_add_175 rfl 0 rfl ?_
  refine kg14 C hH.1 dX1_add_176 ?_
  refine v_ei (show sI (pA x 11 D.length (-1)) 14 = sI x 14 from rfl) ?_
  refine v_ei (y := nI D.length) (e14) ?_
  refine v_iload_n C dX1_add_179 rfl 1 rfl ?_
  refine ks12 C (D.length) hH (rfl) (hwc) dX1_add_180 (fun H locs hH => ?_)
  refine v_aload_n C dX1_add_181 rfl 0 rfl ?_
  refine kg5 C hH.1 dX1_add_182 ?_
  refine v_iload_n C dX1_add_185 rfl 2 rfl ?_
  refine ka5 C (node) hH.1 (rfl) (by omega) dX1_add_186 ?_
  refine v_ei (show sA (pA (pA x 11 D.length (-1)) 12 D.length (nI dr.length)) 5 node = sA x 5 node from rfl) ?_
  refine v_iconst C (-1) (by decide) dX1_add_187 ?_
  refine v_icmp_ne C 204 dX1_add_188 (by decide) (fun c0 => ?_) (fun c0 => ?_)
  · have hch := hW node hn
    cases ho : (occ D (R node)).getLast? with
    | none =>
      rw [List.getLast?_eq_none_iff.mp ho] at hch
      exact absurd hch c0
    | some e =>
      have he := (mem_occ.mp (List.mem_of_getLast? ho)).1
      have hch2 : chain (sA (pA (pA x 11 D.length (-1)) 12 D.length (nI dr.length)) 11) (sA x 5 node) (occ D (R node)) := chain_congr _ _ (fun w hw => by have := (mem_occ.mp hw).1; rw [show sA (pA (pA x 11 D.length (-1)) 12 D.length (nI dr.length)) 11 = upd (sA x 11) D.length (-1) from rfl, upd_ne (by omega)]) hch
      refine v_aload_n C dX1_add_204 rfl 0 rfl ?_
      refine kg5 C hH.1 dX1_add_205 ?_
      refine v_iload_n C dX1_add_208 rfl 2 rfl ?_
      refine ka5 C (node) hH.1 (rfl) (by omega) dX1_add_209 ?_
      refine v_ei (show sA (pA (pA x 11 D.length (-1)) 12 D.length (nI dr.length)) 5 node = sA x 5 node from rfl) ?_
      refine v_istore C [1, 2, 3, 4, 0] [(0, .ref g.1), (1, .int (nI dr.length)), (2, .int (nI node)), (3, .int v3), (4, .int (sA x 5 node))] dX1_add_210 (by decide) rfl ?_
      refine add_last C hH.1 _ _ e ho hch2 (fun w hw => by have := (mem_occ.mp hw).1; omega) ?_
      refine v_aload_n C dX1_add_235 rfl 0 rfl ?_
      refine kg11 C hH.1 dX1_add_236 ?_
      refine v_iload C dX1_add_239 4 rfl ?_
      refine v_aload_n C dX1_add_241 rfl 0 rfl ?_
      refine kg14 C hH.1 dX1_add_242 ?_
      refine v_ei (show sI (pA (pA x 11 D.length (-1)) 12 D.length (nI dr.length)) 14 = sI x 14 from rfl) ?_
      refine v_ei (y := nI D.length) (e14) ?_
      refine ks11 C (e) hH (rfl) (by omega) dX1_add_245 (fun H locs hH => ?_)
      refine v_aload_n C dX1_add_246 rfl 0 rfl ?_
      refine v_dup C rfl dX1_add_247 ?_
      refine kg14 C hH.1 dX1_add_248 ?_
      refine v_ei (show sI (pA (pA (pA x 11 D.length (-1)) 12 D.length (nI dr.length)) 11 e (nI D.length)) 14 = sI x 14 from rfl) ?_
      refine v_ei (y := nI D.length) (e14) ?_
      refine v_dup_x1 C rfl rfl dX1_add_251 ?_
      refine v_iconst C 1 (by decide) dX1_add_252 ?_
      refine v_iadd C dX1_add_253 ?_
      refine v_ei (y := nI (D.length + 1)) (nI_1 _) ?_
      refine kp14 C hH dX1_add_254 (fun H locs hH => ?_)
      exact v_iretW C hH (fin _ (Wds.later hW hl2 hn T.2.2.1 hr ho rfl rfl rfl) rfl rfl rfl rfl rfl rfl rfl rfl rfl rfl rfl rfl rfl) dX1_add_257
  · refine v_aload_n C dX1_add_191 rfl 0 rfl ?_
    refine kg5 C hH.1 dX1_add_192 ?_
    refine v_iload_n C dX1_add_195 rfl 2 rfl ?_
    refine v_aload_n C dX1_add_196 rfl 0 rfl ?_
    refine kg14 C hH.1 dX1_add_197 ?_
    refine v_ei (show sI (pA (pA x 11 D.length (-1)) 12 D.length (nI dr.length)) 14 = sI x 14 from rfl) ?_
    refine v_ei (y := nI D.length) (e14) ?_
    refine ks5 C (node) hH (rfl) (by omega) dX1_add_200 (fun H locs hH => ?_)
    refine v_goto C 246 dX1_add_201 (by decide) ?_
    refine v_aload_n C dX1_add_246 rfl 0 rfl ?_
    refine v_dup C rfl dX1_add_247 ?_
    refine kg14 C hH.1 dX1_add_248 ?_
    refine v_ei (show sI (pA (pA (pA x 11 D.length (-1)) 12 D.length (nI dr.length)) 5 node (nI D.length)) 14 = sI x 14 from rfl) ?_
    refine v_ei (y := nI D.length) (e14) ?_
    refine v_dup_x1 C rfl rfl dX1_add_251 ?_
    refine v_iconst C 1 (by decide) dX1_add_252 ?_
    refine v_iadd C dX1_add_253 ?_
    refine v_ei (y := nI (D.length + 1)) (nI_1 _) ?_
    refine kp14 C hH dX1_add_254 (fun H locs hH => ?_)
    exact v_iretW C hH (fin _ (Wds.first hW hl2 h60 hn T.2.2.1 hr c0 rfl rfl rfl) rfl rfl rfl rfl rfl rfl rfl rfl rfl rfl rfl rfl rfl) dX1_add_257
/-- add(): the draft is a word more -/
theorem metX1_add (l : Launch) {E : EE} {g : GG} {x : DS} {D : List Wd} {dr : Wd} {bt : Bool} {N rm : Nat} {R : Nat → Wd} {K : Nat → List Nat} (hD : kDict x D bt N rm R K) (hd : kDr x dr) : MWi l yX1_add cX1_add 5 (some .int) 1 E (kW E g) x [.ref g.1] (fun r u => (bt = true → r = -1 ∧ u = x) ∧ (bt = false → ¬ acd D dr N rm → r = -1 ∧ u = pI x 16 0) ∧ (bt = false → acd D dr N rm → r = nI D.length ∧ (∃ (R' : Nat → Wd) (K : Nat → List Nat), kDict u (D ++ [dr]) false (N + dr.length - com D dr D.length) rm R' K ∧ ∀ n, n < N → R' n = R n) ∧ kDr u [] ∧ kX u = kX x ∧ kP u = kP x ∧ kY u = kY x ∧ kF u = kF x)) := by
  refine MWi.start (own := RX1) (by decide) rfl (Nat.le_of_ble_eq_true rfl) ?_
  intro z A hz C hR hH
  show V z (0, 0) _ [] _ 0 [(0, .ref g.1)] []
  obtain ⟨T, hW, hDD, ⟨h0, hNr, hrm⟩, h9, h10, h14, hLk⟩ := hD
  obtain ⟨h16, h40, hdk⟩ := hd
  have hN := T.1.2
  have hcl := com_le (D := D) (d := dr) D.length
  have h60 := hDD.1
  refine v_aload_n C dX1_add_0 rfl 0 rfl ?_
  refine kg10 C hH.1 dX1_add_1 ?_
  refine v_ei (y := bI bt) (h10) ?_
  refine v_if_eq C 9 dX1_add_4 (by decide) (fun c0 => ?_) (fun c0 => ?_)
  · have hbt : bt = false := by cases bt with
      | false => rfl
      | true => exact absurd c0 (by decide)
    refine v_aload_n C dX1_add_9 rfl 0 rfl ?_
    refine kg16 C hH.1 dX1_add_10 ?_
    refine v_ei (y := nI dr.length) (h16) ?_
    refine v_istore_n C [1, 0] [(0, .ref g.1), (1, .int (nI dr.length))] dX1_add_13 rfl (by decide) rfl ?_
    refine v_aload_n C dX1_add_14 rfl 0 rfl ?_
    refine v_iconst C 0 (by decide) dX1_add_15 ?_
    refine kp16 C hH dX1_add_16 (fun H locs hH => ?_)
    refine v_iconst C 0 (by decide) dX1_add_19 ?_
    refine v_istore_n C [1, 2, 0] [(0, .ref g.1), (1, .int (nI dr.length)), (2, .int 0)] dX1_add_20 rfl (by decide) rfl ?_
    refine v_iconst C 0 (by decide) dX1_add_21 ?_
    refine v_istore_n C [1, 2, 3, 0] [(0, .ref g.1), (1, .int (nI dr.length)), (2, .int 0), (3, .int 0)] dX1_add_22 rfl (by decide) rfl ?_
    refine add_far (N := N) (R := R) (K := K) (D := D) (dr := dr) C hR hH.1 T h40 hdk ?_ dr.length 0 0 (by omega) T.1.1 (by rw [T.2.1]; rfl)
    intro node hn hr
    have hno : ¬ acd D dr N rm → V z (0, 0) H locs (QWi z E (kW E g) A (fun r u => (bt = true → r = -1 ∧ u = x) ∧ (bt = false → ¬ acd D dr N rm → r = -1 ∧ u = pI x 16 0) ∧ (bt = false → acd D dr N rm → r = nI D.length ∧ (∃ (R' : Nat → Wd) (K : Nat → List Nat), kDict u (D ++ [dr]) false (N + dr.length - com D dr D.length) rm R' K ∧ ∀ n, n < N → R' n = R n) ∧ kDr u [] ∧ kX u = kX x ∧ kP u = kP x ∧ kY u = kY x ∧ kF u = kF x))) 89 [(0, .ref g.1), (1, .int (nI dr.length)), (2, .int (nI node)), (3, .int (nI (com D dr D.length)))] [] := by
      intro hna
      refine v_iconst C (-1) (by decide) dX1_add_89 ?_
      exact v_iretW C hH ⟨fun q => absurd (hbt.symm.trans q) (by decide), fun _ _ => ⟨rfl, rfl⟩, fun _ q => absurd q hna⟩ dX1_add_90
    refine v_iload_n C dX1_add_61 rfl 1 rfl ?_
    refine v_if_eq C 89 dX1_add_62 (by decide) (fun c1 => ?_) (fun c1 => ?_)
    · exact hno (fun q => q.1 (List.length_eq_zero_iff.mp ((nI_eq (by omega) (by decide)).mp (c1.trans nI_0.symm))))
    · refine v_aload_n C dX1_add_65 rfl 0 rfl ?_
      refine kg14 C hH.1 dX1_add_66 ?_
      refine v_ei (show sI (pI x 16 0) 14 = sI x 14 from rfl) ?_
      refine v_ei (y := nI D.length) (h14) ?_
      refine v_bipush C 60 (by decide) dX1_add_69 ?_
      refine v_icmp_eq C 89 dX1_add_71 (by decide) (fun c2 => ?_) (fun c2 => ?_)
      · exact hno (fun q => q.2.1 ((nI_eq (by omega) (by decide)).mp c2))
      · refine v_aload_n C dX1_add_74 rfl 0 rfl ?_
        refine kg9 C hH.1 dX1_add_75 ?_
        refine v_ei (show sI (pI x 16 0) 9 = sI x 9 from rfl) ?_
        refine v_ei (y := nI N) (h9) ?_
        refine v_iload_n C dX1_add_78 rfl 1 rfl ?_
        refine v_iadd C dX1_add_79 ?_
        refine v_ei (y := nI (N + dr.length)) (nI_add _ _) ?_
        refine v_iload_n C dX1_add_80 rfl 3 rfl ?_
        refine v_isub C dX1_add_81 ?_
        refine v_ei (y := nI (N + dr.length - com D dr D.length)) (pk_sub (by omega)) ?_
        refine v_aload_n C dX1_add_82 rfl 0 rfl ?_
        refine kg0 C hH.1 dX1_add_83 ?_
        refine v_ei (show sI (pI x 16 0) 0 = sI x 0 from rfl) ?_
        refine v_ei (y := nI rm) (h0) ?_
        refine v_icmp_le C 91 dX1_add_86 (by decide) (fun c3 => ?_) (fun c3 => ?_)
        · have ha : acd D dr N rm := ⟨fun q => c1 (by rw [q]; rfl), fun q => c2 (by rw [q]; rfl), (nI_leI (by omega) (by omega)).mp c3⟩
          have ha3 := ha.2.2
          refine add_ins (x0 := pI x 16 0) (N0 := N) (R0 := R) C hR h40 hdk hDD (dr.length - com D dr D.length) (com D dr D.length) node N R K (pI x 16 0) H locs (by omega) (Nat.le_refl _) hn hr ?_ (hW.1) (by omega) (Nat.le_refl _) (fun n _ => rfl) h9 ⟨rfl, rfl, rfl, rfl, rfl, rfl⟩ hH ?_
          · exact Trie.congr (x := x) rfl (T.setS (fun r => SetK_com (Nat.le_refl _)))
          · intro node R2 K2 u H locs hn2 hr2 T2 hW2 hR2 h92 hG2 hH2
            have eN : N + dr.length - com D dr D.length = N + (dr.length - com D dr D.length) := by omega
            exact add_hang (R0 := R) (N0 := N) C hbt ha eN h40 hDD hrm h0 h10 h14 hW.2 hn2 hr2 T2 hW2 hR2 h92 hG2 hH2
        · exact hno (fun q => c3 ((nI_leI (by omega) (by omega)).mpr q.2.2))
  · have hbt : bt = true := by cases bt with
      | false => exact absurd rfl c0
      | true => rfl
    refine v_iconst C (-1) (by decide) dX1_add_7 ?_
    exact v_iretW C hH ⟨fun _ => ⟨rfl, rfl⟩, fun e => absurd (hbt.symm.trans e) (by decide), fun e => absurd (hbt.symm.trans e) (by decide)⟩ dX1_add_8
end
section
/-! Building by breadth, plainly -/
theorem pigeon {q : Nat → Nat} {m N : Nat} (h1 : ∀ i, i < m → q i < N) (h2 : ∀ i j, i < m → j < m → q i = q j → i = j) : m ≤ N := by
  have hn : ((List.range m).map q).Nodup := by
    rw [List.nodup_iff_pairwise_ne, List.pairwise_map]
    have h3 : (List.range m).Nodup := List.nodup_range
    rw [List.nodup_iff_pairwise_ne] at h3
    refine List.Pairwise.imp_of_mem ?_ h3
    intro a b ha hb hab e
    exact hab (h2 a b (List.mem_range.mp ha) (List.mem_range.mp hb) e)
  have := List.Nodup.length_le_of_subset (l₂ := List.range N) hn (fun v hv => by
    obtain ⟨i, h3, h4⟩ := List.mem_map.mp hv
    rw [← h4]
    exact List.mem_range.mpr (h1 i (List.mem_range.mp h3)))
  simpa using this
def inQ (q : Nat → Nat) (last : Nat) (n : Nat) : Prop := ∃ i, i < last ∧ q i = n
/-- the row q of nodes, the one at 'first' is looked at, of its children those of dn have come -/
def BF (x : DS) (D : List Wd) (N : Nat) (R : Nat → Wd) (K : Nat → List Nat) (q : Nat → Nat) (first last : Nat) (dn : List Nat) : Prop :=
  first < last ∧ q 0 = 0 ∧ (∀ i, i < last → q i < N ∧ sA x 8 i = nI (q i)) ∧ (∀ i j, i < last → j < last → q i = q j → i = j) ∧ (∀ i j, i ≤ j → j < last → (R (q i)).length ≤ (R (q j)).length) ∧ (∀ i, i < last → q i ≠ 0 → (∃ p, p < first ∧ q i ∈ K (q p)) ∨ q i ∈ dn) ∧ (∀ p c, p < first → c ∈ K (q p) → inQ q last c) ∧ (∀ c, c ∈ dn → inQ q last c) ∧ (∀ j, j < last → (R (q j)).length ≤ (R (q first)).length + 1) ∧ LnkU x D N R (inQ q last) ∧ WhlU x D N R (inQ q last)
theorem BF.lastN {x : DS} {D : List Wd} {N : Nat} {R : Nat → Wd} {K : Nat → List Nat} {q : Nat → Nat} {first last : Nat} {dn : List Nat} (h : BF x D N R K q first last dn) : last ≤ N := pigeon (fun i hi => (h.2.2.1 i hi).1) h.2.2.2.1
theorem Trie.par {x : DS} {N : Nat} {R : Nat → Wd} {K : Nat → List Nat} {D : List Wd} (T : Trie x N R K (PreS_ D)) {v : Nat} (hv : v < N) (hne : R v ≠ []) : ∃ p, p < N ∧ v ∈ K p ∧ (R v).length = (R p).length + 1 := by
  obtain ⟨h1, h2, h3, h4, h5, h6, h7, h8, h9⟩ := T
  cases hr : R v with
  | nil => exact absurd hr hne
  | cons b r =>
    have := isPre_tail ((h9 _).mpr ⟨v, hv, hr⟩)
    obtain ⟨p, p1, p2⟩ := (h9 _).mp this
    exact ⟨p, p1, (h6 p v p1).mpr ⟨hv, b, by rw [hr, p2]⟩, by rw [p2]; simp⟩
/-- whoever is not longer than the one looked at has come -/
theorem BF.come {x : DS} {D : List Wd} {N : Nat} {R : Nat → Wd} {K : Nat → List Nat} {q : Nat → Nat} {first last : Nat} {dn : List Nat} (h : BF x D N R K q first last dn) (T : Trie x N R K (PreS_ D)) : ∀ (m v : Nat), (R v).length ≤ m → v < N → (R v).length ≤ (R (q first)).length → inQ q last v := by
  obtain ⟨b1, b2, b3, b4, b5, b6, b7, b8, b9, b10, b11⟩ := h
  intro m
  induction m with
  | zero =>
    intro v hm hv hl
    have h0 : R v = [] := List.length_eq_zero_iff.mp (by omega)
    have : v = 0 := T.2.2.1 v 0 hv T.1.1 (h0.trans T.2.1.symm)
    exact ⟨0, by omega, by rw [b2, this]⟩
  | succ m ih =>
    intro v hm hv hl
    by_cases hne : R v = []
    · have : v = 0 := T.2.2.1 v 0 hv T.1.1 (hne.trans T.2.1.symm)
      exact ⟨0, by omega, by rw [b2, this]⟩
    · obtain ⟨p, p1, p2, p3⟩ := T.par hv hne
      obtain ⟨i, i1, i2⟩ := ih p (by omega) p1 (by omega)
      have hi : i < first := by
        refine Nat.lt_of_not_le (fun q' => ?_)
        have := b5 first i q' i1
        rw [i2] at this
        omega
      exact b7 i v hi (by rw [i2]; exact p2)
/-- all have come -/
theorem BF.all {x : DS} {D : List Wd} {N : Nat} {R : Nat → Wd} {K : Nat → List Nat} {q : Nat → Nat} {first last : Nat} (h : BF x D N R K q first last (K (q first))) (hl : ¬ first + 1 < last) (T : Trie x N R K (PreS_ D)) : ∀ (m v : Nat), (R v).length ≤ m → v < N → inQ q last v := by
  obtain ⟨b1, b2, b3, b4, b5, b6, b7, b8, b9, b10, b11⟩ := h
  intro m
  induction m with
  | zero =>
    intro v hm hv
    have h0 : R v = [] := List.length_eq_zero_iff.mp (by omega)
    have : v = 0 := T.2.2.1 v 0 hv T.1.1 (h0.trans T.2.1.symm)
    exact ⟨0, by omega, by rw [b2, this]⟩
  | succ m ih =>
    intro v hm hv
    by_cases hne : R v = []
    · have : v = 0 := T.2.2.1 v 0 hv T.1.1 (hne.trans T.2.1.symm)
      exact ⟨0, by omega, by rw [b2, this]⟩
    · obtain ⟨p, p1, p2, p3⟩ := T.par hv hne
      obtain ⟨i, i1, i2⟩ := ih p (by omega) p1
      by_cases hi : i < first
      · exact b7 i v hi (by rw [i2]; exact p2)
      · have : i = first := by omega
        subst this
        exact b8 v (by rw [i2]; exact p2)
theorem BF.lnk {x : DS} {D : List Wd} {N : Nat} {R : Nat → Wd} {K : Nat → List Nat} {q : Nat → Nat} {first last : Nat} (h : BF x D N R K q first last (K (q first))) (hl : ¬ first + 1 < last) (T : Trie x N R K (PreS_ D)) : Lnk x D N R :=
  ⟨fun n hn _ => h.2.2.2.2.2.2.2.2.2.1 n hn (h.all hl T _ n (Nat.le_refl _) hn), fun n hn _ => h.2.2.2.2.2.2.2.2.2.2 n hn (h.all hl T _ n (Nat.le_refl _) hn)⟩
theorem BF.next {x : DS} {D : List Wd} {N : Nat} {R : Nat → Wd} {K : Nat → List Nat} {q : Nat → Nat} {first last : Nat} (h : BF x D N R K q first last (K (q first))) (hl : first + 1 < last) : BF x D N R K q (first + 1) last [] := by
  obtain ⟨b1, b2, b3, b4, b5, b6, b7, b8, b9, b10, b11⟩ := h
  refine ⟨hl, b2, b3, b4, b5, fun i hi hne => ?_, fun p c hp hc => ?_, fun c hc => absurd hc List.not_mem_nil, fun j hj => ?_, b10, b11⟩
  · rcases b6 i hi hne with ⟨p, p1, p2⟩ | p
    · exact Or.inl ⟨p, by omega, p2⟩
    · exact Or.inl ⟨first, by omega, p⟩
  · by_cases e : p = first
    · subst e; exact b8 c hc
    · exact b7 p c (by omega) hc
  · have h1 := b9 j hj
    have h2 := b5 first (first + 1) (by omega) hl
    omega
/-- a child that hasn't come is not in the row, and there is room for it -/
theorem BF.fresh {x : DS} {D : List Wd} {N : Nat} {R : Nat → Wd} {K : Nat → List Nat} {q : Nat → Nat} {first last c : Nat} {dn rest : List Nat} (h : BF x D N R K q first last dn) (T : Trie x N R K (PreS_ D)) (hK : K (q first) = dn ++ c :: rest) : ∀ i, i < last → q i ≠ c := by
  obtain ⟨b1, b2, b3, b4, b5, b6, b7, b8, b9, b10, b11⟩ := h
  have hf := (b3 first b1).1
  have hcm : c ∈ K (q first) := by rw [hK]; simp
  obtain ⟨hcN, b, hRc⟩ := (T.2.2.2.2.2.1 (q first) c hf).mp hcm
  have hnd := T.2.2.2.2.1 (q first) hf
  rw [hK] at hnd
  have hc0 : c ≠ 0 := by
    intro e
    rw [e, T.2.1] at hRc
    cases hRc
  intro i hi e
  rcases b6 i hi (by rw [e]; exact hc0) with ⟨p, p1, p2⟩ | p
  · rw [e] at p2
    have hp := (b3 p (by omega)).1
    obtain ⟨-, b', hb'⟩ := (T.2.2.2.2.2.1 (q p) c hp).mp p2
    rw [hRc] at hb'
    injection hb' with e1 e2
    have := b4 first p b1 (by omega) (T.2.2.1 _ _ hf hp e2)
    omega
  · rw [e] at p
    exact (List.nodup_append.mp hnd).2.2 c p c List.mem_cons_self rfl
theorem BF.room {x : DS} {D : List Wd} {N : Nat} {R : Nat → Wd} {K : Nat → List Nat} {q : Nat → Nat} {first last c : Nat} {dn rest : List Nat} (h : BF x D N R K q first last dn) (T : Trie x N R K (PreS_ D)) (hK : K (q first) = dn ++ c :: rest) (hc : c < N) : last < N := by
  have hn := h.fresh T hK
  refine pigeon (q := va_up q last c) (m := last + 1) (N := N) (fun i hi => ?_) (fun i j hi hj he => ?_)
  · by_cases e2 : i = last
    · rw [e2, va_up_self]; exact hc
    · rw [va_up_ne _ _ e2]; exact (h.2.2.1 i (by omega)).1
  · by_cases ei : i = last <;> by_cases ej : j = last
    · rw [ei, ej]
    · rw [ei, va_up_self, va_up_ne _ _ ej] at he; exact absurd he.symm (hn j (by omega))
    · rw [ej, va_up_self, va_up_ne _ _ ei] at he; exact absurd he (hn i (by omega))
    · rw [va_up_ne _ _ ei, va_up_ne _ _ ej] at he; exact h.2.2.2.1 i j (by omega) (by omega) he
/-- a child comes -/
theorem BF.push {x u : DS} {D : List Wd} {N : Nat} {R : Nat → Wd} {K : Nat → List Nat} {q : Nat → Nat} {first last c k : Nat} {dn rest : List Nat} {wv : Int32} (h : BF x D N R K q first last dn) (T : Trie x N R K (PreS_ D)) (hK : K (q first) = dn ++ c :: rest) (hk : k < N) (hRk : R k = lps D (R c))
    (hw : (wv = -1 ∧ mt D (R c) = []) ∨ ∃ v, v < N ∧ wv = nI v ∧ mt D (R c) = mt D (R v) ∧ occ D (R v) ≠ [] ∧ (R v).length ≤ (R c).length)
    (u6 : sA u 6 = upd (sA x 6) c (nI k)) (u7 : sA u 7 = upd (sA x 7) c wv) (u8 : sA u 8 = upd (sA x 8) last (nI c)) : BF u D N R K (va_up q last c) first (last + 1) (dn ++ [c]) := by
  obtain ⟨b1, b2, b3, b4, b5, b6, b7, b8, b9, b10, b11⟩ := h
  have hf := (b3 first b1).1
  have hcm : c ∈ K (q first) := by rw [hK]; simp
  obtain ⟨hcN, b, hRc⟩ := (T.2.2.2.2.2.1 (q first) c hf).mp hcm
  have hlen : (R c).length = (R (q first)).length + 1 := by rw [hRc]; simp
  have qL : va_up q last c last = c := va_up_self _ _ _
  have qO : ∀ i, i < last → va_up q last c i = q i := fun i hi => va_up_ne _ _ (by omega)
  have hnew := BF.fresh ⟨b1, b2, b3, b4, b5, b6, b7, b8, b9, b10, b11⟩ T hK
  have inn : ∀ n, inQ q last n → inQ (va_up q last c) (last + 1) n := fun n ⟨i, i1, i2⟩ => ⟨i, by omega, by rw [qO i i1]; exact i2⟩
  have inc : inQ (va_up q last c) (last + 1) c := ⟨last, by omega, qL⟩
  have out : ∀ n, inQ (va_up q last c) (last + 1) n → n = c ∨ (n ≠ c ∧ inQ q last n) := by
    rintro n ⟨i, i1, i2⟩
    by_cases e : i = last
    · rw [e, qL] at i2; exact Or.inl i2.symm
    · rw [qO i (by omega)] at i2
      exact Or.inr ⟨fun e2 => hnew i (by omega) (i2.trans e2), i, by omega, i2⟩
  refine ⟨by omega, by rw [qO 0 (by omega)]; exact b2, ?_, ?_, ?_, ?_, ?_, ?_, ?_, ?_, ?_⟩
  · intro i hi
    by_cases e : i = last
    · rw [e, qL, u8, upd_self]; exact ⟨hcN, rfl⟩
    · rw [qO i (by omega), u8, upd_ne e]; exact b3 i (by omega)
  · intro i j hi hj e
    by_cases ei : i = last <;> by_cases ej : j = last
    · rw [ei, ej]
    · rw [ei, qL, qO j (by omega)] at e; exact absurd e.symm (hnew j (by omega))
    · rw [ej, qL, qO i (by omega)] at e; exact absurd e (hnew i (by omega))
    · rw [qO i (by omega), qO j (by omega)] at e; exact b4 i j (by omega) (by omega) e
  · intro i j hij hj
    by_cases ej : j = last
    · rw [ej, qL, hlen]
      by_cases ei : i = last
      · rw [ei, qL, hlen]; exact Nat.le_refl _
      · rw [qO i (by omega)]; exact b9 i (by omega)
    · rw [qO i (by omega), qO j (by omega)]; exact b5 i j hij (by omega)
  · intro i hi hne
    by_cases e : i = last
    · rw [e, qL]; exact Or.inr (by simp)
    · rw [qO i (by omega)] at hne ⊢
      rcases b6 i (by omega) hne with ⟨p, p1, p2⟩ | p
      · exact Or.inl ⟨p, p1, by rw [qO p (by omega)]; exact p2⟩
      · exact Or.inr (List.mem_append_left _ p)
  · intro p c' hp hc'
    rw [qO p (by omega)] at hc'
    exact inn _ (b7 p c' hp hc')
  · intro c' hc'
    rcases List.mem_append.mp hc' with p | p
    · exact inn _ (b8 c' p)
    · rw [List.mem_singleton.mp p]; exact inc
  · intro j hj
    rw [qO first b1]
    by_cases e : j = last
    · rw [e, qL, hlen]; exact Nat.le_refl _
    · rw [qO j (by omega)]; exact b9 j (by omega)
  · intro n hn hq
    rcases out n hq with e | ⟨e1, e2⟩
    · subst e; exact ⟨k, hk, by rw [u6, upd_self], hRk⟩
    · rw [u6, upd_ne e1]; exact b10 n hn e2
  · intro n hn hq
    rcases out n hq with e | ⟨e1, e2⟩
    · subst e; rw [u7, upd_self]; exact hw
    · rw [u7, upd_ne e1]; exact b11 n hn e2
/-- what building leaves alone -/
def kJ (x : DS) : (Nat → Int32) × (Nat → Int32) × (Nat → Int32) × (Nat → Int32) × (Nat → Int32) × (Nat → Int32) × (Nat → Int32) × Int32 × Int32 × Int32 × Int32 := (sA x 1, sA x 2, sA x 3, sA x 4, sA x 5, sA x 11, sA x 12, sI x 0, sI x 9, sI x 10, sI x 14)
theorem kJ_A1 {x u : DS} (h : kJ u = kJ x) : sA u 1 = sA x 1 := congrArg (fun t => t.1) h
theorem kJ_A2 {x u : DS} (h : kJ u = kJ x) : sA u 2 = sA x 2 := congrArg (fun t => t.2.1) h
theorem kJ_A3 {x u : DS} (h : kJ u = kJ x) : sA u 3 = sA x 3 := congrArg (fun t => t.2.2.1) h
theorem kJ_A4 {x u : DS} (h : kJ u = kJ x) : sA u 4 = sA x 4 := congrArg (fun t => t.2.2.2.1) h
theorem kJ_A5 {x u : DS} (h : kJ u = kJ x) : sA u 5 = sA x 5 := congrArg (fun t => t.2.2.2.2.1) h
theorem kJ_A11 {x u : DS} (h : kJ u = kJ x) : sA u 11 = sA x 11 := congrArg (fun t => t.2.2.2.2.2.1) h
theorem kJ_A12 {x u : DS} (h : kJ u = kJ x) : sA u 12 = sA x 12 := congrArg (fun t => t.2.2.2.2.2.2.1) h
theorem kJ_I0 {x u : DS} (h : kJ u = kJ x) : sI u 0 = sI x 0 := congrArg (fun t => t.2.2.2.2.2.2.2.1) h
theorem kJ_I9 {x u : DS} (h : kJ u = kJ x) : sI u 9 = sI x 9 := congrArg (fun t => t.2.2.2.2.2.2.2.2.1) h
theorem kJ_I10 {x u : DS} (h : kJ u = kJ x) : sI u 10 = sI x 10 := congrArg (fun t => t.2.2.2.2.2.2.2.2.2.1) h
theorem kJ_I14 {x u : DS} (h : kJ u = kJ x) : sI u 14 = sI x 14 := congrArg (fun t => t.2.2.2.2.2.2.2.2.2.2) h
theorem Trie.congrJ {x u : DS} {N : Nat} {R : Nat → Wd} {K : Nat → List Nat} {S : Wd → Prop} (h0 : kJ u = kJ x) (h : Trie x N R K S) : Trie u N R K S := by
  unfold Trie at h ⊢
  rw [kJ_A1 h0, kJ_A2 h0, kJ_A3 h0, kJ_A4 h0]
  exact h
def kQ (u x : DS) : Prop := kJ u = kJ x ∧ kD u = kD x ∧ kX u = kX x ∧ kP u = kP x ∧ kY u = kY x ∧ kF u = kF x
theorem BF.start {u : DS} {D : List Wd} {N : Nat} {R : Nat → Wd} {K : Nat → List Nat} (T : Trie u N R K (PreS_ D)) (u6 : sA u 6 0 = 0) (u7 : sA u 7 0 = -1) (u8 : sA u 8 0 = 0) : BF u D N R K (fun _ => 0) 0 1 [] := by
  have h0 : ∀ n, inQ (fun _ => 0) 1 n → n = 0 := fun n ⟨i, _, h⟩ => h.symm
  refine ⟨by omega, rfl, fun i hi => ⟨T.1.1, by rw [show i = 0 by omega, u8]; exact nI_0.symm⟩, fun i j hi hj _ => by omega, fun i j _ _ => Nat.le_refl _, fun i _ h => absurd rfl h, fun p c hp => absurd hp (Nat.not_lt_zero _), fun c hc => absurd hc List.not_mem_nil, fun j _ => Nat.le_succ _, fun n hn hq => ?_, fun n hn hq => ?_⟩
  · rw [h0 n hq, T.2.1]
    exact ⟨0, T.1.1, by rw [u6]; exact nI_0.symm, T.2.1⟩
  · rw [h0 n hq, T.2.1]
    exact Or.inl ⟨u7, rfl⟩
theorem Trie.congrJ_x {x u : DS} {N : Nat} {R : Nat → Wd} {K : Nat → List Nat} {S : Wd → Prop} (h : Trie x N R K S) (h1 : sA u 1 = sA x 1) (h2 : sA u 2 = sA x 2) (h3 : sA u 3 = sA x 3) (h4 : sA u 4 = sA x 4) : Trie u N R K S := by
  unfold Trie at h ⊢
  rw [h1, h2, h3, h4]
  exact h
theorem Wds.congr_x {x u : DS} {D : List Wd} {N : Nat} {R : Nat → Wd} (h : Wds x D N R) (h1 : sA u 5 = sA x 5) (h2 : sA u 11 = sA x 11) (h3 : sA u 12 = sA x 12) : Wds u D N R := by
  unfold Wds at h ⊢
  rw [h1, h2, h3]
  exact h
end
section
theorem build_inner {z : ZZ} {E : EE} {g : GG} {x0 : DS} {A : Nat → Prop} {Q : State → Prop} {D : List Wd} {N nd first : Nat} {R : Nat → Wd} {K : Nat → List Nat} (C : kC RX1 cX1_build 5 (some .int) E z) (hR : rmOK 2 (0, 0) z) (T : Trie x0 N R K (PreS_ D)) (hW : Wds x0 D N R) (hD : DOK D) : ∀ (rest dn : List Nat) (c : Int32) (q : Nat → Nat) (last : Nat) (x : DS) (H : Heap) (locs : List Loc), chain (sA x0 3) c rest → K nd = dn ++ rest → q first = nd → BF x D N R K q first last dn → kQ x x0 → wH E (kW E g x) A z H locs → (∀ (q : Nat → Nat) (last : Nat) (u : DS) (H : Heap) (locs : List Loc), q first = nd → BF u D N R K q first last (K nd) → kQ u x0 → wH E (kW E g u) A z H locs → V z (0, 0) H locs Q 155 [(0, .ref g.1), (1, .int (nI last)), (2, .int (nI first)), (3, .int (nI nd)), (4, .int (-1))] []) → V z (0, 0) H locs Q 59 [(0, .ref g.1), (1, .int (nI last)), (2, .int (nI first)), (3, .int (nI nd)), (4, .int c)] [] := by
  have hN := T.1.2
  intro rest
  induction rest with
  | nil =>
    intro dn c q last x H locs hc hK hq hB hQ hH kk
    have hc : c = -1 := hc
    subst hc
    rw [List.append_nil] at hK
    refine v_iload C dX1_build_59 4 rfl ?_
    refine v_iconst C (-1) (by decide) dX1_build_61 ?_
    refine v_icmp_eq C 155 dX1_build_62 (by decide) (fun c0 => ?_) (fun c0 => ?_)
    · exact kk q last x H locs hq (by rw [hK]; exact hB) hQ hH
    · exact absurd rfl c0
  | cons c t ih =>
    intro dn c' q last x H locs hc hK hq hB hQ hH kk
    obtain ⟨hc1, hc2⟩ := hc
    subst hc1
    have hlN := hB.lastN
    have hf := (hB.2.2.1 first hB.1).1
    rw [hq] at hf
    have hcm : c ∈ K nd := by rw [hK]; simp
    obtain ⟨hcN, b, hRc⟩ := (T.2.2.2.2.2.1 nd c hf).mp hcm
    have hlab : sA x0 1 c = b := T.2.2.2.2.2.2.1 c b _ hcN hRc
    have hlen : (R c).length = (R nd).length + 1 := by rw [hRc]; simp
    have Tx := T.congrJ hQ.1
    have hnew : last < N := hB.room Tx (by rw [hq]; exact hK) hcN
    have hch : chain (sA x 11) (sA x 5 c) (occ D (R c)) := by rw [kJ_A11 hQ.1, kJ_A5 hQ.1]; exact hW.1 c hcN
    have k131 : ∀ (k : Nat) (wv : Int32) (H : Heap) (locs : List Loc), k < N → R k = lps D (R c) → ((wv = -1 ∧ mt D (R c) = []) ∨ ∃ v, v < N ∧ wv = nI v ∧ mt D (R c) = mt D (R v) ∧ occ D (R v) ≠ [] ∧ (R v).length ≤ (R c).length) → wH E (kW E g (pA x 6 c (nI k))) A z H locs → V z (0, 0) H locs Q 131 [(0, .ref g.1), (1, .int (nI last)), (2, .int (nI first)), (3, .int (nI nd)), (4, .int (nI c))] [.int wv, .int (nI c), .ref (g.2 7)] := by
      intro k wv H locs hk hRk hwv hH
      refine ks7 C (c) hH (rfl) (by omega) dX1_build_131 (fun H locs hH => ?_)
      refine v_aload_n C dX1_build_132 rfl 0 rfl ?_
      refine kg8 C hH.1 dX1_build_133 ?_
      refine v_iload_n C dX1_build_136 rfl 1 rfl ?_
      refine v_iinc C (k := 1) (nI (last + 1)) [1, 0, 2, 3, 4] [(0, .ref g.1), (1, .int (nI (last + 1))), (2, .int (nI first)), (3, .int (nI nd)), (4, .int (nI c))] dX1_build_137 rfl (inc1 _) (by decide) rfl ?_
      refine v_iload C dX1_build_140 4 rfl ?_
      refine ks8 C (last) hH (rfl) (by omega) dX1_build_142 (fun H locs hH => ?_)
      refine v_aload_n C dX1_build_143 rfl 0 rfl ?_
      refine kg3 C hH.1 dX1_build_144 ?_
      refine v_iload C dX1_build_147 4 rfl ?_
      refine ka3 C (c) hH.1 (rfl) (by omega) dX1_build_149 ?_
      refine v_ei (show sA (pA (pA (pA x 6 c (nI k)) 7 c wv) 8 last (nI c)) 3 c = sA x 3 c from rfl) ?_
      refine v_ei (y := sA x0 3 c) (congrFun (kJ_A3 hQ.1) c) ?_
      refine v_istore C [1, 2, 3, 4, 0] [(0, .ref g.1), (1, .int (nI (last + 1))), (2, .int (nI first)), (3, .int (nI nd)), (4, .int (sA x0 3 c))] dX1_build_150 (by decide) rfl ?_
      refine v_goto C 59 dX1_build_152 (by decide) ?_
      have hB2 := hB.push (u := pA (pA (pA x 6 c (nI k)) 7 c wv) 8 last (nI c)) Tx (by rw [hq]; exact hK) hk hRk hwv rfl rfl rfl
      exact ih (dn ++ [c]) _ (va_up q last c) (last + 1) (pA (pA (pA x 6 c (nI k)) 7 c wv) 8 last (nI c)) H locs hc2 (by rw [hK]; simp) (by rw [va_up_ne _ _ (by have := hB.1; omega)]; exact hq) hB2 hQ hH kk
    have k96 : ∀ (k : Nat), k < N → R k = lps D (R c) → V z (0, 0) H locs Q 96 [(0, .ref g.1), (1, .int (nI last)), (2, .int (nI first)), (3, .int (nI nd)), (4, .int (nI c))] [.int (nI k), .int (nI c), .ref (g.2 6)] := by
      intro k hk hRk
      refine ks6 C (c) hH (rfl) (by omega) dX1_build_96 (fun H locs hH => ?_)
      refine v_aload_n C dX1_build_97 rfl 0 rfl ?_
      refine kg7 C hH.1 dX1_build_98 ?_
      refine v_iload C dX1_build_101 4 rfl ?_
      refine v_aload_n C dX1_build_103 rfl 0 rfl ?_
      refine kg5 C hH.1 dX1_build_104 ?_
      refine v_iload C dX1_build_107 4 rfl ?_
      refine ka5 C (c) hH.1 (rfl) (by omega) dX1_build_109 ?_
      refine v_ei (show sA (pA x 6 c (nI k)) 5 c = sA x 5 c from rfl) ?_
      refine v_iconst C (-1) (by decide) dX1_build_110 ?_
      refine v_icmp_eq C 119 dX1_build_111 (by decide) (fun c1 => ?_) (fun c1 => ?_)
      · have hoc : occ D (R c) = [] := by
          rw [c1] at hch
          exact chain_m1 _ (fun w hw => by have := (mem_occ.mp hw).1; have := hD.1; omega) hch
        have hmt : mt D (R c) = mt D (R k) := by rw [mt_lps (by rw [hRc]; simp), hoc, hRk]; rfl
        have hlt := lps_lt (D := D) (r := R c) (by rw [hRc]; simp)
        have hkc : k ≠ c := fun e => by rw [← e] at hRk; rw [e] at hRk; rw [← hRk] at hlt; omega
        have hkl : (R k).length ≤ (R nd).length := by rw [hRk]; omega
        have hin : inQ q last k := hB.come Tx _ k (Nat.le_refl _) hk (by rw [hq]; exact hkl)
        have hwk := hB.2.2.2.2.2.2.2.2.2.2 k hk hin
        refine v_aload_n C dX1_build_119 rfl 0 rfl ?_
        refine kg7 C hH.1 dX1_build_120 ?_
        refine v_aload_n C dX1_build_123 rfl 0 rfl ?_
        refine kg6 C hH.1 dX1_build_124 ?_
        refine v_iload C dX1_build_127 4 rfl ?_
        refine ka6 C (c) hH.1 (rfl) (by omega) dX1_build_129 ?_
        refine v_ei (show sA (pA x 6 c (nI k)) 6 c = upd (sA x 6) c (nI k) c from rfl) ?_
        refine v_ei (y := nI k) (upd_self) ?_
        refine ka7 C (k) hH.1 (rfl) (by omega) dX1_build_130 ?_
        refine v_ei (show sA (pA x 6 c (nI k)) 7 k = sA x 7 k from rfl) ?_
        refine k131 k _ H locs hk hRk ?_ hH
        rcases hwk with ⟨a1, a2⟩ | ⟨v, a1, a2, a3, a4, a5⟩
        · exact Or.inl ⟨a1, by rw [hmt]; exact a2⟩
        · exact Or.inr ⟨v, a1, a2, by rw [hmt]; exact a3, a4, by omega⟩
      · refine v_iload C dX1_build_114 4 rfl ?_
        refine v_goto C 131 dX1_build_116 (by decide) ?_
        refine k131 k _ H locs hk hRk (Or.inr ⟨c, hcN, rfl, rfl, fun e => ?_, Nat.le_refl _⟩) hH
        rw [e] at hch
        exact c1 hch
    refine v_iload C dX1_build_59 4 rfl ?_
    refine v_iconst C (-1) (by decide) dX1_build_61 ?_
    refine v_icmp_eq C 155 dX1_build_62 (by decide) (fun c0 => ?_) (fun c0 => ?_)
    · exact absurd c0 (nI_m1 (by omega))
    · refine v_aload_n C dX1_build_65 rfl 0 rfl ?_
      refine kg6 C hH.1 dX1_build_66 ?_
      refine v_iload C dX1_build_69 4 rfl ?_
      refine v_iload_n C dX1_build_71 rfl 3 rfl ?_
      refine v_if_ne C 79 dX1_build_72 (by decide) (fun c2 => ?_) (fun c2 => ?_)
      · have hne : R nd ≠ [] := fun e => c2 (by rw [T.2.2.1 nd 0 hf T.1.1 (e.trans T.2.1.symm)]; exact nI_0)
        have hltn := lps_lt (D := D) hne
        obtain ⟨k0, k1, k2, k3⟩ := hB.2.2.2.2.2.2.2.2.2.1 nd hf ⟨first, hB.1, hq⟩
        have hLU : LnkU x D N R (fun n => (R n).length ≤ (R k0).length) := fun n hn hl => hB.2.2.2.2.2.2.2.2.2.1 n hn (hB.come Tx _ n (Nat.le_refl _) hn (by rw [hq]; rw [k3] at hl; omega))
        refine v_aload_n C dX1_build_79 rfl 0 rfl ?_
        refine v_aload_n C dX1_build_80 rfl 0 rfl ?_
        refine kg6 C hH.1 dX1_build_81 ?_
        refine v_iload_n C dX1_build_84 rfl 3 rfl ?_
        refine ka6 C (nd) hH.1 (rfl) (by omega) dX1_build_85 ?_
        refine v_ei (y := nI k0) (k2) ?_
        refine v_aload_n C dX1_build_86 rfl 0 rfl ?_
        refine kg1 C hH.1 dX1_build_87 ?_
        refine v_iload C dX1_build_90 4 rfl ?_
        refine ka1 C (c) hH.1 (rfl) (by omega) dX1_build_92 ?_
        refine v_ei (y := b) ((congrFun (kJ_A1 hQ.1) c).trans hlab) ?_
        refine v_callRi C (ci := 0) (vC := (RX1, TX1, 29)) (rest := [.int (nI c), .ref (g.2 6)]) (metX1_follow (zl z) b Tx hLU k1 (Nat.le_refl _)) (lw_V q144 q146 qs2 q17 q147) DX1_follow (hR.lower (by decide)) (by decide) hH.1 rfl rfl rfl (Nat.le_of_ble_eq_true rfl) rfl dX1_build_93 (fun r hr => ?_)
        obtain ⟨k, a1, a2, a3⟩ := hr
        subst a2
        exact k96 k a1 (by rw [a3, k3, hRc, fol_lps hne])
      · have h0 : nd = 0 := (nI_eq (by omega) (by decide)).mp (c2.trans nI_0.symm)
        refine v_iconst C 0 (by decide) dX1_build_75 ?_
        refine v_goto C 96 dX1_build_76 (by decide) ?_
        exact k96 0 T.1.1 (by rw [hRc, h0, T.2.1]; rfl)
theorem build_outer {z : ZZ} {E : EE} {g : GG} {x0 : DS} {A : Nat → Prop} {D : List Wd} {N : Nat} {R : Nat → Wd} {K : Nat → List Nat} {post : Int32 → DS → Prop} (C : kC RX1 cX1_build 5 (some .int) E z) (hR : rmOK 2 (0, 0) z) (T : Trie x0 N R K (PreS_ D)) (hW : Wds x0 D N R) (hD : DOK D) (h9 : sI x0 9 = nI N) (kp : ∀ u : DS, Lnk u D N R → kQ u x0 → post (nI N) u) : ∀ (j first last : Nat) (q : Nat → Nat) (x : DS) (H : Heap) (locs : List Loc) (lv2 : List (Nat × Value)), N - first < j → BF x D N R K q first last [] → kQ x x0 → wH E (kW E g x) A z H locs → V z (0, 0) H locs (QWi z E (kW E g) A post) 39 ((0, .ref g.1) :: (1, .int (nI last)) :: (2, .int (nI first)) :: lv2) [] := by
  have hN := T.1.2
  intro j
  induction j with
  | zero => intro first last q x H locs lv2 hj; omega
  | succ j ih =>
    intro first last q x H locs lv2 hj hB hQ hH
    have hlN := hB.lastN
    have hf := hB.2.2.1 first hB.1
    have hfl := hB.1
    refine v_sub [0, 1, 2] rfl ?_
    refine v_iload_n C dX1_build_39 rfl 2 rfl ?_
    refine v_iload_n C dX1_build_40 rfl 1 rfl ?_
    refine v_icmp_ge C 161 dX1_build_41 (by decide) (fun c0 => ?_) (fun c0 => ?_)
    · exact absurd c0 (nI_ge hfl (by omega))
    · refine v_aload_n C dX1_build_44 rfl 0 rfl ?_
      refine kg8 C hH.1 dX1_build_45 ?_
      refine v_iload_n C dX1_build_48 rfl 2 rfl ?_
      refine ka8 C (first) hH.1 (rfl) (by omega) dX1_build_49 ?_
      refine v_ei (y := nI (q first)) (hf.2) ?_
      refine v_istore_n C [1, 2, 3, 0] [(0, .ref g.1), (1, .int (nI last)), (2, .int (nI first)), (3, .int (nI (q first)))] dX1_build_50 rfl (by decide) rfl ?_
      refine v_aload_n C dX1_build_51 rfl 0 rfl ?_
      refine kg2 C hH.1 dX1_build_52 ?_
      refine v_iload_n C dX1_build_55 rfl 3 rfl ?_
      refine ka2 C (q first) hH.1 (rfl) (by have := hf.1; omega) dX1_build_56 ?_
      refine v_ei (y := sA x0 2 (q first)) (congrFun (kJ_A2 hQ.1) _) ?_
      refine v_istore C [1, 2, 3, 4, 0] [(0, .ref g.1), (1, .int (nI last)), (2, .int (nI first)), (3, .int (nI (q first))), (4, .int (sA x0 2 (q first)))] dX1_build_57 (by decide) rfl ?_
      refine build_inner C hR T hW hD (K (q first)) [] _ q last x H locs (T.2.2.2.1 _ hf.1) rfl rfl hB hQ hH ?_
      intro q2 last u H locs hq2 hB hQ hH
      have hlN := hB.lastN
      have hfl := hB.1
      rw [← hq2] at hB
      refine v_iinc C (k := 2) (nI (first + 1)) [1, 2, 0, 3, 4] [(0, .ref g.1), (1, .int (nI last)), (2, .int (nI (first + 1))), (3, .int (nI (q first))), (4, .int (-1))] dX1_build_155 rfl (inc1 _) (by decide) rfl ?_
      refine v_goto C 39 dX1_build_158 (by decide) ?_
      by_cases hn : first + 1 < last
      · exact ih (first + 1) last q2 u H locs _ (by omega) (hB.next hn) hQ hH
      · refine v_iload_n C dX1_build_39 rfl 2 rfl ?_
        refine v_iload_n C dX1_build_40 rfl 1 rfl ?_
        refine v_icmp_ge C 161 dX1_build_41 (by decide) (fun c1 => ?_) (fun c1 => ?_)
        · refine v_aload_n C dX1_build_161 rfl 0 rfl ?_
          refine kg9 C hH.1 dX1_build_162 ?_
          refine v_ei (y := nI N) ((kJ_I9 hQ.1).trans h9) ?_
          exact v_iretW C hH (kp u (hB.lnk hn (T.congrJ hQ.1)) hQ) dX1_build_165
        · exact absurd (nI_le (by omega) (by omega)) c1
/-- build() -/
theorem metX1_build (l : Launch) {E : EE} {g : GG} {x : DS} {D : List Wd} {bt : Bool} {N rm : Nat} {R : Nat → Wd} {K : Nat → List Nat} (hD : kDict x D bt N rm R K) : MWi l yX1_build cX1_build 5 (some .int) 2 E (kW E g) x [.ref g.1] (fun r u => (bt = true → r = -1 ∧ u = x) ∧ (bt = false → r = nI N ∧ kDict u D true N rm R K ∧ kD u = kD x ∧ kX u = kX x ∧ kP u = kP x ∧ kY u = kY x ∧ kF u = kF x)) := by
  refine MWi.start (own := RX1) (by decide) rfl (Nat.le_of_ble_eq_true rfl) ?_
  intro z A hz C hR hH
  show V z (0, 0) _ [] _ 0 [(0, .ref g.1)] []
  obtain ⟨T, hW, hDD, ⟨h0, hNr, hrm⟩, h9, h10, h14, hLk⟩ := hD
  have hN := T.1.2
  refine v_aload_n C dX1_build_0 rfl 0 rfl ?_
  refine kg10 C hH.1 dX1_build_1 ?_
  refine v_ei (y := bI bt) (h10) ?_
  refine v_if_eq C 9 dX1_build_4 (by decide) (fun c0 => ?_) (fun c0 => ?_)
  · have hbt : bt = false := by cases bt with
      | false => rfl
      | true => exact absurd c0 (by decide)
    refine v_aload_n C dX1_build_9 rfl 0 rfl ?_
    refine v_iconst C 1 (by decide) dX1_build_10 ?_
    refine kp10 C hH (by decide) dX1_build_11 (fun H locs hH => ?_)
    refine v_aload_n C dX1_build_14 rfl 0 rfl ?_
    refine kg6 C hH.1 dX1_build_15 ?_
    refine v_iconst C 0 (by decide) dX1_build_18 ?_
    refine v_iconst C 0 (by decide) dX1_build_19 ?_
    refine ks6 C (0) hH (by decide) (by first | assumption | omega) dX1_build_20 (fun H locs hH => ?_)
    refine v_aload_n C dX1_build_21 rfl 0 rfl ?_
    refine kg7 C hH.1 dX1_build_22 ?_
    refine v_iconst C 0 (by decide) dX1_build_25 ?_
    refine v_iconst C (-1) (by decide) dX1_build_26 ?_
    refine ks7 C (0) hH (by decide) (by first | assumption | omega) dX1_build_27 (fun H locs hH => ?_)
    refine v_aload_n C dX1_build_28 rfl 0 rfl ?_
    refine kg8 C hH.1 dX1_build_29 ?_
    refine v_iconst C 0 (by decide) dX1_build_32 ?_
    refine v_iconst C 0 (by decide) dX1_build_33 ?_
    refine ks8 C (0) hH (by decide) (by first | assumption | omega) dX1_build_34 (fun H locs hH => ?_)
    refine v_iconst C 1 (by decide) dX1_build_35 ?_
    refine v_istore_n C [1, 0] [(0, .ref g.1), (1, .int 1)] dX1_build_36 rfl (by decide) rfl ?_
    refine v_iconst C 0 (by decide) dX1_build_37 ?_
    refine v_istore_n C [1, 2, 0] [(0, .ref g.1), (1, .int 1), (2, .int 0)] dX1_build_38 rfl (by decide) rfl ?_
    refine build_outer (x0 := pI x 10 1) (D := D) (N := N) (R := R) (K := K) C hR (T.congrJ_x rfl rfl rfl rfl) (hW.congr_x rfl rfl rfl) hDD h9 ?_ (N + 1) 0 1 (fun _ => 0) (pA (pA (pA (pI x 10 1) 6 0 0) 7 0 (-1)) 8 0 0) H locs [] (by omega) (BF.start (T.congrJ_x rfl rfl rfl rfl) rfl rfl rfl) ⟨rfl, rfl, rfl, rfl, rfl, rfl⟩ hH
    intro u hL hQ
    refine ⟨fun e => absurd (hbt.symm.trans e) (by decide), fun _ => ⟨rfl, ⟨T.congrJ_x (kJ_A1 (x := pI x 10 1) hQ.1) (kJ_A2 (x := pI x 10 1) hQ.1) (kJ_A3 (x := pI x 10 1) hQ.1) (kJ_A4 (x := pI x 10 1) hQ.1), hW.congr_x (kJ_A5 (x := pI x 10 1) hQ.1) (kJ_A11 (x := pI x 10 1) hQ.1) (kJ_A12 (x := pI x 10 1) hQ.1), hDD, ⟨(kJ_I0 hQ.1).trans h0, hNr, hrm⟩, (kJ_I9 hQ.1).trans h9, kJ_I10 hQ.1, (kJ_I14 hQ.1).trans h14, fun _ => hL⟩, hQ.2.1, hQ.2.2.1, hQ.2.2.2.1, hQ.2.2.2.2.1, hQ.2.2.2.2.2⟩⟩
  · have hbt : bt = true := by cases bt with
      | false => exact absurd rfl c0
      | true => rfl
    refine v_iconst C (-1) (by decide) dX1_build_7 ?_
    exact v_iretW C hH ⟨fun _ => ⟨rfl, rfl⟩, fun e => absurd (hbt.symm.trans e) (by decide)⟩ dX1_build_8
end
section
/-! The model's comparing of bytes, plainly -/
/-- the first k of the n bytes of f (newest first), read from the oldest on, are w's; and w has n -/
def mB_ (w : Wd) (f : Nat → Int32) (n k : Nat) : Bool := decide (n ≤ w.length) && (List.range k).all (fun j => w.getD j 0 == f (n - 1 - j))
theorem mB_0 {w : Wd} {f : Nat → Int32} {n : Nat} : mB_ w f n 0 = decide (n ≤ w.length) := by simp [mB_]
theorem mB_succ {w : Wd} {f : Nat → Int32} {n k : Nat} : mB_ w f n (k + 1) = (mB_ w f n k && (w.getD k 0 == f (n - 1 - k))) := by
  unfold mB_
  rw [List.range_succ, List.all_append]
  simp [Bool.and_assoc]
theorem mB_len {w : Wd} {f : Nat → Int32} {n k : Nat} (h : mB_ w f n k = true) : n ≤ w.length := by
  unfold mB_ at h
  rw [Bool.and_eq_true] at h
  exact of_decide_eq_true h.1
theorem mB_false {w : Wd} {f : Nat → Int32} {n k : Nat} (h : mB_ w f n k = false) : ∀ j, k ≤ j → mB_ w f n j = false
  | 0, hj => by rw [Nat.le_zero.mp hj] at h; exact h
  | j + 1, hj => by
    by_cases e : k = j + 1
    · rw [← e]; exact h
    · rw [mB_succ, mB_false h j (by omega)]; rfl
theorem mB_iff {w r : Wd} {f : Nat → Int32} {n : Nat} (hn : n ≤ r.length) (hf : ∀ i, i < n → f i = r.getD i 0) : mB_ w f n n = true ↔ (r.take n).reverse <+: w := by
  have key : mB_ w f n n = true ↔ n ≤ w.length ∧ ∀ j, j < n → w.getD j 0 = r.getD (n - 1 - j) 0 := by
    unfold mB_
    rw [Bool.and_eq_true, List.all_eq_true, decide_eq_true_iff]
    constructor
    · rintro ⟨h1, h2⟩
      refine ⟨h1, fun j hj => ?_⟩
      have := h2 j (List.mem_range.mpr hj)
      rw [beq_iff_eq, hf _ (by omega)] at this
      exact this
    · rintro ⟨h1, h2⟩
      refine ⟨h1, fun j hj => ?_⟩
      have hj := List.mem_range.mp hj
      rw [beq_iff_eq, hf _ (by omega)]
      exact h2 j hj
  rw [key, List.prefix_iff_eq_take, List.length_reverse, List.length_take, Nat.min_eq_left hn]
  constructor
  · rintro ⟨h1, h2⟩
    refine List.ext_getElem (by simp; omega) (fun j h3 h4 => ?_)
    have hj : j < n := by simp at h3; omega
    have := h2 j hj
    rw [List.getD_eq_getElem?_getD, List.getD_eq_getElem?_getD, List.getElem?_eq_getElem (by omega), List.getElem?_eq_getElem (by omega)] at this
    rw [List.getElem_reverse, List.getElem_take, List.getElem_take]
    simp only [Option.getD_some] at this
    rw [this]
    congr 1
    simp
    omega
  · intro h
    have hl := congrArg List.length h
    simp at hl
    refine ⟨by omega, fun j hj => ?_⟩
    have h2 := congrArg (fun l => l.getD j 0) h
    simp only [List.getD_eq_getElem?_getD] at h2 ⊢
    rw [List.getElem?_reverse (by simp; omega), List.getElem?_take_of_lt (by simp; omega), List.getElem?_take_of_lt hj] at h2
    rw [← h2]
    congr 2
    simp
    omega
theorem isPre_any {D : List Wd} {r : Wd} (hr : r ≠ []) : isPre D r = true ↔ ∃ w, w < D.length ∧ r.reverse <+: D.getD w [] := by
  rw [isPre_iff]
  constructor
  · rintro (h | ⟨w, h1, h2⟩)
    · exact absurd h hr
    · obtain ⟨i, h3, h4⟩ := List.getElem_of_mem h1
      refine ⟨i, h3, ?_⟩
      rw [List.getD_eq_getElem?_getD, List.getElem?_eq_getElem h3]
      simpa [h4] using h2
  · rintro ⟨w, h1, h2⟩
    refine Or.inr ⟨_, ?_, h2⟩
    rw [List.getD_eq_getElem?_getD, List.getElem?_eq_getElem h1]; exact List.getElem_mem h1
theorem fol_take {D : List Wd} {b : Int32} {c : Wd} : fol D b c = (b :: c).take (fol D b c).length ∧ (fol D b c).length ≤ c.length + 1 := by
  rw [fol_eq _ _ (Nat.le_refl _)]
  have h := sh_le D (b :: c) (b :: c).length
  have hl : (lst D (b :: c)).length = sh D (b :: c) (b :: c).length := by
    unfold lst
    rw [List.length_take]; omega
  rw [hl]
  exact ⟨rfl, by simpa using h⟩
theorem getD_take {c : Wd} {m i : Nat} (h : i < m) : (c.take m).getD i 0 = c.getD i 0 := by
  rw [List.getD_eq_getElem?_getD, List.getD_eq_getElem?_getD, List.getElem?_take_of_lt h]
/-- one more found -/
theorem mFd.snoc {y u : DS} {F : FL} {w pl ln : Nat} (h : mFd y F) (h4 : F.length < 4200) (h13 : sI u 13 = nI (F.length + 1)) (h14 : sA u 14 = upd (sA y 14) F.length (nI w)) (h15 : sF u = vp_updL (sF y) F.length (lN pl)) (h16 : sA u 16 = upd (sA y 16) F.length (nI ln)) : mFd u (F ++ [(w, pl, ln)]) := by
  obtain ⟨a1, a2, a3⟩ := h
  have hlen : (F ++ [(w, pl, ln)]).length = F.length + 1 := by simp
  refine ⟨by rw [hlen]; exact h13, by omega, fun k hk => ?_⟩
  rw [hlen] at hk
  rw [h14, h15, h16]
  by_cases e : k = F.length
  · subst e
    rw [getD_snoc, upd_self, updL_self, upd_self]
    exact ⟨rfl, rfl, rfl⟩
  · rw [getD_app (by omega), upd_ne e, updL_ne e, upd_ne e]
    exact a3 k (by omega)
theorem cnt_take {F : FL} {w k : Nat} (hk : k < F.length) : cnt (F.take (k + 1)) w = cnt (F.take k) w + if wd F k = w then 1 else 0 := by
  have e : F.take (k + 1) = F.take k ++ [F.getD k (0, 0, 0)] := by
    rw [List.take_add_one, List.getD_eq_getElem?_getD, List.getElem?_eq_getElem hk]; rfl
  rw [e, cnt_snoc]
  rfl
theorem bI_t : bI true = 1 := rfl
theorem bI_f : bI false = 0 := rfl
theorem bI_ne {b : Bool} (h : ¬ bI b = 0) : b = true := by cases b with
  | false => exact absurd rfl h
  | true => rfl
theorem bI_eq {b : Bool} (h : bI b = 0) : b = false := by cases b with
  | false => rfl
  | true => exact absurd h (by decide)
theorem bI_01 (b : Bool) : bI b = 0 ∨ bI b = 1 := by cases b with
  | false => exact Or.inl rfl
  | true => exact Or.inr rfl
theorem mul40 (w k : Nat) : (40 : Int32) * nI w + nI k = nI (40 * w + k) := by
  rw [show (40 : Int32) = nI 40 from rfl, pk_mul, nI_add]
end
section
theorem metX2_put (l : Launch) {E : EE} {g : GG} {y : DS} {bt : Bool} {dr : Wd} (b : Int32) (hb : sI y 1 = bI bt) (hd : mDr y dr) : MWi l yX2_put cX2_put 2 (some .int) 0 E (mW E g) y [.ref g.1, .int b] (fun r u => (pcd bt dr b → r = nI (dr.length + 1) ∧ u = pI (pA y 6 dr.length b) 7 (nI (dr.length + 1))) ∧ (¬ pcd bt dr b → r = -1 ∧ u = y)) := by
  refine MWi.start (own := RX2) (by decide) rfl (Nat.le_of_ble_eq_true rfl) ?_
  intro z A hz C hR hH
  show V z (0, 0) _ [] _ 0 [(0, .ref g.1), (1, .int b)] []
  have h40 := hd.2.1
  have hno : ¬ pcd bt dr b → V z (0, 0) (zs z).heap [] (QWi z E (mW E g) A (fun r u => (pcd bt dr b → r = nI (dr.length + 1) ∧ u = pI (pA y 6 dr.length b) 7 (nI (dr.length + 1))) ∧ (¬ pcd bt dr b → r = -1 ∧ u = y))) 33 [(0, .ref g.1), (1, .int b)] [] := by
    intro hn
    refine v_iconst C (-1) (by decide) dX2_put_33 ?_
    exact v_iretW C hH ⟨fun q => absurd q hn, fun _ => ⟨rfl, rfl⟩⟩ dX2_put_34
  refine v_aload_n C dX2_put_0 rfl 0 rfl ?_
  refine mg7 C hH.1 dX2_put_1 ?_
  refine v_ei (y := nI dr.length) (hd.1) ?_
  refine v_bipush C 40 (by decide) dX2_put_4 ?_
  refine v_icmp_eq C 33 dX2_put_6 (by decide) (fun h1 => ?_) (fun h1 => ?_)
  · exact hno (fun q => q.2.1 ((nI_eq (by omega) (by decide)).mp h1))
  · have h41 : ¬ dr.length = 40 := fun q => h1 (by rw [q]; rfl)
    refine v_iload_n C dX2_put_9 rfl 1 rfl ?_
    refine v_if_lt C 33 dX2_put_10 (by decide) (fun h2 => ?_) (fun h2 => ?_)
    · exact hno (fun q => q.2.2.1 h2)
    · refine v_iload_n C dX2_put_13 rfl 1 rfl ?_
      refine v_sipush C 255 (by decide) dX2_put_14 ?_
      refine v_icmp_gt C 33 dX2_put_17 (by decide) (fun h3 => ?_) (fun h3 => ?_)
      · exact hno (fun q => q.2.2.2.1 h3)
      · refine v_iload_n C dX2_put_20 rfl 1 rfl ?_
        refine v_bipush C 10 (by decide) dX2_put_21 ?_
        refine v_icmp_eq C 33 dX2_put_23 (by decide) (fun h4 => ?_) (fun h4 => ?_)
        · exact hno (fun q => q.2.2.2.2 h4)
        · refine v_aload_n C dX2_put_26 rfl 0 rfl ?_
          refine mg1 C hH.1 dX2_put_27 ?_
          refine v_ei (y := bI bt) (hb) ?_
          refine v_if_eq C 35 dX2_put_30 (by decide) (fun h5 => ?_) (fun h5 => ?_)
          · refine v_aload_n C dX2_put_35 rfl 0 rfl ?_
            refine mg6 C hH.1 dX2_put_36 ?_
            refine v_aload_n C dX2_put_39 rfl 0 rfl ?_
            refine mg7 C hH.1 dX2_put_40 ?_
            refine v_ei (y := nI dr.length) (hd.1) ?_
            refine v_iload_n C dX2_put_43 rfl 1 rfl ?_
            refine ms6 C (dr.length) hH (rfl) (by first | assumption | omega) dX2_put_44 (fun H locs hH => ?_)
            refine v_aload_n C dX2_put_45 rfl 0 rfl ?_
            refine v_dup C rfl dX2_put_46 ?_
            refine mg7 C hH.1 dX2_put_47 ?_
            refine v_ei (show sI (pA y 6 dr.length b) 7 = sI y 7 from rfl) ?_
            refine v_ei (y := nI dr.length) (hd.1) ?_
            refine v_iconst C 1 (by decide) dX2_put_50 ?_
            refine v_iadd C dX2_put_51 ?_
            refine v_ei (y := nI (dr.length + 1)) (nI_1 _) ?_
            refine mp7 C hH dX2_put_52 (fun H locs hH => ?_)
            refine v_aload_n C dX2_put_55 rfl 0 rfl ?_
            refine mg7 C hH.1 dX2_put_56 ?_
            refine v_ei (show sI (pI (pA y 6 dr.length b) 7 (nI (dr.length + 1))) 7 = nI (dr.length + 1) from rfl) ?_
            exact v_iretW C hH ⟨fun _ => ⟨rfl, rfl⟩, fun q => absurd ⟨bI_eq h5, h41, h2, h3, h4⟩ q⟩ dX2_put_59
          · exact hno (fun q => h5 (by rw [q.1]; rfl))
theorem metX2_skip (l : Launch) {E : EE} {g : GG} {y : DS} {bt : Bool} {pl : Nat} (n : Int64) (hb : sI y 1 = bI bt) (hp : sL y 11 = lN pl) : MWi l yX2_skip cX2_skip 3 (some .boolean) 0 E (mW E g) y [.ref g.1, .long n] (fun r u => (scd bt n pl → r = 1 ∧ u = pI (pL y 11 (lN pl + n)) 9 0) ∧ (¬ scd bt n pl → r = 0 ∧ u = y)) := by
  refine MWi.start (own := RX2) (by decide) rfl (Nat.le_of_ble_eq_true rfl) ?_
  intro z A hz C hR hH
  show V z (0, 0) _ [] _ 0 [(0, .ref g.1), (1, .long n)] []
  have hno : ¬ scd bt n pl → V z (0, 0) (zs z).heap [] (QWi z E (mW E g) A (fun r u => (scd bt n pl → r = 1 ∧ u = pI (pL y 11 (lN pl + n)) 9 0) ∧ (¬ scd bt n pl → r = 0 ∧ u = y))) 26 [(0, .ref g.1), (1, .long n)] [] := by
    intro hn
    refine v_iconst C 0 (by decide) dX2_skip_26 ?_
    exact v_zretW C hH ⟨fun q => absurd q hn, fun _ => ⟨rfl, rfl⟩⟩ (Or.inl rfl) dX2_skip_27
  refine v_aload_n C dX2_skip_0 rfl 0 rfl ?_
  refine mg1 C hH.1 dX2_skip_1 ?_
  refine v_ei (y := bI bt) (hb) ?_
  refine v_if_eq C 26 dX2_skip_4 (by decide) (fun h0 => ?_) (fun h0 => ?_)
  · exact hno (fun q => by rw [q.1] at h0; exact absurd h0 (by decide))
  · refine v_lload_n C dX2_skip_7 rfl 1 rfl ?_
    refine v_lconst C 0 (by decide) dX2_skip_8 ?_
    refine v_lcmp C dX2_skip_9 ?_
    refine v_ifl_lt C 26 dX2_skip_10 (by decide) (fun h1 => ?_) (fun h1 => ?_)
    · exact hno (fun q => q.2.1 h1)
    · refine v_lload_n C dX2_skip_13 rfl 1 rfl ?_
      refine v_ldc2 C q337 dX2_skip_14 ?_
      refine v_aload_n C dX2_skip_17 rfl 0 rfl ?_
      refine mg11 C hH.1 dX2_skip_18 ?_
      refine v_el (y := lN pl) (hp) ?_
      refine v_lsub C dX2_skip_21 ?_
      refine v_lcmp C dX2_skip_22 ?_
      refine v_ifl_le C 28 dX2_skip_23 (by decide) (fun h2 => ?_) (fun h2 => ?_)
      · refine v_aload_n C dX2_skip_28 rfl 0 rfl ?_
        refine v_dup C rfl dX2_skip_29 ?_
        refine mg11 C hH.1 dX2_skip_30 ?_
        refine v_el (y := lN pl) (hp) ?_
        refine v_lload_n C dX2_skip_33 rfl 1 rfl ?_
        refine v_ladd C dX2_skip_34 ?_
        refine mp11 C hH dX2_skip_35 (fun H locs hH => ?_)
        refine v_aload_n C dX2_skip_38 rfl 0 rfl ?_
        refine v_iconst C 0 (by decide) dX2_skip_39 ?_
        refine mp9 C hH dX2_skip_40 (fun H locs hH => ?_)
        refine v_iconst C 1 (by decide) dX2_skip_43 ?_
        exact v_zretW C hH ⟨fun _ => ⟨rfl, rfl⟩, fun q => absurd ⟨bI_ne h0, h1, h2⟩ q⟩ (Or.inr rfl) dX2_skip_44
      · exact hno (fun q => h2 q.2.2)
theorem metX2_build (l : Launch) {E : EE} {g : GG} {y : DS} {bt : Bool} {N : Nat} (hb : sI y 1 = bI bt) (hN : sI y 2 = nI N) : MWi l yX2_build cX2_build 1 (some .int) 0 E (mW E g) y [.ref g.1] (fun r u => (bt = true → r = -1 ∧ u = y) ∧ (bt = false → r = nI N ∧ u = pI y 1 1)) := by
  refine MWi.start (own := RX2) (by decide) rfl (Nat.le_of_ble_eq_true rfl) ?_
  intro z A hz C hR hH
  show V z (0, 0) _ [] _ 0 [(0, .ref g.1)] []
  refine v_aload_n C dX2_build_0 rfl 0 rfl ?_
  refine mg1 C hH.1 dX2_build_1 ?_
  refine v_ei (y := bI bt) (hb) ?_
  refine v_if_eq C 9 dX2_build_4 (by decide) (fun h0 => ?_) (fun h0 => ?_)
  · refine v_aload_n C dX2_build_9 rfl 0 rfl ?_
    refine v_iconst C 1 (by decide) dX2_build_10 ?_
    refine mp1 C hH (by decide) dX2_build_11 (fun H locs hH => ?_)
    refine v_aload_n C dX2_build_14 rfl 0 rfl ?_
    refine mg2 C hH.1 dX2_build_15 ?_
    refine v_ei (show sI (pI y 1 1) 2 = sI y 2 from rfl) ?_
    refine v_ei (y := nI N) (hN) ?_
    exact v_iretW C hH ⟨fun e => by rw [e] at h0; exact absurd h0 (by decide), fun _ => ⟨rfl, rfl⟩⟩ dX2_build_18
  · refine v_iconst C (-1) (by decide) dX2_build_7 ?_
    exact v_iretW C hH ⟨fun _ => ⟨rfl, rfl⟩, fun e => by rw [e] at h0; exact absurd rfl h0⟩ dX2_build_8
theorem metX2_isFound (l : Launch) {E : EE} {g : GG} {y : DS} {n : Nat} (k : Int32) (hn : n ≤ 4200) (hf : sI y 13 = nI n) : MRi l yX2_isFound cX2_isFound 2 (some .boolean) 0 E (mW E g y) [.ref g.1, .int k] (fun r => (r = 1 ∧ ∃ j, j < n ∧ k = nI j) ∨ (r = 0 ∧ ∀ j, j < n → ¬ k = nI j)) := by
  refine MRi.start (own := RX2) (by decide) rfl (Nat.le_of_ble_eq_true rfl) ?_
  intro z hz C hR hP
  show V z (0, 0) _ [] _ 0 [(0, .ref g.1), (1, .int k)] []
  refine v_iload_n C dX2_isFound_0 rfl 1 rfl ?_
  refine v_if_lt C 16 dX2_isFound_1 (by decide) (fun h0 => ?_) (fun h0 => ?_)
  · refine v_iconst C 0 (by decide) dX2_isFound_16 ?_
    exact v_zretR C rfl (Or.inr ⟨rfl, no_neg (by omega) h0⟩) (Or.inl rfl) dX2_isFound_17
  · refine v_iload_n C dX2_isFound_4 rfl 1 rfl ?_
    refine v_aload_n C dX2_isFound_5 rfl 0 rfl ?_
    refine mg13 C hP dX2_isFound_6 ?_
    refine v_ei (y := nI n) (hf) ?_
    refine v_icmp_ge C 16 dX2_isFound_9 (by decide) (fun h1 => ?_) (fun h1 => ?_)
    · refine v_iconst C 0 (by decide) dX2_isFound_16 ?_
      exact v_zretR C rfl (Or.inr ⟨rfl, no_big (by omega) h1⟩) (Or.inl rfl) dX2_isFound_17
    · refine v_iconst C 1 (by decide) dX2_isFound_12 ?_
      refine v_goto C 17 dX2_isFound_13 (by decide) ?_
      exact v_zretR C rfl (Or.inl ⟨rfl, is_in (by omega) h0 h1⟩) (Or.inr rfl) dX2_isFound_17
theorem metX2_word (l : Launch) {E : EE} {g : GG} {y : DS} {F : FL} (k : Int32) (hF : mFd y F) : MRi l yX2_word cX2_word 2 (some .int) 1 E (mW E g y) [.ref g.1, .int k] (fun r => rd F.length (fun j => nI (wd F j)) k r) := by
  refine MRi.start (own := RX2) (by decide) rfl (Nat.le_of_ble_eq_true rfl) ?_
  intro z hz C hR hP
  show V z (0, 0) _ [] _ 0 [(0, .ref g.1), (1, .int k)] []
  have h42 := hF.2.1
  refine v_aload_n C dX2_word_0 rfl 0 rfl ?_
  refine v_iload_n C dX2_word_1 rfl 1 rfl ?_
  refine v_callRi C (ci := 1) (vC := (RX2, TX2, 20)) (rest := []) (metX2_isFound (zl z) k hF.2.1 hF.1) (lw_V q350 q352 qs14 q19 q353) DX2_isFound (hR.lower (by decide)) (by decide) hP rfl rfl rfl (Nat.le_of_ble_eq_true rfl) rfl dX2_word_2 (fun r hr => ?_)
  refine v_if_eq C 17 dX2_word_5 (by decide) (fun h0 => ?_) (fun h0 => ?_)
  · refine v_iconst C (-1) (by decide) dX2_word_17 ?_
    rcases hr with ⟨hr, -⟩ | ⟨-, hr⟩
    · rw [hr] at h0; exact absurd h0 (by decide)
    · exact v_iretR C rfl (Or.inr ⟨hr, rfl⟩) dX2_word_18
  · rcases hr with ⟨-, j, hj, rfl⟩ | ⟨hr, -⟩
    · refine v_aload_n C dX2_word_8 rfl 0 rfl ?_
      refine mg14 C hP dX2_word_9 ?_
      refine v_iload_n C dX2_word_12 rfl 1 rfl ?_
      refine ma14 C (j) hP (rfl) (by first | assumption | omega) dX2_word_13 ?_
      refine v_ei (y := nI (wd F j)) ((hF.2.2 j hj).1) ?_
      refine v_goto C 18 dX2_word_14 (by decide) ?_
      exact v_iretR C rfl (Or.inl ⟨j, hj, rfl, rfl⟩) dX2_word_18
    · exact absurd hr h0
theorem metX2_end (l : Launch) {E : EE} {g : GG} {y : DS} {F : FL} (k : Int32) (hF : mFd y F) : MRl l yX2_end cX2_end 2 (some .long) 1 E (mW E g y) [.ref g.1, .int k] (fun r => rdL F.length (fun j => lN (en F j)) k r) := by
  refine MRl.start (own := RX2) (by decide) rfl (Nat.le_of_ble_eq_true rfl) ?_
  intro z hz C hR hP
  show V z (0, 0) _ [] _ 0 [(0, .ref g.1), (1, .int k)] []
  have h42 := hF.2.1
  refine v_aload_n C dX2_end_0 rfl 0 rfl ?_
  refine v_iload_n C dX2_end_1 rfl 1 rfl ?_
  refine v_callRi C (ci := 1) (vC := (RX2, TX2, 20)) (rest := []) (metX2_isFound (zl z) k hF.2.1 hF.1) (lw_V q350 q352 qs14 q19 q353) DX2_isFound (hR.lower (by decide)) (by decide) hP rfl rfl rfl (Nat.le_of_ble_eq_true rfl) rfl dX2_end_2 (fun r hr => ?_)
  refine v_if_eq C 17 dX2_end_5 (by decide) (fun h0 => ?_) (fun h0 => ?_)
  · refine v_ldc2 C q358 dX2_end_17 ?_
    rcases hr with ⟨hr, -⟩ | ⟨-, hr⟩
    · rw [hr] at h0; exact absurd h0 (by decide)
    · exact v_lretR C rfl (Or.inr ⟨hr, rfl⟩) dX2_end_20
  · rcases hr with ⟨-, j, hj, rfl⟩ | ⟨hr, -⟩
    · refine v_aload_n C dX2_end_8 rfl 0 rfl ?_
      refine mg15 C hP dX2_end_9 ?_
      refine v_iload_n C dX2_end_12 rfl 1 rfl ?_
      refine ma15 C (j) hP (rfl) (by first | assumption | omega) dX2_end_13 ?_
      refine v_el (y := lN (en F j)) ((hF.2.2 j hj).2.1) ?_
      refine v_goto C 20 dX2_end_14 (by decide) ?_
      exact v_lretR C rfl (Or.inl ⟨j, hj, rfl, rfl⟩) dX2_end_20
    · exact absurd hr h0
theorem metX2_picked (l : Launch) {E : EE} {g : GG} {y : DS} {pk : List Nat} (k : Int32) (hp : mPk y pk) : MRi l yX2_picked cX2_picked 2 (some .int) 0 E (mW E g y) [.ref g.1, .int k] (fun r => rd pk.length (fun j => nI (pk.getD j 0)) k r) := by
  refine MRi.start (own := RX2) (by decide) rfl (Nat.le_of_ble_eq_true rfl) ?_
  intro z hz C hR hP
  show V z (0, 0) _ [] _ 0 [(0, .ref g.1), (1, .int k)] []
  refine v_aload_n C dX2_picked_0 rfl 0 rfl ?_
  refine mg18 C hP dX2_picked_1 ?_
  refine v_if_eq C 19 dX2_picked_4 (by decide) (fun h0 => ?_) (fun h0 => ?_)
  · refine v_iconst C (-1) (by decide) dX2_picked_19 ?_
    refine v_goto C 29 dX2_picked_20 (by decide) ?_
    rcases hp with ⟨h, -⟩ | ⟨-, h⟩
    · rw [h] at h0; exact absurd h0 (by decide)
    · subst h; exact v_iretR C rfl (Or.inr ⟨fun j hj => absurd hj (Nat.not_lt_zero _), rfl⟩) dX2_picked_29
  · rcases hp with ⟨-, h1, h2, h3⟩ | ⟨h, -⟩
    · refine v_iload_n C dX2_picked_7 rfl 1 rfl ?_
      refine v_if_lt C 19 dX2_picked_8 (by decide) (fun c0 => ?_) (fun c0 => ?_)
      · refine v_iconst C (-1) (by decide) dX2_picked_19 ?_
        refine v_goto C 29 dX2_picked_20 (by decide) ?_
        exact v_iretR C rfl (Or.inr ⟨no_neg (by omega) c0, rfl⟩) dX2_picked_29
      · refine v_iload_n C dX2_picked_11 rfl 1 rfl ?_
        refine v_aload_n C dX2_picked_12 rfl 0 rfl ?_
        refine mg17 C hP dX2_picked_13 ?_
        refine v_ei (y := nI pk.length) (h1) ?_
        refine v_icmp_lt C 23 dX2_picked_16 (by decide) (fun c1 => ?_) (fun c1 => ?_)
        · obtain ⟨j, hj, rfl⟩ := is_in (by omega) c0 (Int32.not_le.mpr c1)
          refine v_aload_n C dX2_picked_23 rfl 0 rfl ?_
          refine mg19 C hP dX2_picked_24 ?_
          refine v_iload_n C dX2_picked_27 rfl 1 rfl ?_
          refine ma19 C (j) hP (rfl) (by omega) dX2_picked_28 ?_
          refine v_ei (y := nI (pk.getD j 0)) (h3 j hj) ?_
          exact v_iretR C rfl (Or.inl ⟨j, hj, rfl, rfl⟩) dX2_picked_29
        · refine v_iconst C (-1) (by decide) dX2_picked_19 ?_
          refine v_goto C 29 dX2_picked_20 (by decide) ?_
          exact v_iretR C rfl (Or.inr ⟨no_big (by omega) (Int32.not_lt.mp c1), rfl⟩) dX2_picked_29
    · exact absurd h h0
theorem count_loop {z : ZZ} {E : EE} {g : GG} {y : DS} {D : List Wd} {F : FL} {j : Nat} (C : kC RX2 cX2_count 4 (some .int) E z) (hP : wP E (mW E g y) (zs z).heap) (hF : mFd y F) (hD : D.length ≤ 60) (hj : j < D.length) (hw : ∀ k, k < F.length → wd F k < D.length) : ∀ (m k : Nat), k + m = F.length → V z (0, 0) (zs z).heap [] (QRi z (fun r => rd D.length (fun j => nI (cnt F j)) (nI j) r)) 18 [(0, .ref g.1), (1, .int (nI j)), (2, .int (nI (cnt (F.take k) j))), (3, .int (nI k))] [] := by
  have h42 := hF.2.1
  intro m
  induction m with
  | zero =>
    intro k hk
    have hk : k = F.length := by omega
    subst hk
    refine v_iload_n C dX2_count_18 rfl 3 rfl ?_
    refine v_aload_n C dX2_count_19 rfl 0 rfl ?_
    refine mg13 C hP dX2_count_20 ?_
    refine v_ei (y := nI F.length) (hF.1) ?_
    refine v_icmp_ge C 50 dX2_count_23 (by decide) (fun c0 => ?_) (fun c0 => ?_)
    · refine v_iload_n C dX2_count_50 rfl 2 rfl ?_
      rw [List.take_length]
      exact v_iretR C rfl (Or.inl ⟨j, hj, rfl, rfl⟩) dX2_count_51
    · exact absurd (Int32.le_refl _) c0
  | succ m ih =>
    intro k hk
    have hk1 : k < F.length := by omega
    have hwk := hw k hk1
    have k42 : ∀ v : Int32, v = (if wd F k = j then 1 else 0) → V z (0, 0) (zs z).heap [] (QRi z (fun r => rd D.length (fun j => nI (cnt F j)) (nI j) r)) 42 [(0, .ref g.1), (1, .int (nI j)), (2, .int (nI (cnt (F.take k) j))), (3, .int (nI k))] [.int v, .int (nI (cnt (F.take k) j))] := by
      intro v hv
      refine v_iadd C dX2_count_42 ?_
      refine v_ei (y := nI (cnt (F.take (k + 1)) j)) (by rw [hv, cnt_take hk1]; split; exact nI_add _ 1; exact nI_add _ 0) ?_
      refine v_istore_n C [1, 2, 0, 3] [(0, .ref g.1), (1, .int (nI j)), (2, .int (nI (cnt (F.take (k + 1)) j))), (3, .int (nI k))] dX2_count_43 rfl (by decide) rfl ?_
      refine v_iinc C (k := 3) (nI (k + 1)) [1, 2, 3, 0] [(0, .ref g.1), (1, .int (nI j)), (2, .int (nI (cnt (F.take (k + 1)) j))), (3, .int (nI (k + 1)))] dX2_count_44 rfl (inc1 _) (by decide) rfl ?_
      refine v_goto C 18 dX2_count_47 (by decide) ?_
      exact ih (k + 1) (by omega)
    refine v_iload_n C dX2_count_18 rfl 3 rfl ?_
    refine v_aload_n C dX2_count_19 rfl 0 rfl ?_
    refine mg13 C hP dX2_count_20 ?_
    refine v_ei (y := nI F.length) (hF.1) ?_
    refine v_icmp_ge C 50 dX2_count_23 (by decide) (fun c0 => ?_) (fun c0 => ?_)
    · exact absurd c0 (nI_ge hk1 (by omega))
    · refine v_iload_n C dX2_count_26 rfl 2 rfl ?_
      refine v_aload_n C dX2_count_27 rfl 0 rfl ?_
      refine mg14 C hP dX2_count_28 ?_
      refine v_iload_n C dX2_count_31 rfl 3 rfl ?_
      refine ma14 C (k) hP (rfl) (by omega) dX2_count_32 ?_
      refine v_ei (y := nI (wd F k)) ((hF.2.2 k hk1).1) ?_
      refine v_iload_n C dX2_count_33 rfl 1 rfl ?_
      refine v_icmp_ne C 41 dX2_count_34 (by decide) (fun c1 => ?_) (fun c1 => ?_)
      · refine v_iconst C 0 (by decide) dX2_count_41 ?_
        exact k42 _ (by rw [if_neg (fun e => c1 (by rw [e]))])
      · refine v_iconst C 1 (by decide) dX2_count_37 ?_
        refine v_goto C 42 dX2_count_38 (by decide) ?_
        exact k42 _ (by rw [if_pos ((nI_eq (by omega) (by omega)).mp c1)])
theorem metX2_count (l : Launch) {E : EE} {g : GG} {y : DS} {D : List Wd} {F : FL} (k : Int32) (hD : D.length ≤ 60) (hw : sI y 3 = nI D.length) (hF : mFd y F) (hwd : ∀ k, k < F.length → wd F k < D.length) : MRi l yX2_count cX2_count 4 (some .int) 0 E (mW E g y) [.ref g.1, .int k] (fun r => rd D.length (fun j => nI (cnt F j)) k r) := by
  refine MRi.start (own := RX2) (by decide) rfl (Nat.le_of_ble_eq_true rfl) ?_
  intro z hz C hR hP
  show V z (0, 0) _ [] _ 0 [(0, .ref g.1), (1, .int k)] []
  refine v_iload_n C dX2_count_0 rfl 1 rfl ?_
  refine v_if_lt C 12 dX2_count_1 (by decide) (fun h0 => ?_) (fun h0 => ?_)
  · refine v_iconst C (-1) (by decide) dX2_count_12 ?_
    exact v_iretR C rfl (Or.inr ⟨no_neg (by omega) h0, rfl⟩) dX2_count_13
  · refine v_iload_n C dX2_count_4 rfl 1 rfl ?_
    refine v_aload_n C dX2_count_5 rfl 0 rfl ?_
    refine mg3 C hP dX2_count_6 ?_
    refine v_ei (y := nI D.length) (hw) ?_
    refine v_icmp_lt C 14 dX2_count_9 (by decide) (fun h1 => ?_) (fun h1 => ?_)
    · obtain ⟨j, hj, rfl⟩ := is_in (by omega) h0 (Int32.not_le.mpr h1)
      refine v_iconst C 0 (by decide) dX2_count_14 ?_
      refine v_istore_n C [1, 2, 0] [(0, .ref g.1), (1, .int (nI j)), (2, .int 0)] dX2_count_15 rfl (by decide) rfl ?_
      refine v_iconst C 0 (by decide) dX2_count_16 ?_
      refine v_istore_n C [1, 2, 3, 0] [(0, .ref g.1), (1, .int (nI j)), (2, .int 0), (3, .int 0)] dX2_count_17 rfl (by decide) rfl ?_
      exact count_loop C hP hF hD hj hwd F.length 0 (by omega)
    · refine v_iconst C (-1) (by decide) dX2_count_12 ?_
      exact v_iretR C rfl (Or.inr ⟨no_big (by omega) (Int32.not_lt.mp h1), rfl⟩) dX2_count_13
theorem newAt_0 {F : FL} : newAt F 0 = true := rfl
theorem newAt_s {F : FL} {k : Nat} (h : 1 ≤ k) : newAt F k = true ↔ ¬ (F.getD k (0, 0, 0)).2.2 = (F.getD (k - 1) (0, 0, 0)).2.2 := by
  unfold newAt
  simp [show ¬ k = 0 by omega]
def mLn (y : DS) (F : FL) : Prop := mFd y F ∧ ∀ k, k < F.length → (F.getD k (0, 0, 0)).2.2 < 20000
theorem lines_loop {z : ZZ} {E : EE} {g : GG} {y : DS} {F : FL} (C : kC RX2 cX2_lines 3 (some .int) E z) (hP : wP E (mW E g y) (zs z).heap) (h : mLn y F) : ∀ (m k : Nat), k + m = F.length → V z (0, 0) (zs z).heap [] (QRi z (fun r => r = nI (lc F F.length))) 4 [(0, .ref g.1), (1, .int (nI (lc F k))), (2, .int (nI k))] [] := by
  have hF := h.1
  have h42 := hF.2.1
  intro m
  induction m with
  | zero =>
    intro k hk
    have hk : k = F.length := by omega
    subst hk
    refine v_iload_n C dX2_lines_4 rfl 2 rfl ?_
    refine v_aload_n C dX2_lines_5 rfl 0 rfl ?_
    refine mg13 C hP dX2_lines_6 ?_
    refine v_ei (y := nI F.length) (hF.1) ?_
    refine v_icmp_ge C 47 dX2_lines_9 (by decide) (fun c0 => ?_) (fun c0 => ?_)
    · refine v_iload_n C dX2_lines_47 rfl 1 rfl ?_
      exact v_iretR C rfl rfl dX2_lines_48
    · exact absurd (Int32.le_refl _) c0
  | succ m ih =>
    intro k hk
    have hk1 : k < F.length := by omega
    have hlk := h.2 k hk1
    have k39 : ∀ v : Int32, v = (if newAt F k = true then 1 else 0) → V z (0, 0) (zs z).heap [] (QRi z (fun r => r = nI (lc F F.length))) 39 [(0, .ref g.1), (1, .int (nI (lc F k))), (2, .int (nI k))] [.int v, .int (nI (lc F k))] := by
      intro v hv
      refine v_iadd C dX2_lines_39 ?_
      refine v_ei (y := nI (lc F (k + 1))) (by rw [hv, lc]; split; exact nI_add _ 1; exact nI_add _ 0) ?_
      refine v_istore_n C [1, 0, 2] [(0, .ref g.1), (1, .int (nI (lc F (k + 1)))), (2, .int (nI k))] dX2_lines_40 rfl (by decide) rfl ?_
      refine v_iinc C (k := 2) (nI (k + 1)) [1, 2, 0] [(0, .ref g.1), (1, .int (nI (lc F (k + 1)))), (2, .int (nI (k + 1)))] dX2_lines_41 rfl (inc1 _) (by decide) rfl ?_
      refine v_goto C 4 dX2_lines_44 (by decide) ?_
      exact ih (k + 1) (by omega)
    refine v_iload_n C dX2_lines_4 rfl 2 rfl ?_
    refine v_aload_n C dX2_lines_5 rfl 0 rfl ?_
    refine mg13 C hP dX2_lines_6 ?_
    refine v_ei (y := nI F.length) (hF.1) ?_
    refine v_icmp_ge C 47 dX2_lines_9 (by decide) (fun c0 => ?_) (fun c0 => ?_)
    · exact absurd c0 (nI_ge hk1 (by omega))
    · refine v_iload_n C dX2_lines_12 rfl 1 rfl ?_
      refine v_iload_n C dX2_lines_13 rfl 2 rfl ?_
      refine v_if_eq C 34 dX2_lines_14 (by decide) (fun c1 => ?_) (fun c1 => ?_)
      · have e : k = 0 := (nI_eq (by omega) (by decide)).mp (c1.trans nI_0.symm)
        refine v_iconst C 1 (by decide) dX2_lines_34 ?_
        refine v_goto C 39 dX2_lines_35 (by decide) ?_
        exact k39 _ (by rw [e, newAt_0]; rfl)
      · have hk0 : 1 ≤ k := Nat.pos_of_ne_zero (fun e => c1 (by rw [e]; exact nI_0))
        have hlp := h.2 (k - 1) (by omega)
        refine v_aload_n C dX2_lines_17 rfl 0 rfl ?_
        refine mg16 C hP dX2_lines_18 ?_
        refine v_iload_n C dX2_lines_21 rfl 2 rfl ?_
        refine ma16 C (k) hP (rfl) (by omega) dX2_lines_22 ?_
        refine v_ei (y := nI (F.getD k (0, 0, 0)).2.2) ((hF.2.2 k hk1).2.2) ?_
        refine v_aload_n C dX2_lines_23 rfl 0 rfl ?_
        refine mg16 C hP dX2_lines_24 ?_
        refine v_iload_n C dX2_lines_27 rfl 2 rfl ?_
        refine v_iconst C 1 (by decide) dX2_lines_28 ?_
        refine v_isub C dX2_lines_29 ?_
        refine ma16 C (k - 1) hP (pk_sub (b := 1) hk0) (by omega) dX2_lines_30 ?_
        refine v_ei (y := nI (F.getD (k - 1) (0, 0, 0)).2.2) ((hF.2.2 (k - 1) (by omega)).2.2) ?_
        refine v_icmp_eq C 38 dX2_lines_31 (by decide) (fun c2 => ?_) (fun c2 => ?_)
        · refine v_iconst C 0 (by decide) dX2_lines_38 ?_
          exact k39 _ (by rw [if_neg (fun e => (newAt_s hk0).mp e ((nI_eq (by omega) (by omega)).mp c2))])
        · refine v_iconst C 1 (by decide) dX2_lines_34 ?_
          refine v_goto C 39 dX2_lines_35 (by decide) ?_
          exact k39 _ (by rw [if_pos ((newAt_s hk0).mpr (fun e => c2 (by rw [e])))])
theorem metX2_lines (l : Launch) {E : EE} {g : GG} {y : DS} {F : FL} (h : mLn y F) : MRi l yX2_lines cX2_lines 3 (some .int) 0 E (mW E g y) [.ref g.1] (fun r => r = nI (lc F F.length)) := by
  refine MRi.start (own := RX2) (by decide) rfl (Nat.le_of_ble_eq_true rfl) ?_
  intro z hz C hR hP
  show V z (0, 0) _ [] _ 0 [(0, .ref g.1)] []
  refine v_iconst C 0 (by decide) dX2_lines_0 ?_
  refine v_istore_n C [1, 0] [(0, .ref g.1), (1, .int 0)] dX2_lines_1 rfl (by decide) rfl ?_
  refine v_iconst C 0 (by decide) dX2_lines_2 ?_
  refine v_istore_n C [1, 2, 0] [(0, .ref g.1), (1, .int 0), (2, .int 0)] dX2_lines_3 rfl (by decide) rfl ?_
  exact lines_loop C hP h F.length 0 (by omega)
theorem line_loop {z : ZZ} {E : EE} {g : GG} {y : DS} {F : FL} {j0 : Nat} (C : kC RX2 cX2_line 4 (some .int) E z) (hP : wP E (mW E g y) (zs z).heap) (h : mLn y F) (hj0 : j0 < 2147483648) : ∀ (m k : Nat), k + m = F.length → lc F k ≤ j0 → V z (0, 0) (zs z).heap [] (QRi z (fun r => spL F (nI j0) r)) 4 [(0, .ref g.1), (1, .int (nI j0)), (2, .int (nI (j0 - lc F k))), (3, .int (nI k))] [] := by
  have hF := h.1
  have h42 := hF.2.1
  have hlc := lc_le F F.length
  intro m
  induction m with
  | zero =>
    intro k hk hle
    have hk : k = F.length := by omega
    subst hk
    refine v_iload_n C dX2_line_4 rfl 3 rfl ?_
    refine v_aload_n C dX2_line_5 rfl 0 rfl ?_
    refine mg13 C hP dX2_line_6 ?_
    refine v_ei (y := nI F.length) (hF.1) ?_
    refine v_icmp_ge C 57 dX2_line_9 (by decide) (fun c0 => ?_) (fun c0 => ?_)
    · refine v_iconst C (-1) (by decide) dX2_line_57 ?_
      exact v_iretR C rfl (Or.inr ⟨fun j hj e => by have := (nI_eq hj0 (by omega)).mp e; omega, rfl⟩) dX2_line_58
    · exact absurd (Int32.le_refl _) c0
  | succ m ih =>
    intro k hk hle
    have hk1 : k < F.length := by omega
    have hlk := h.2 k hk1
    have k51 : lc F (k + 1) ≤ j0 → V z (0, 0) (zs z).heap [] (QRi z (fun r => spL F (nI j0) r)) 51 [(0, .ref g.1), (1, .int (nI j0)), (2, .int (nI (j0 - lc F (k + 1)))), (3, .int (nI k))] [] := by
      intro hv
      refine v_iinc C (k := 3) (nI (k + 1)) [1, 2, 3, 0] [(0, .ref g.1), (1, .int (nI j0)), (2, .int (nI (j0 - lc F (k + 1)))), (3, .int (nI (k + 1)))] dX2_line_51 rfl (inc1 _) (by decide) rfl ?_
      refine v_goto C 4 dX2_line_54 (by decide) ?_
      exact ih (k + 1) (by omega) hv
    have k37 : newAt F k = true → V z (0, 0) (zs z).heap [] (QRi z (fun r => spL F (nI j0) r)) 37 [(0, .ref g.1), (1, .int (nI j0)), (2, .int (nI (j0 - lc F k))), (3, .int (nI k))] [] := by
      intro hnew
      have hs : lc F (k + 1) = lc F k + 1 := by rw [lc, if_pos hnew]
      refine v_iload_n C dX2_line_37 rfl 2 rfl ?_
      refine v_if_ne C 48 dX2_line_38 (by decide) (fun c0 => ?_) (fun c0 => ?_)
      · have hne : ¬ j0 - lc F k = 0 := fun e => c0 (by rw [e]; exact nI_0)
        refine v_iinc C (k := 2) (nI (j0 - lc F (k + 1))) [1, 2, 0, 3] [(0, .ref g.1), (1, .int (nI j0)), (2, .int (nI (j0 - lc F (k + 1)))), (3, .int (nI k))] dX2_line_48 rfl (by rw [show j0 - lc F k = (j0 - lc F (k + 1)) + 1 by omega]; exact dec1 _) (by decide) rfl ?_
        exact k51 (by omega)
      · have he : j0 - lc F k = 0 := (nI_eq (by omega) (by decide)).mp (c0.trans nI_0.symm)
        refine v_aload_n C dX2_line_41 rfl 0 rfl ?_
        refine mg16 C hP dX2_line_42 ?_
        refine v_iload_n C dX2_line_45 rfl 3 rfl ?_
        refine ma16 C (k) hP (rfl) (by omega) dX2_line_46 ?_
        refine v_ei (y := nI (F.getD k (0, 0, 0)).2.2) ((hF.2.2 k hk1).2.2) ?_
        exact v_iretR C rfl (Or.inl ⟨k, hk1, hnew, by rw [show lc F k = j0 by omega], rfl⟩) dX2_line_47
    refine v_iload_n C dX2_line_4 rfl 3 rfl ?_
    refine v_aload_n C dX2_line_5 rfl 0 rfl ?_
    refine mg13 C hP dX2_line_6 ?_
    refine v_ei (y := nI F.length) (hF.1) ?_
    refine v_icmp_ge C 57 dX2_line_9 (by decide) (fun c0 => ?_) (fun c0 => ?_)
    · exact absurd c0 (nI_ge hk1 (by omega))
    · refine v_iload_n C dX2_line_12 rfl 1 rfl ?_
      refine v_if_lt C 57 dX2_line_13 (by decide) (fun ca => ?_) (fun ca => ?_)
      · exact absurd ca (nI_pos hj0)
      · refine v_iload_n C dX2_line_16 rfl 3 rfl ?_
        refine v_if_eq C 37 dX2_line_17 (by decide) (fun c1 => ?_) (fun c1 => ?_)
        · have e : k = 0 := (nI_eq (by omega) (by decide)).mp (c1.trans nI_0.symm)
          exact k37 (by rw [e]; exact newAt_0)
        · have hk0 : 1 ≤ k := Nat.pos_of_ne_zero (fun e => c1 (by rw [e]; exact nI_0))
          have hlp := h.2 (k - 1) (by omega)
          refine v_aload_n C dX2_line_20 rfl 0 rfl ?_
          refine mg16 C hP dX2_line_21 ?_
          refine v_iload_n C dX2_line_24 rfl 3 rfl ?_
          refine ma16 C (k) hP (rfl) (by omega) dX2_line_25 ?_
          refine v_ei (y := nI (F.getD k (0, 0, 0)).2.2) ((hF.2.2 k hk1).2.2) ?_
          refine v_aload_n C dX2_line_26 rfl 0 rfl ?_
          refine mg16 C hP dX2_line_27 ?_
          refine v_iload_n C dX2_line_30 rfl 3 rfl ?_
          refine v_iconst C 1 (by decide) dX2_line_31 ?_
          refine v_isub C dX2_line_32 ?_
          refine ma16 C (k - 1) hP (pk_sub (b := 1) hk0) (by omega) dX2_line_33 ?_
          refine v_ei (y := nI (F.getD (k - 1) (0, 0, 0)).2.2) ((hF.2.2 (k - 1) (by omega)).2.2) ?_
          refine v_icmp_eq C 51 dX2_line_34 (by decide) (fun c2 => ?_) (fun c2 => ?_)
          · have hold : ¬ newAt F k = true := fun e => (newAt_s hk0).mp e ((nI_eq (by omega) (by omega)).mp c2)
            have hs : lc F (k + 1) = lc F k := by rw [lc, if_neg hold]
            have := k51 (by omega)
            rw [hs] at this
            exact this
          · exact k37 ((newAt_s hk0).mpr (fun e => c2 (by rw [e])))
theorem metX2_line (l : Launch) {E : EE} {g : GG} {y : DS} {F : FL} (k : Int32) (h : mLn y F) : MRi l yX2_line cX2_line 4 (some .int) 0 E (mW E g y) [.ref g.1, .int k] (fun r => spL F k r) := by
  refine MRi.start (own := RX2) (by decide) rfl (Nat.le_of_ble_eq_true rfl) ?_
  intro z hz C hR hP
  show V z (0, 0) _ [] _ 0 [(0, .ref g.1), (1, .int k)] []
  have hlc := lc_le F F.length
  have h42 := h.1.2.1
  by_cases hk : k < 0
  · refine v_iload_n C dX2_line_0 rfl 1 rfl ?_
    refine v_istore_n C [1, 2, 0] [(0, .ref g.1), (1, .int k), (2, .int k)] dX2_line_1 rfl (by decide) rfl ?_
    refine v_iconst C 0 (by decide) dX2_line_2 ?_
    refine v_istore_n C [1, 2, 3, 0] [(0, .ref g.1), (1, .int k), (2, .int k), (3, .int 0)] dX2_line_3 rfl (by decide) rfl ?_
    refine v_iload_n C dX2_line_4 rfl 3 rfl ?_
    refine v_aload_n C dX2_line_5 rfl 0 rfl ?_
    refine mg13 C hP dX2_line_6 ?_
    refine v_ei (y := nI F.length) (h.1.1) ?_
    refine v_icmp_ge C 57 dX2_line_9 (by decide) (fun c0 => ?_) (fun c0 => ?_)
    · refine v_iconst C (-1) (by decide) dX2_line_57 ?_
      exact v_iretR C rfl (Or.inr ⟨no_neg (by omega) hk, rfl⟩) dX2_line_58
    · refine v_iload_n C dX2_line_12 rfl 1 rfl ?_
      refine v_if_lt C 57 dX2_line_13 (by decide) (fun c1 => ?_) (fun c1 => ?_)
      · refine v_iconst C (-1) (by decide) dX2_line_57 ?_
        exact v_iretR C rfl (Or.inr ⟨no_neg (by omega) hk, rfl⟩) dX2_line_58
      · exact absurd hk c1
  · obtain ⟨j0, hj0, rfl⟩ := nI_of hk
    refine v_iload_n C dX2_line_0 rfl 1 rfl ?_
    refine v_istore_n C [1, 2, 0] [(0, .ref g.1), (1, .int (nI j0)), (2, .int (nI j0))] dX2_line_1 rfl (by decide) rfl ?_
    refine v_iconst C 0 (by decide) dX2_line_2 ?_
    refine v_istore_n C [1, 2, 3, 0] [(0, .ref g.1), (1, .int (nI j0)), (2, .int (nI j0)), (3, .int 0)] dX2_line_3 rfl (by decide) rfl ?_
    exact line_loop C hP h hj0 F.length 0 (by omega) (Nat.zero_le _)
end
section
theorem isp_inner {z : ZZ} {E : EE} {g : GG} {y : DS} {D : List Wd} {Q : State → Prop} {n w : Nat} (C : kC RX2 cX2_isPrefix 5 (some .boolean) E z) (hP : wP E (mW E g y) (zs z).heap) (hD : DOK D) (hw : sI y 3 = nI D.length) (hb : ∀ w, w < D.length → sA y 5 w = nI (D.getD w []).length ∧ ∀ k, k < (D.getD w []).length → sA y 4 (40 * w + k) = (D.getD w []).getD k 0) (hn : 1 ≤ n) (hn2 : n ≤ 41) (hwD : w < D.length) (kk : V z (0, 0) (zs z).heap [] Q 83 [(0, .ref g.1), (1, .int (nI n)), (2, .int (nI w)), (3, .int (bI (mB_ (D.getD w []) (sA y 8) n n)))] []) : ∀ (m k : Nat), k + m = n → V z (0, 0) (zs z).heap [] Q 35 [(0, .ref g.1), (1, .int (nI n)), (2, .int (nI w)), (3, .int (bI (mB_ (D.getD w []) (sA y 8) n k))), (4, .int (nI k))] [] := by
  have h60 := hD.1
  intro m
  induction m with
  | zero =>
    intro k hk
    have hk : k = n := by omega
    subst hk
    refine v_iload C dX2_isPrefix_35 4 rfl ?_
    refine v_iload_n C dX2_isPrefix_37 rfl 1 rfl ?_
    refine v_icmp_ge C 83 dX2_isPrefix_38 (by decide) (fun c0 => ?_) (fun c0 => ?_)
    · exact v_sub [0, 1, 2, 3] rfl kk
    · exact absurd (Int32.le_refl _) c0
  | succ m ih =>
    intro k hk
    have hk1 : k < n := by omega
    have k76 : ∀ v : Int32, v = bI (mB_ (D.getD w []) (sA y 8) n (k + 1)) → V z (0, 0) (zs z).heap [] Q 76 [(0, .ref g.1), (1, .int (nI n)), (2, .int (nI w)), (3, .int (bI (mB_ (D.getD w []) (sA y 8) n k))), (4, .int (nI k))] [.int v] := by
      intro v hv
      subst hv
      refine v_istore_n C [1, 2, 3, 0, 4] [(0, .ref g.1), (1, .int (nI n)), (2, .int (nI w)), (3, .int (bI (mB_ (D.getD w []) (sA y 8) n (k + 1)))), (4, .int (nI k))] dX2_isPrefix_76 rfl (by decide) rfl ?_
      refine v_iinc C (k := 4) (nI (k + 1)) [1, 2, 3, 4, 0] [(0, .ref g.1), (1, .int (nI n)), (2, .int (nI w)), (3, .int (bI (mB_ (D.getD w []) (sA y 8) n (k + 1)))), (4, .int (nI (k + 1)))] dX2_isPrefix_77 rfl (inc1 _) (by decide) rfl ?_
      refine v_goto C 35 dX2_isPrefix_80 (by decide) ?_
      exact ih (k + 1) (by omega)
    refine v_iload C dX2_isPrefix_35 4 rfl ?_
    refine v_iload_n C dX2_isPrefix_37 rfl 1 rfl ?_
    refine v_icmp_ge C 83 dX2_isPrefix_38 (by decide) (fun c0 => ?_) (fun c0 => ?_)
    · exact absurd c0 (nI_ge hk1 (by omega))
    · refine v_iload_n C dX2_isPrefix_41 rfl 3 rfl ?_
      refine v_if_eq C 83 dX2_isPrefix_42 (by decide) (fun c1 => ?_) (fun c1 => ?_)
      · have e1 := bI_eq c1
        rw [mB_false e1 n (by omega)] at kk
        rw [e1]
        exact v_sub [0, 1, 2, 3] rfl kk
      · have e1 := bI_ne c1
        have hlw := mB_len e1
        have hl40 := (hD.at hwD).2
        refine v_aload_n C dX2_isPrefix_45 rfl 0 rfl ?_
        refine mg4 C hP dX2_isPrefix_46 ?_
        refine v_bipush C 40 (by decide) dX2_isPrefix_49 ?_
        refine v_iload_n C dX2_isPrefix_51 rfl 2 rfl ?_
        refine v_imul C dX2_isPrefix_52 ?_
        refine v_iload C dX2_isPrefix_53 4 rfl ?_
        refine v_iadd C dX2_isPrefix_55 ?_
        refine v_ei (y := nI (40 * w + k)) (mul40 w k) ?_
        refine ma4 C (40 * w + k) hP (rfl) (by omega) dX2_isPrefix_56 ?_
        refine v_ei (y := (D.getD w []).getD k 0) ((hb w hwD).2 k (by omega)) ?_
        refine v_aload_n C dX2_isPrefix_57 rfl 0 rfl ?_
        refine mg8 C hP dX2_isPrefix_58 ?_
        refine v_iload_n C dX2_isPrefix_61 rfl 1 rfl ?_
        refine v_iconst C 1 (by decide) dX2_isPrefix_62 ?_
        refine v_isub C dX2_isPrefix_63 ?_
        refine v_ei (y := nI (n - 1)) (pk_sub (b := 1) hn) ?_
        refine v_iload C dX2_isPrefix_64 4 rfl ?_
        refine v_isub C dX2_isPrefix_66 ?_
        refine v_ei (y := nI (n - 1 - k)) (pk_sub (by omega)) ?_
        refine ma8 C (n - 1 - k) hP (rfl) (by omega) dX2_isPrefix_67 ?_
        refine v_icmp_ne C 75 dX2_isPrefix_68 (by decide) (fun c2 => ?_) (fun c2 => ?_)
        · refine v_iconst C 0 (by decide) dX2_isPrefix_75 ?_
          exact k76 _ (by rw [mB_succ, e1, beq_false_of_ne c2]; rfl)
        · refine v_iconst C 1 (by decide) dX2_isPrefix_71 ?_
          refine v_goto C 76 dX2_isPrefix_72 (by decide) ?_
          exact k76 _ (by rw [mB_succ, e1, c2]; simp [bI])
theorem isp_outer {z : ZZ} {E : EE} {g : GG} {y : DS} {D : List Wd} {r : Wd} {n : Nat} (C : kC RX2 cX2_isPrefix 5 (some .boolean) E z) (hP : wP E (mW E g y) (zs z).heap) (hD : DOK D) (hw : sI y 3 = nI D.length) (hb : ∀ w, w < D.length → sA y 5 w = nI (D.getD w []).length ∧ ∀ k, k < (D.getD w []).length → sA y 4 (40 * w + k) = (D.getD w []).getD k 0) (hn : 1 ≤ n) (hn2 : n ≤ 41) (hr : n ≤ r.length) (hf : ∀ i, i < n → sA y 8 i = r.getD i 0) : ∀ (m w : Nat), w + m = D.length → (∀ i, i < w → ¬ (r.take n).reverse <+: D.getD i []) → V z (0, 0) (zs z).heap [] (QRi z (fun v => v = bI (isPre D (r.take n)))) 8 [(0, .ref g.1), (1, .int (nI n)), (2, .int (nI w))] [] := by
  have h60 := hD.1
  have hne : r.take n ≠ [] := fun e => by have := congrArg List.length e; simp at this; rcases this with h | h; omega; rw [h] at hr; simp at hr; omega
  intro m
  induction m with
  | zero =>
    intro w hm hno
    have hm : w = D.length := by omega
    subst hm
    have hfalse : isPre D (r.take n) = false := by
      cases e : isPre D (r.take n) with
      | false => rfl
      | true => obtain ⟨i, i1, i2⟩ := (isPre_any hne).mp e; exact absurd i2 (hno i i1)
    refine v_iload_n C dX2_isPrefix_8 rfl 2 rfl ?_
    refine v_aload_n C dX2_isPrefix_9 rfl 0 rfl ?_
    refine mg3 C hP dX2_isPrefix_10 ?_
    refine v_ei (y := nI D.length) (hw) ?_
    refine v_icmp_ge C 95 dX2_isPrefix_13 (by decide) (fun c0 => ?_) (fun c0 => ?_)
    · refine v_iconst C 0 (by decide) dX2_isPrefix_95 ?_
      exact v_zretR C rfl (by rw [hfalse]; rfl) (Or.inl rfl) dX2_isPrefix_96
    · exact absurd (Int32.le_refl _) c0
  | succ m ih =>
    intro w hm hno
    have hwD : w < D.length := by omega
    have hl40 := (hD.at hwD).2
    have k83 : V z (0, 0) (zs z).heap [] (QRi z (fun v => v = bI (isPre D (r.take n)))) 83 [(0, .ref g.1), (1, .int (nI n)), (2, .int (nI w)), (3, .int (bI (mB_ (D.getD w []) (sA y 8) n n)))] [] := by
      refine v_iload_n C dX2_isPrefix_83 rfl 3 rfl ?_
      refine v_if_eq C 89 dX2_isPrefix_84 (by decide) (fun c0 => ?_) (fun c0 => ?_)
      · refine v_iinc C (k := 2) (nI (w + 1)) [1, 2, 0, 3] [(0, .ref g.1), (1, .int (nI n)), (2, .int (nI (w + 1))), (3, .int (bI (mB_ (D.getD w []) (sA y 8) n n)))] dX2_isPrefix_89 rfl (inc1 _) (by decide) rfl ?_
        refine v_goto C 8 dX2_isPrefix_92 (by decide) ?_
        refine v_sub [0, 1, 2] rfl ?_
        refine ih (w + 1) (by omega) (fun i hi => ?_)
        by_cases e : i = w
        · rw [e]; exact fun q => by rw [(mB_iff hr hf).mpr q] at c0; exact absurd c0 (by decide)
        · exact hno i (by omega)
      · refine v_iconst C 1 (by decide) dX2_isPrefix_87 ?_
        exact v_zretR C rfl (by rw [(isPre_any hne).mpr ⟨w, hwD, (mB_iff hr hf).mp (bI_ne c0)⟩]; rfl) (Or.inr rfl) dX2_isPrefix_88
    have k31 : ∀ v : Int32, v = bI (mB_ (D.getD w []) (sA y 8) n 0) → V z (0, 0) (zs z).heap [] (QRi z (fun v => v = bI (isPre D (r.take n)))) 31 [(0, .ref g.1), (1, .int (nI n)), (2, .int (nI w))] [.int v] := by
      intro v hv
      subst hv
      refine v_istore_n C [1, 2, 3, 0] [(0, .ref g.1), (1, .int (nI n)), (2, .int (nI w)), (3, .int (bI (mB_ (D.getD w []) (sA y 8) n 0)))] dX2_isPrefix_31 rfl (by decide) rfl ?_
      refine v_iconst C 0 (by decide) dX2_isPrefix_32 ?_
      refine v_istore C [1, 2, 3, 4, 0] [(0, .ref g.1), (1, .int (nI n)), (2, .int (nI w)), (3, .int (bI (mB_ (D.getD w []) (sA y 8) n 0))), (4, .int 0)] dX2_isPrefix_33 (by decide) rfl ?_
      exact isp_inner C hP hD hw hb hn hn2 hwD k83 n 0 (by omega)
    refine v_iload_n C dX2_isPrefix_8 rfl 2 rfl ?_
    refine v_aload_n C dX2_isPrefix_9 rfl 0 rfl ?_
    refine mg3 C hP dX2_isPrefix_10 ?_
    refine v_ei (y := nI D.length) (hw) ?_
    refine v_icmp_ge C 95 dX2_isPrefix_13 (by decide) (fun c0 => ?_) (fun c0 => ?_)
    · exact absurd c0 (nI_ge hwD (by omega))
    · refine v_aload_n C dX2_isPrefix_16 rfl 0 rfl ?_
      refine mg5 C hP dX2_isPrefix_17 ?_
      refine v_iload_n C dX2_isPrefix_20 rfl 2 rfl ?_
      refine ma5 C (w) hP (rfl) (by omega) dX2_isPrefix_21 ?_
      refine v_ei (y := nI (D.getD w []).length) ((hb w hwD).1) ?_
      refine v_iload_n C dX2_isPrefix_22 rfl 1 rfl ?_
      refine v_icmp_lt C 30 dX2_isPrefix_23 (by decide) (fun c1 => ?_) (fun c1 => ?_)
      · refine v_iconst C 0 (by decide) dX2_isPrefix_30 ?_
        exact k31 _ (by rw [mB_0, decide_eq_false (fun e => (nI_nlt e (by omega)) c1)]; rfl)
      · refine v_iconst C 1 (by decide) dX2_isPrefix_26 ?_
        refine v_goto C 31 dX2_isPrefix_27 (by decide) ?_
        exact k31 _ (by rw [mB_0, decide_eq_true (Nat.le_of_not_lt (fun e => c1 (nI_lt e (by omega))))]; rfl)
theorem metX2_isPrefix (l : Launch) {E : EE} {g : GG} {y : DS} {D : List Wd} {r : Wd} {n : Nat} (hD : DOK D) (hw : sI y 3 = nI D.length) (hb : ∀ w, w < D.length → sA y 5 w = nI (D.getD w []).length ∧ ∀ k, k < (D.getD w []).length → sA y 4 (40 * w + k) = (D.getD w []).getD k 0) (hn2 : n ≤ 41) (hr : n ≤ r.length) (hf : ∀ i, i < n → sA y 8 i = r.getD i 0) : MRi l yX2_isPrefix cX2_isPrefix 5 (some .boolean) 0 E (mW E g y) [.ref g.1, .int (nI n)] (fun v => v = bI (isPre D (r.take n))) := by
  refine MRi.start (own := RX2) (by decide) rfl (Nat.le_of_ble_eq_true rfl) ?_
  intro z hz C hR hP
  show V z (0, 0) _ [] _ 0 [(0, .ref g.1), (1, .int (nI n))] []
  refine v_iload_n C dX2_isPrefix_0 rfl 1 rfl ?_
  refine v_if_ne C 6 dX2_isPrefix_1 (by decide) (fun c0 => ?_) (fun c0 => ?_)
  · refine v_iconst C 0 (by decide) dX2_isPrefix_6 ?_
    refine v_istore_n C [1, 2, 0] [(0, .ref g.1), (1, .int (nI n)), (2, .int 0)] dX2_isPrefix_7 rfl (by decide) rfl ?_
    exact isp_outer C hP hD hw hb (Nat.pos_of_ne_zero (fun e => c0 (by rw [e]; exact nI_0))) hn2 hr hf D.length 0 (by omega) (fun i hi => absurd hi (Nat.not_lt_zero _))
  · refine v_iconst C 1 (by decide) dX2_isPrefix_4 ?_
    have e : n = 0 := (nI_eq (by omega) (by decide)).mp (c0.trans nI_0.symm)
    exact v_zretR C rfl (by rw [e]; rfl) (Or.inr rfl) dX2_isPrefix_5
theorem isw_inner {z : ZZ} {E : EE} {g : GG} {y : DS} {D : List Wd} {w : Nat} (C : kC RX2 cX2_isWord 4 (some .boolean) E z) (hP : wP E (mW E g y) (zs z).heap) (hD : DOK D) (hw : sI y 3 = nI D.length) (hb : ∀ w, w < D.length → sA y 5 w = nI (D.getD w []).length ∧ ∀ k, k < (D.getD w []).length → sA y 4 (40 * w + k) = (D.getD w []).getD k 0) (hwD : w < D.length) : ∀ (m k : Nat), k + m = (D.getD w []).length → V z (0, 0) (zs z).heap [] (QRi z (fun v => v = bI (mB_ (D.getD w []) (sA y 8) (D.getD w []).length (D.getD w []).length))) 21 [(0, .ref g.1), (1, .int (nI w)), (2, .int (bI (mB_ (D.getD w []) (sA y 8) (D.getD w []).length k))), (3, .int (nI k))] [] := by
  have h60 := hD.1
  have hl40 := (hD.at hwD).2
  have hl1 := (hD.at hwD).1
  intro m
  induction m with
  | zero =>
    intro k hk
    have hk : k = (D.getD w []).length := by omega
    refine v_iload_n C dX2_isWord_21 rfl 3 rfl ?_
    refine v_aload_n C dX2_isWord_22 rfl 0 rfl ?_
    refine mg5 C hP dX2_isWord_23 ?_
    refine v_iload_n C dX2_isWord_26 rfl 1 rfl ?_
    refine ma5 C (w) hP (rfl) (by omega) dX2_isWord_27 ?_
    refine v_ei (y := nI (D.getD w []).length) ((hb w hwD).1) ?_
    refine v_icmp_ge C 76 dX2_isWord_28 (by decide) (fun c0 => ?_) (fun c0 => ?_)
    · refine v_iload_n C dX2_isWord_76 rfl 2 rfl ?_
      exact v_zretR C rfl (by rw [hk]) (bI_01 _) dX2_isWord_77
    · exact absurd (nI_le (by omega) (by omega)) c0
  | succ m ih =>
    intro k hk
    have hk1 : k < (D.getD w []).length := by omega
    have k69 : ∀ v : Int32, v = bI (mB_ (D.getD w []) (sA y 8) (D.getD w []).length (k + 1)) → V z (0, 0) (zs z).heap [] (QRi z (fun v => v = bI (mB_ (D.getD w []) (sA y 8) (D.getD w []).length (D.getD w []).length))) 69 [(0, .ref g.1), (1, .int (nI w)), (2, .int (bI (mB_ (D.getD w []) (sA y 8) (D.getD w []).length k))), (3, .int (nI k))] [.int v] := by
      intro v hv
      subst hv
      refine v_istore_n C [1, 2, 0, 3] [(0, .ref g.1), (1, .int (nI w)), (2, .int (bI (mB_ (D.getD w []) (sA y 8) (D.getD w []).length (k + 1)))), (3, .int (nI k))] dX2_isWord_69 rfl (by decide) rfl ?_
      refine v_iinc C (k := 3) (nI (k + 1)) [1, 2, 3, 0] [(0, .ref g.1), (1, .int (nI w)), (2, .int (bI (mB_ (D.getD w []) (sA y 8) (D.getD w []).length (k + 1)))), (3, .int (nI (k + 1)))] dX2_isWord_70 rfl (inc1 _) (by decide) rfl ?_
      refine v_goto C 21 dX2_isWord_73 (by decide) ?_
      exact ih (k + 1) (by omega)
    refine v_iload_n C dX2_isWord_21 rfl 3 rfl ?_
    refine v_aload_n C dX2_isWord_22 rfl 0 rfl ?_
    refine mg5 C hP dX2_isWord_23 ?_
    refine v_iload_n C dX2_isWord_26 rfl 1 rfl ?_
    refine ma5 C (w) hP (rfl) (by omega) dX2_isWord_27 ?_
    refine v_ei (y := nI (D.getD w []).length) ((hb w hwD).1) ?_
    refine v_icmp_ge C 76 dX2_isWord_28 (by decide) (fun c0 => ?_) (fun c0 => ?_)
    · exact absurd c0 (nI_ge hk1 (by omega))
    · refine v_iload_n C dX2_isWord_31 rfl 2 rfl ?_
      refine v_if_eq C 76 dX2_isWord_32 (by decide) (fun c1 => ?_) (fun c1 => ?_)
      · have e1 := bI_eq c1
        refine v_iload_n C dX2_isWord_76 rfl 2 rfl ?_
        exact v_zretR C rfl (by rw [e1, mB_false e1 _ (by omega)]) (bI_01 _) dX2_isWord_77
      · have e1 := bI_ne c1
        refine v_aload_n C dX2_isWord_35 rfl 0 rfl ?_
        refine mg4 C hP dX2_isWord_36 ?_
        refine v_bipush C 40 (by decide) dX2_isWord_39 ?_
        refine v_iload_n C dX2_isWord_41 rfl 1 rfl ?_
        refine v_imul C dX2_isWord_42 ?_
        refine v_iload_n C dX2_isWord_43 rfl 3 rfl ?_
        refine v_iadd C dX2_isWord_44 ?_
        refine v_ei (y := nI (40 * w + k)) (mul40 w k) ?_
        refine ma4 C (40 * w + k) hP (rfl) (by omega) dX2_isWord_45 ?_
        refine v_ei (y := (D.getD w []).getD k 0) ((hb w hwD).2 k hk1) ?_
        refine v_aload_n C dX2_isWord_46 rfl 0 rfl ?_
        refine mg8 C hP dX2_isWord_47 ?_
        refine v_aload_n C dX2_isWord_50 rfl 0 rfl ?_
        refine mg5 C hP dX2_isWord_51 ?_
        refine v_iload_n C dX2_isWord_54 rfl 1 rfl ?_
        refine ma5 C (w) hP (rfl) (by omega) dX2_isWord_55 ?_
        refine v_ei (y := nI (D.getD w []).length) ((hb w hwD).1) ?_
        refine v_iconst C 1 (by decide) dX2_isWord_56 ?_
        refine v_isub C dX2_isWord_57 ?_
        refine v_ei (y := nI ((D.getD w []).length - 1)) (pk_sub (b := 1) hl1) ?_
        refine v_iload_n C dX2_isWord_58 rfl 3 rfl ?_
        refine v_isub C dX2_isWord_59 ?_
        refine v_ei (y := nI ((D.getD w []).length - 1 - k)) (pk_sub (by omega)) ?_
        refine ma8 C ((D.getD w []).length - 1 - k) hP (rfl) (by omega) dX2_isWord_60 ?_
        refine v_icmp_ne C 68 dX2_isWord_61 (by decide) (fun c2 => ?_) (fun c2 => ?_)
        · refine v_iconst C 0 (by decide) dX2_isWord_68 ?_
          exact k69 _ (by rw [mB_succ, e1, beq_false_of_ne c2]; rfl)
        · refine v_iconst C 1 (by decide) dX2_isWord_64 ?_
          refine v_goto C 69 dX2_isWord_65 (by decide) ?_
          exact k69 _ (by rw [mB_succ, e1, c2]; simp [bI])
theorem metX2_isWord (l : Launch) {E : EE} {g : GG} {y : DS} {D : List Wd} {w cl : Nat} (hD : DOK D) (hw : sI y 3 = nI D.length) (hb : ∀ w, w < D.length → sA y 5 w = nI (D.getD w []).length ∧ ∀ k, k < (D.getD w []).length → sA y 4 (40 * w + k) = (D.getD w []).getD k 0) (hwD : w < D.length) (hs : sI y 9 = nI cl) (hcl : cl ≤ 41) (hle : (D.getD w []).length ≤ cl) : MRi l yX2_isWord cX2_isWord 4 (some .boolean) 0 E (mW E g y) [.ref g.1, .int (nI w)] (fun v => v = bI (mB_ (D.getD w []) (sA y 8) (D.getD w []).length (D.getD w []).length)) := by
  have h60 := hD.1
  refine MRi.start (own := RX2) (by decide) rfl (Nat.le_of_ble_eq_true rfl) ?_
  intro z hz C hR hP
  show V z (0, 0) _ [] _ 0 [(0, .ref g.1), (1, .int (nI w))] []
  refine v_aload_n C dX2_isWord_0 rfl 0 rfl ?_
  refine mg5 C hP dX2_isWord_1 ?_
  refine v_iload_n C dX2_isWord_4 rfl 1 rfl ?_
  refine ma5 C (w) hP (rfl) (by omega) dX2_isWord_5 ?_
  refine v_ei (y := nI (D.getD w []).length) ((hb w hwD).1) ?_
  refine v_aload_n C dX2_isWord_6 rfl 0 rfl ?_
  refine mg9 C hP dX2_isWord_7 ?_
  refine v_ei (y := nI cl) (hs) ?_
  refine v_icmp_gt C 17 dX2_isWord_10 (by decide) (fun c0 => ?_) (fun c0 => ?_)
  · exact absurd c0 (nI_nlt hle (by omega))
  · refine v_iconst C 1 (by decide) dX2_isWord_13 ?_
    refine v_goto C 18 dX2_isWord_14 (by decide) ?_
    refine v_ei (y := bI (mB_ (D.getD w []) (sA y 8) (D.getD w []).length 0)) (by rw [mB_0, decide_eq_true (Nat.le_refl _)]; rfl) ?_
    refine v_istore_n C [1, 2, 0] [(0, .ref g.1), (1, .int (nI w)), (2, .int (bI (mB_ (D.getD w []) (sA y 8) (D.getD w []).length 0)))] dX2_isWord_18 rfl (by decide) rfl ?_
    refine v_iconst C 0 (by decide) dX2_isWord_19 ?_
    refine v_istore_n C [1, 2, 3, 0] [(0, .ref g.1), (1, .int (nI w)), (2, .int (bI (mB_ (D.getD w []) (sA y 8) (D.getD w []).length 0))), (3, .int 0)] dX2_isWord_20 rfl (by decide) rfl ?_
    exact isw_inner C hP hD hw hb hwD (D.getD w []).length 0 (by omega)
theorem shr_inner {z : ZZ} {E : EE} {g : GG} {y : DS} {D : List Wd} {Q : State → Prop} {n m w : Nat} (C : kC RX2 cX2_shorter 6 (some .int) E z) (hP : wP E (mW E g y) (zs z).heap) (hD : DOK D) (hw : sI y 3 = nI D.length) (hb : ∀ w, w < D.length → sA y 5 w = nI (D.getD w []).length ∧ ∀ k, k < (D.getD w []).length → sA y 4 (40 * w + k) = (D.getD w []).getD k 0) (hn : 1 ≤ m) (hn2 : m ≤ 41) (hwD : w < D.length) (kk : V z (0, 0) (zs z).heap [] Q 86 [(0, .ref g.1), (1, .int (nI n)), (2, .int (nI m)), (3, .int (nI w)), (4, .int (bI (mB_ (D.getD w []) (fun i => sA y 8 (i + 1)) m m)))] []) : ∀ (j k : Nat), k + j = m → V z (0, 0) (zs z).heap [] Q 38 [(0, .ref g.1), (1, .int (nI n)), (2, .int (nI m)), (3, .int (nI w)), (4, .int (bI (mB_ (D.getD w []) (fun i => sA y 8 (i + 1)) m k))), (5, .int (nI k))] [] := by
  have h60 := hD.1
  intro j
  induction j with
  | zero =>
    intro k hk
    have hk : k = m := by omega
    subst hk
    refine v_iload C dX2_shorter_38 5 rfl ?_
    refine v_iload_n C dX2_shorter_40 rfl 2 rfl ?_
    refine v_icmp_ge C 86 dX2_shorter_41 (by decide) (fun c0 => ?_) (fun c0 => ?_)
    · exact v_sub [0, 1, 2, 3, 4] rfl kk
    · exact absurd (Int32.le_refl _) c0
  | succ j ih =>
    intro k hk
    have hk1 : k < m := by omega
    have k78 : ∀ v : Int32, v = bI (mB_ (D.getD w []) (fun i => sA y 8 (i + 1)) m (k + 1)) → V z (0, 0) (zs z).heap [] Q 78 [(0, .ref g.1), (1, .int (nI n)), (2, .int (nI m)), (3, .int (nI w)), (4, .int (bI (mB_ (D.getD w []) (fun i => sA y 8 (i + 1)) m k))), (5, .int (nI k))] [.int v] := by
      intro v hv
      subst hv
      refine v_istore C [1, 2, 3, 4, 0, 5] [(0, .ref g.1), (1, .int (nI n)), (2, .int (nI m)), (3, .int (nI w)), (4, .int (bI (mB_ (D.getD w []) (fun i => sA y 8 (i + 1)) m (k + 1)))), (5, .int (nI k))] dX2_shorter_78 (by decide) rfl ?_
      refine v_iinc C (k := 5) (nI (k + 1)) [1, 2, 3, 4, 5, 0] [(0, .ref g.1), (1, .int (nI n)), (2, .int (nI m)), (3, .int (nI w)), (4, .int (bI (mB_ (D.getD w []) (fun i => sA y 8 (i + 1)) m (k + 1)))), (5, .int (nI (k + 1)))] dX2_shorter_80 rfl (inc1 _) (by decide) rfl ?_
      refine v_goto C 38 dX2_shorter_83 (by decide) ?_
      exact ih (k + 1) (by omega)
    refine v_iload C dX2_shorter_38 5 rfl ?_
    refine v_iload_n C dX2_shorter_40 rfl 2 rfl ?_
    refine v_icmp_ge C 86 dX2_shorter_41 (by decide) (fun c0 => ?_) (fun c0 => ?_)
    · exact absurd c0 (nI_ge hk1 (by omega))
    · refine v_iload C dX2_shorter_44 4 rfl ?_
      refine v_if_eq C 86 dX2_shorter_46 (by decide) (fun c1 => ?_) (fun c1 => ?_)
      · have e1 := bI_eq c1
        rw [mB_false e1 m (by omega)] at kk
        rw [e1]
        exact v_sub [0, 1, 2, 3, 4] rfl kk
      · have e1 := bI_ne c1
        have hlw := mB_len e1
        have hl40 := (hD.at hwD).2
        refine v_aload_n C dX2_shorter_49 rfl 0 rfl ?_
        refine mg4 C hP dX2_shorter_50 ?_
        refine v_bipush C 40 (by decide) dX2_shorter_53 ?_
        refine v_iload_n C dX2_shorter_55 rfl 3 rfl ?_
        refine v_imul C dX2_shorter_56 ?_
        refine v_iload C dX2_shorter_57 5 rfl ?_
        refine v_iadd C dX2_shorter_59 ?_
        refine v_ei (y := nI (40 * w + k)) (mul40 w k) ?_
        refine ma4 C (40 * w + k) hP (rfl) (by omega) dX2_shorter_60 ?_
        refine v_ei (y := (D.getD w []).getD k 0) ((hb w hwD).2 k (by omega)) ?_
        refine v_aload_n C dX2_shorter_61 rfl 0 rfl ?_
        refine mg8 C hP dX2_shorter_62 ?_
        refine v_iload_n C dX2_shorter_65 rfl 2 rfl ?_
        refine v_iload C dX2_shorter_66 5 rfl ?_
        refine v_isub C dX2_shorter_68 ?_
        refine v_ei (y := nI (m - 1 - k + 1)) ((pk_sub (by omega)).trans (by rw [show m - k = m - 1 - k + 1 by omega])) ?_
        refine ma8 C (m - 1 - k + 1) hP (rfl) (by omega) dX2_shorter_69 ?_
        refine v_icmp_ne C 77 dX2_shorter_70 (by decide) (fun c2 => ?_) (fun c2 => ?_)
        · refine v_iconst C 0 (by decide) dX2_shorter_77 ?_
          exact k78 _ (by rw [mB_succ, e1, beq_false_of_ne c2]; rfl)
        · refine v_iconst C 1 (by decide) dX2_shorter_73 ?_
          refine v_goto C 78 dX2_shorter_74 (by decide) ?_
          exact k78 _ (by rw [mB_succ, e1, c2]; simp [bI])
theorem shr_mid {z : ZZ} {E : EE} {g : GG} {y : DS} {D : List Wd} {c : Wd} {n m m0 : Nat} (C : kC RX2 cX2_shorter 6 (some .int) E z) (hP : wP E (mW E g y) (zs z).heap) (hD : DOK D) (hw : sI y 3 = nI D.length) (hb : ∀ w, w < D.length → sA y 5 w = nI (D.getD w []).length ∧ ∀ k, k < (D.getD w []).length → sA y 4 (40 * w + k) = (D.getD w []).getD k 0) (hn : 1 ≤ m) (hn2 : m ≤ 41) (hr : m ≤ c.length) (hf : ∀ i, i < m → sA y 8 (i + 1) = c.getD i 0) (h0 : isPre D (c.take m) = true → sh D c m0 = m) (kk : isPre D (c.take m) = false → V z (0, 0) (zs z).heap [] (QRi z (fun v => v = nI (sh D c m0))) 99 [(0, .ref g.1), (1, .int (nI n)), (2, .int (nI m))] []) : ∀ (j w : Nat), w + j = D.length → (∀ i, i < w → ¬ (c.take m).reverse <+: D.getD i []) → V z (0, 0) (zs z).heap [] (QRi z (fun v => v = nI (sh D c m0))) 10 [(0, .ref g.1), (1, .int (nI n)), (2, .int (nI m)), (3, .int (nI w))] [] := by
  have h60 := hD.1
  have hne : c.take m ≠ [] := fun e => by have := congrArg List.length e; simp at this; rcases this with h | h; omega; rw [h] at hr; simp at hr; omega
  intro j
  induction j with
  | zero =>
    intro w hm hno
    have hm : w = D.length := by omega
    subst hm
    have hfalse : isPre D (c.take m) = false := by
      cases e : isPre D (c.take m) with
      | false => rfl
      | true => obtain ⟨i, i1, i2⟩ := (isPre_any hne).mp e; exact absurd i2 (hno i i1)
    refine v_iload_n C dX2_shorter_10 rfl 3 rfl ?_
    refine v_aload_n C dX2_shorter_11 rfl 0 rfl ?_
    refine mg3 C hP dX2_shorter_12 ?_
    refine v_ei (y := nI D.length) (hw) ?_
    refine v_icmp_ge C 99 dX2_shorter_15 (by decide) (fun c0 => ?_) (fun c0 => ?_)
    · exact v_sub [0, 1, 2] rfl (kk hfalse)
    · exact absurd (Int32.le_refl _) c0
  | succ j ih =>
    intro w hm hno
    have hwD : w < D.length := by omega
    have hl40 := (hD.at hwD).2
    have k86 : V z (0, 0) (zs z).heap [] (QRi z (fun v => v = nI (sh D c m0))) 86 [(0, .ref g.1), (1, .int (nI n)), (2, .int (nI m)), (3, .int (nI w)), (4, .int (bI (mB_ (D.getD w []) (fun i => sA y 8 (i + 1)) m m)))] [] := by
      refine v_iload C dX2_shorter_86 4 rfl ?_
      refine v_if_eq C 93 dX2_shorter_88 (by decide) (fun c0 => ?_) (fun c0 => ?_)
      · refine v_iinc C (k := 3) (nI (w + 1)) [1, 2, 3, 0, 4] [(0, .ref g.1), (1, .int (nI n)), (2, .int (nI m)), (3, .int (nI (w + 1))), (4, .int (bI (mB_ (D.getD w []) (fun i => sA y 8 (i + 1)) m m)))] dX2_shorter_93 rfl (inc1 _) (by decide) rfl ?_
        refine v_goto C 10 dX2_shorter_96 (by decide) ?_
        refine v_sub [0, 1, 2, 3] rfl ?_
        refine ih (w + 1) (by omega) (fun i hi => ?_)
        by_cases e : i = w
        · rw [e]; exact fun q => by rw [(mB_iff hr hf).mpr q] at c0; exact absurd c0 (by decide)
        · exact hno i (by omega)
      · refine v_iload_n C dX2_shorter_91 rfl 2 rfl ?_
        exact v_iretR C rfl (by rw [h0 ((isPre_any hne).mpr ⟨w, hwD, (mB_iff hr hf).mp (bI_ne c0)⟩)]) dX2_shorter_92
    have k33 : ∀ v : Int32, v = bI (mB_ (D.getD w []) (fun i => sA y 8 (i + 1)) m 0) → V z (0, 0) (zs z).heap [] (QRi z (fun v => v = nI (sh D c m0))) 33 [(0, .ref g.1), (1, .int (nI n)), (2, .int (nI m)), (3, .int (nI w))] [.int v] := by
      intro v hv
      subst hv
      refine v_istore C [1, 2, 3, 4, 0] [(0, .ref g.1), (1, .int (nI n)), (2, .int (nI m)), (3, .int (nI w)), (4, .int (bI (mB_ (D.getD w []) (fun i => sA y 8 (i + 1)) m 0)))] dX2_shorter_33 (by decide) rfl ?_
      refine v_iconst C 0 (by decide) dX2_shorter_35 ?_
      refine v_istore C [1, 2, 3, 4, 5, 0] [(0, .ref g.1), (1, .int (nI n)), (2, .int (nI m)), (3, .int (nI w)), (4, .int (bI (mB_ (D.getD w []) (fun i => sA y 8 (i + 1)) m 0))), (5, .int 0)] dX2_shorter_36 (by decide) rfl ?_
      exact shr_inner C hP hD hw hb hn hn2 hwD k86 m 0 (by omega)
    refine v_iload_n C dX2_shorter_10 rfl 3 rfl ?_
    refine v_aload_n C dX2_shorter_11 rfl 0 rfl ?_
    refine mg3 C hP dX2_shorter_12 ?_
    refine v_ei (y := nI D.length) (hw) ?_
    refine v_icmp_ge C 99 dX2_shorter_15 (by decide) (fun c0 => ?_) (fun c0 => ?_)
    · exact absurd c0 (nI_ge hwD (by omega))
    · refine v_aload_n C dX2_shorter_18 rfl 0 rfl ?_
      refine mg5 C hP dX2_shorter_19 ?_
      refine v_iload_n C dX2_shorter_22 rfl 3 rfl ?_
      refine ma5 C (w) hP (rfl) (by omega) dX2_shorter_23 ?_
      refine v_ei (y := nI (D.getD w []).length) ((hb w hwD).1) ?_
      refine v_iload_n C dX2_shorter_24 rfl 2 rfl ?_
      refine v_icmp_lt C 32 dX2_shorter_25 (by decide) (fun c1 => ?_) (fun c1 => ?_)
      · refine v_iconst C 0 (by decide) dX2_shorter_32 ?_
        exact k33 _ (by rw [mB_0, decide_eq_false (fun e => (nI_nlt e (by omega)) c1)]; rfl)
      · refine v_iconst C 1 (by decide) dX2_shorter_28 ?_
        refine v_goto C 33 dX2_shorter_29 (by decide) ?_
        exact k33 _ (by rw [mB_0, decide_eq_true (Nat.le_of_not_lt (fun e => c1 (nI_lt e (by omega))))]; rfl)
theorem shr_outer {z : ZZ} {E : EE} {g : GG} {y : DS} {D : List Wd} {c : Wd} {n m0 : Nat} (C : kC RX2 cX2_shorter 6 (some .int) E z) (hP : wP E (mW E g y) (zs z).heap) (hD : DOK D) (hw : sI y 3 = nI D.length) (hb : ∀ w, w < D.length → sA y 5 w = nI (D.getD w []).length ∧ ∀ k, k < (D.getD w []).length → sA y 4 (40 * w + k) = (D.getD w []).getD k 0) (hc : c.length ≤ 41) (hf : ∀ i, i < c.length → sA y 8 (i + 1) = c.getD i 0) : ∀ (m : Nat), m ≤ c.length → sh D c m0 = sh D c m → V z (0, 0) (zs z).heap [] (QRi z (fun v => v = nI (sh D c m0))) 4 [(0, .ref g.1), (1, .int (nI n)), (2, .int (nI m))] [] := by
  intro m
  induction m with
  | zero =>
    intro hm h0
    refine v_iload_n C dX2_shorter_4 rfl 2 rfl ?_
    refine v_if_le C 105 dX2_shorter_5 (by decide) (fun c0 => ?_) (fun c0 => ?_)
    · refine v_iconst C 0 (by decide) dX2_shorter_105 ?_
      exact v_iretR C rfl (by rw [h0]; rfl) dX2_shorter_106
    · exact absurd (by decide) c0
  | succ m ih =>
    intro hm h0
    refine v_iload_n C dX2_shorter_4 rfl 2 rfl ?_
    refine v_if_le C 105 dX2_shorter_5 (by decide) (fun c0 => ?_) (fun c0 => ?_)
    · exact absurd c0 (nI_nle (by omega) (by omega))
    · refine v_iconst C 0 (by decide) dX2_shorter_8 ?_
      refine v_istore_n C [1, 2, 3, 0] [(0, .ref g.1), (1, .int (nI n)), (2, .int (nI (m + 1))), (3, .int 0)] dX2_shorter_9 rfl (by decide) rfl ?_
      refine shr_mid (m := m + 1) C hP hD hw hb (by omega) (by omega) hm (fun i hi => hf i (by omega)) (fun e => by rw [h0, sh, if_pos e]) (fun e => ?_) D.length 0 (by omega) (fun i hi => absurd hi (Nat.not_lt_zero _))
      refine v_iinc C (k := 2) (nI m) [1, 2, 0] [(0, .ref g.1), (1, .int (nI n)), (2, .int (nI m))] dX2_shorter_99 rfl (dec1 _) (by decide) rfl ?_
      refine v_goto C 4 dX2_shorter_102 (by decide) ?_
      exact ih (by omega) (by rw [h0, sh, if_neg (by rw [e]; decide)])
theorem metX2_shorter (l : Launch) {E : EE} {g : GG} {y : DS} {D : List Wd} {c : Wd} (hD : DOK D) (hw : sI y 3 = nI D.length) (hb : ∀ w, w < D.length → sA y 5 w = nI (D.getD w []).length ∧ ∀ k, k < (D.getD w []).length → sA y 4 (40 * w + k) = (D.getD w []).getD k 0) (hc : c.length ≤ 41) (hc1 : 1 ≤ c.length) (hf : ∀ i, i < c.length → sA y 8 (i + 1) = c.getD i 0) : MRi l yX2_shorter cX2_shorter 6 (some .int) 0 E (mW E g y) [.ref g.1, .int (nI c.length)] (fun v => v = nI (lps D c).length) := by
  refine MRi.start (own := RX2) (by decide) rfl (Nat.le_of_ble_eq_true rfl) ?_
  intro z hz C hR hP
  show V z (0, 0) _ [] _ 0 [(0, .ref g.1), (1, .int (nI c.length))] []
  refine v_iload_n C dX2_shorter_0 rfl 1 rfl ?_
  refine v_iconst C 1 (by decide) dX2_shorter_1 ?_
  refine v_isub C dX2_shorter_2 ?_
  refine v_ei (y := nI (c.length - 1)) (pk_sub (b := 1) hc1) ?_
  refine v_istore_n C [1, 2, 0] [(0, .ref g.1), (1, .int (nI c.length)), (2, .int (nI (c.length - 1)))] dX2_shorter_3 rfl (by decide) rfl ?_
  rw [lps_len]
  exact shr_outer C hP hD hw hb hc hf (c.length - 1) (by omega) rfl
end
section
/-- parts of the model that a byte leaves alone -/
def mS1 (u y : DS) : Prop := mT u = mT y ∧ mD u = mD y ∧ mX u = mX y ∧ mF u = mF y ∧ mQ u = mQ y
theorem mS1.r {y : DS} : mS1 y y := ⟨rfl, rfl, rfl, rfl, rfl⟩
theorem mDict.w {y : DS} {D : List Wd} {bt : Bool} {N rm : Nat} (h : mDict y D bt N rm) : sI y 3 = nI D.length := h.2.2.2.2.1
theorem mDict.b {y : DS} {D : List Wd} {bt : Bool} {N rm : Nat} (h : mDict y D bt N rm) : ∀ w, w < D.length → sA y 5 w = nI (D.getD w []).length ∧ ∀ k, k < (D.getD w []).length → sA y 4 (40 * w + k) = (D.getD w []).getD k 0 := h.2.2.2.2.2
theorem take_of_take {c cur : Wd} (h1 : c = cur.take c.length) {k : Nat} (hk : k ≤ c.length) : c.take k = cur.take k := by
  have : (cur.take c.length).take k = cur.take k := by rw [List.take_take, Nat.min_eq_left hk]
  rw [← this, ← h1]
/-- the shift of the last bytes -/
theorem mcome_shift {z : ZZ} {E : EE} {g : GG} {y0 : DS} {A : Nat → Prop} {Q : State → Prop} {b : Int32} (C : kC RX2 cX2_come 4 none E z) : ∀ (k : Nat) (y : DS) (H : Heap) (locs : List Loc), k ≤ 63 → (∀ j, j ≤ k → sA y 8 j = sA y0 8 j) → (∀ j, k < j → j ≤ 63 → sA y 8 j = sA y0 8 (j - 1)) → mS1 y y0 → sI y 9 = sI y0 9 → sL y 10 = sL y0 10 → wH E (mW E g y) A z H locs → (∀ (u : DS) (H : Heap) (locs : List Loc), (∀ j, 0 < j → j ≤ 63 → sA u 8 j = sA y0 8 (j - 1)) → mS1 u y0 → sI u 9 = sI y0 9 → sL u 10 = sL y0 10 → wH E (mW E g u) A z H locs → V z (0, 0) H locs Q 69 [(0, .ref g.1), (1, .int b), (2, .int (nI 0))] []) → V z (0, 0) H locs Q 45 [(0, .ref g.1), (1, .int b), (2, .int (nI k))] [] := by
  intro k
  induction k with
  | zero =>
    intro y H locs hk h1 h2 hS h9 h10 hH kk
    refine v_iload_n C dX2_come_45 rfl 2 rfl ?_
    refine v_if_le C 69 dX2_come_46 (by decide) (fun c0 => ?_) (fun c0 => ?_)
    · exact kk y H locs h2 hS h9 h10 hH
    · exact absurd (by decide) c0
  | succ k ih =>
    intro y H locs hk h1 h2 hS h9 h10 hH kk
    refine v_iload_n C dX2_come_45 rfl 2 rfl ?_
    refine v_if_le C 69 dX2_come_46 (by decide) (fun c0 => ?_) (fun c0 => ?_)
    · exact absurd c0 (nI_nle (by omega) (by omega))
    · refine v_aload_n C dX2_come_49 rfl 0 rfl ?_
      refine mg8 C hH.1 dX2_come_50 ?_
      refine v_iload_n C dX2_come_53 rfl 2 rfl ?_
      refine v_aload_n C dX2_come_54 rfl 0 rfl ?_
      refine mg8 C hH.1 dX2_come_55 ?_
      refine v_iload_n C dX2_come_58 rfl 2 rfl ?_
      refine v_iconst C 1 (by decide) dX2_come_59 ?_
      refine v_isub C dX2_come_60 ?_
      refine v_ei (y := nI k) (nI_pred k) ?_
      refine ma8 C (k) hH.1 (rfl) (by omega) dX2_come_61 ?_
      refine v_ei (y := sA y0 8 k) (h1 k (by omega)) ?_
      refine ms8 C (k + 1) hH (rfl) (by omega) dX2_come_62 (fun H locs hH => ?_)
      refine v_iinc C (k := 2) (nI k) [1, 2, 0] [(0, .ref g.1), (1, .int b), (2, .int (nI k))] dX2_come_63 rfl (dec1 _) (by decide) rfl ?_
      refine v_goto C 45 dX2_come_66 (by decide) ?_
      refine ih (pA y 8 (k + 1) (sA y0 8 k)) H locs (by omega) (fun j hj => ?_) (fun j hj1 hj2 => ?_) hS h9 h10 hH kk
      · show upd (sA y 8) (k + 1) (sA y0 8 k) j = sA y0 8 j
        rw [upd_ne (by omega)]; exact h1 j (by omega)
      · show upd (sA y 8) (k + 1) (sA y0 8 k) j = sA y0 8 (j - 1)
        by_cases e : j = k + 1
        · rw [e, upd_self]; rfl
        · rw [upd_ne e]; exact h2 j (by omega) hj2
/-- along shorter states as long as b leads nowhere -/
theorem mcome_loop {z : ZZ} {E : EE} {g : GG} {y0 : DS} {A : Nat → Prop} {Q : State → Prop} {D : List Wd} {bt : Bool} {N rm : Nat} {b : Int32} {cur : Wd} (C : kC RX2 cX2_come 4 none E z) (hR : rmOK 1 (0, 0) z) (hDi : mDict y0 D bt N rm) (hcur : cur.length ≤ 40) (hl : ∀ i, i < cur.length + 1 → sA y0 8 i = (b :: cur).getD i 0) : ∀ (f : Nat) (c : Wd) (sp : Int64) (y : DS) (H : Heap) (locs : List Loc), c = cur.take c.length → c.length ≤ cur.length → c.length ≤ f → mS1 y y0 → sA y 8 = sA y0 8 → sI y 9 = nI c.length → sL y 10 = sp → wH E (mW E g y) A z H locs → (∀ (c' : Wd) (u : DS) (H : Heap) (locs : List Loc), c' = (go D b f c sp).1 → c' = cur.take c'.length → c'.length ≤ cur.length → mS1 u y0 → sA u 8 = sA y0 8 → sI u 9 = nI c'.length → sL u 10 = (go D b f c sp).2 → wH E (mW E g u) A z H locs → V z (0, 0) H locs Q 121 [(0, .ref g.1), (1, .int b)] []) → V z (0, 0) H locs Q 76 [(0, .ref g.1), (1, .int b)] [] := by
  have hD := hDi.1
  have htk : ∀ c : Wd, c = cur.take c.length → c.length ≤ cur.length → (b :: cur).take (c.length + 1) = b :: c := fun c h1 _ => by rw [List.take_succ_cons, ← h1]
  have hisP : ∀ (y : DS) (c : Wd), c = cur.take c.length → c.length ≤ cur.length → mS1 y y0 → sA y 8 = sA y0 8 → MRi (zl z) yX2_isPrefix cX2_isPrefix 5 (some .boolean) 0 E (mW E g y) [.ref g.1, .int (nI (c.length + 1))] (fun v => v = bI (isPre D (b :: c))) := by
    intro y c h1 h2 hS h8
    have hd := hDi.congr hS.1
    have := metX2_isPrefix (zl z) (E := E) (g := g) (y := y) (D := D) (r := b :: cur) (n := c.length + 1) hD hd.w hd.b (by omega) (by simp; omega) (fun i hi => by rw [h8]; exact hl i (by omega))
    rw [htk c h1 h2] at this
    exact this
  intro f
  induction f with
  | zero =>
    intro c sp y H locs h1 h2 hf hS h8 h9 h10 hH kk
    have hc : c = [] := List.length_eq_zero_iff.mp (by omega)
    refine v_aload_n C dX2_come_76 rfl 0 rfl ?_
    refine v_aload_n C dX2_come_77 rfl 0 rfl ?_
    refine mg9 C hH.1 dX2_come_78 ?_
    refine v_ei (y := nI c.length) (h9) ?_
    refine v_iconst C 1 (by decide) dX2_come_81 ?_
    refine v_iadd C dX2_come_82 ?_
    refine v_ei (y := nI (c.length + 1)) (nI_1 _) ?_
    refine v_callRi C (ci := 1) (vC := (RX2, TX2, 20)) (rest := []) (hisP y c h1 h2 hS h8) (lw_V q321 q323 qs11 q19 q324) DX2_isPrefix (hR.lower (by decide)) (by decide) hH.1 rfl rfl rfl (Nat.le_of_ble_eq_true rfl) rfl dX2_come_83 (fun r1 hr1 => ?_)
    refine v_if_ne C 121 dX2_come_86 (by decide) (fun c0 => ?_) (fun c0 => ?_)
    · exact kk c y H locs rfl h1 h2 hS h8 h9 h10 hH
    · refine v_aload_n C dX2_come_89 rfl 0 rfl ?_
      refine mg9 C hH.1 dX2_come_90 ?_
      refine v_ei (y := nI c.length) (h9) ?_
      refine v_if_le C 121 dX2_come_93 (by decide) (fun c1 => ?_) (fun c1 => ?_)
      · exact kk c y H locs rfl h1 h2 hS h8 h9 h10 hH
      · exact absurd (by rw [hc]; decide) c1
  | succ f ih =>
    intro c sp y H locs h1 h2 hf hS h8 h9 h10 hH kk
    refine v_aload_n C dX2_come_76 rfl 0 rfl ?_
    refine v_aload_n C dX2_come_77 rfl 0 rfl ?_
    refine mg9 C hH.1 dX2_come_78 ?_
    refine v_ei (y := nI c.length) (h9) ?_
    refine v_iconst C 1 (by decide) dX2_come_81 ?_
    refine v_iadd C dX2_come_82 ?_
    refine v_ei (y := nI (c.length + 1)) (nI_1 _) ?_
    refine v_callRi C (ci := 1) (vC := (RX2, TX2, 20)) (rest := []) (hisP y c h1 h2 hS h8) (lw_V q321 q323 qs11 q19 q324) DX2_isPrefix (hR.lower (by decide)) (by decide) hH.1 rfl rfl rfl (Nat.le_of_ble_eq_true rfl) rfl dX2_come_83 (fun r1 hr1 => ?_)
    refine v_if_ne C 121 dX2_come_86 (by decide) (fun c0 => ?_) (fun c0 => ?_)
    · rw [hr1] at c0
      rw [go_stop (Or.inl (bI_ne c0))] at kk
      exact kk c y H locs rfl h1 h2 hS h8 h9 h10 hH
    · rw [hr1] at c0
      have hnp := bI_eq c0
      refine v_aload_n C dX2_come_89 rfl 0 rfl ?_
      refine mg9 C hH.1 dX2_come_90 ?_
      refine v_ei (y := nI c.length) (h9) ?_
      refine v_if_le C 121 dX2_come_93 (by decide) (fun c1 => ?_) (fun c1 => ?_)
      · have hc : c = [] := List.length_eq_zero_iff.mp (Nat.le_zero.mp ((nI_leI (by omega) (by decide)).mp (show nI c.length ≤ nI 0 from c1)))
        rw [go_stop (Or.inr hc)] at kk
        exact kk c y H locs rfl h1 h2 hS h8 h9 h10 hH
      · have hc1 : 1 ≤ c.length := Nat.pos_of_ne_zero (fun e => c1 (by rw [e]; decide))
        have hne : c ≠ [] := List.length_pos_iff.mp hc1
        have hlt := lps_lt (D := D) hne
        have hd := hDi.congr hS.1
        refine v_aload_n C dX2_come_96 rfl 0 rfl ?_
        refine v_aload_n C dX2_come_97 rfl 0 rfl ?_
        refine v_aload_n C dX2_come_98 rfl 0 rfl ?_
        refine mg9 C hH.1 dX2_come_99 ?_
        refine v_ei (y := nI c.length) (h9) ?_
        refine v_callRi C (ci := 1) (vC := (RX2, TX2, 20)) (rest := [.ref g.1]) (metX2_shorter (zl z) (E := E) (g := g) (y := y) (D := D) (c := c) hD hd.w hd.b (by omega) hc1 (fun i hi => by rw [h8, hl (i + 1) (by omega), h1, getD_take (by omega)]; rfl)) (lw_V q325 q327 qs12 q19 q328) DX2_shorter (hR.lower (by decide)) (by decide) hH.1 rfl rfl rfl (Nat.le_of_ble_eq_true rfl) rfl dX2_come_102 (fun r2 hr2 => ?_)
        refine v_ei (y := nI (lps D c).length) (hr2) ?_
        refine mp9 C hH dX2_come_105 (fun H locs hH => ?_)
        refine v_aload_n C dX2_come_108 rfl 0 rfl ?_
        refine v_dup C rfl dX2_come_109 ?_
        refine mg10 C hH.1 dX2_come_110 ?_
        refine v_el (show sL (pI y 9 (nI (lps D c).length)) 10 = sL y 10 from rfl) ?_
        refine v_el (y := sp) (h10) ?_
        refine v_lconst C 1 (by decide) dX2_come_113 ?_
        refine v_ladd C dX2_come_114 ?_
        refine mp10 C hH dX2_come_115 (fun H locs hH => ?_)
        refine v_goto C 76 dX2_come_118 (by decide) ?_
        rw [go_step hnp hne] at kk
        refine ih (lps D c) (sp + 1) (pL (pI y 9 (nI (lps D c).length)) 10 (sp + 1)) H locs ?_ (by omega) (by omega) hS h8 rfl rfl hH kk
        exact (show lps D c = c.take (lps D c).length by rw [lps_len]; rfl).trans (take_of_take h1 (by omega))
def occU (D : List Wd) (s : Wd) (w : Nat) : List Nat := (List.range w).filter (fun i => D.getD i [] == s.reverse)
theorem occU_all {D : List Wd} {s : Wd} : occU D s D.length = occ D s := rfl
theorem occU_succ {D : List Wd} {s : Wd} {w : Nat} : occU D s (w + 1) = occU D s w ++ (if D.getD w [] = s.reverse then [w] else []) := by
  unfold occU
  rw [List.range_succ, List.filter_append]
  congr 1
  simp only [List.filter_cons, List.filter_nil, beq_iff_eq]
theorem occU_le {D : List Wd} {s : Wd} {w : Nat} (h : w ≤ D.length) : (occU D s w).length ≤ (occ D s).length := List.Sublist.length_le (List.Sublist.filter _ (List.range_sublist.mpr h))
def mS2 (u y : DS) : Prop := mT u = mT y ∧ mD u = mD y ∧ mX u = mX y ∧ mY u = mY y ∧ mQ u = mQ y
/-- words of one length -/
theorem mcome_words {z : ZZ} {E : EE} {g : GG} {y0 : DS} {A : Nat → Prop} {Q : State → Prop} {D : List Wd} {bt : Bool} {N rm pl ln n : Nat} {b : Int32} {r : Wd} {F : FL} {done : List Nat} (C : kC RX2 cX2_come 4 none E z) (hR : rmOK 1 (0, 0) z) (hDi : mDict y0 D bt N rm) (hr : r.length ≤ 41) (h9 : sI y0 9 = nI r.length) (hl : ∀ i, i < r.length → sA y0 8 i = r.getD i 0) (hp : sL y0 11 = lN pl) (hln : sI y0 12 = nI ln) (hn1 : 1 ≤ n) (hn2 : n ≤ r.length) (h42 : F.length + done.length + (occ D (r.take n)).length ≤ 4200)
    (kk : ∀ (u : DS) (H : Heap) (locs : List Loc), mS2 u y0 → mFd u (F ++ fnd pl ln (done ++ occ D (r.take n))) → wH E (mW E g u) A z H locs → V z (0, 0) H locs Q 237 [(0, .ref g.1), (1, .int b), (2, .int (nI n))] []) : ∀ (m w : Nat) (y : DS) (H : Heap) (locs : List Loc), w + m = D.length → mS2 y y0 → mFd y (F ++ fnd pl ln (done ++ occU D (r.take n) w)) → wH E (mW E g y) A z H locs → V z (0, 0) H locs Q 159 [(0, .ref g.1), (1, .int b), (2, .int (nI n)), (3, .int (nI w))] [] := by
  have hD := hDi.1
  have h60 := hD.1
  intro m
  induction m with
  | zero =>
    intro w y H locs hm hS hF hH
    have hm : w = D.length := by omega
    subst hm
    have hd := hDi.congr hS.1
    refine v_iload_n C dX2_come_159 rfl 3 rfl ?_
    refine v_aload_n C dX2_come_160 rfl 0 rfl ?_
    refine mg3 C hH.1 dX2_come_161 ?_
    refine v_ei (y := nI D.length) (hd.w) ?_
    refine v_icmp_ge C 237 dX2_come_164 (by decide) (fun c0 => ?_) (fun c0 => ?_)
    · exact v_sub [0, 1, 2] rfl (kk y H locs hS hF hH)
    · exact absurd (Int32.le_refl _) c0
  | succ m ih =>
    intro w y H locs hm hS hF hH
    have hwD : w < D.length := by omega
    have hd := hDi.congr hS.1
    have hl40 := (hD.at hwD).2
    have no : ¬ D.getD w [] = (r.take n).reverse → V z (0, 0) H locs Q 231 [(0, .ref g.1), (1, .int b), (2, .int (nI n)), (3, .int (nI w))] [] := by
      intro hne
      refine v_iinc C (k := 3) (nI (w + 1)) [1, 2, 3, 0] [(0, .ref g.1), (1, .int b), (2, .int (nI n)), (3, .int (nI (w + 1)))] dX2_come_231 rfl (inc1 _) (by decide) rfl ?_
      refine v_goto C 159 dX2_come_234 (by decide) ?_
      exact ih (w + 1) y H locs (by omega) hS (by rw [occU_succ, if_neg hne, List.append_nil]; exact hF) hH
    refine v_iload_n C dX2_come_159 rfl 3 rfl ?_
    refine v_aload_n C dX2_come_160 rfl 0 rfl ?_
    refine mg3 C hH.1 dX2_come_161 ?_
    refine v_ei (y := nI D.length) (hd.w) ?_
    refine v_icmp_ge C 237 dX2_come_164 (by decide) (fun c0 => ?_) (fun c0 => ?_)
    · exact absurd c0 (nI_ge hwD (by omega))
    · refine v_aload_n C dX2_come_167 rfl 0 rfl ?_
      refine mg5 C hH.1 dX2_come_168 ?_
      refine v_iload_n C dX2_come_171 rfl 3 rfl ?_
      refine ma5 C (w) hH.1 (rfl) (by omega) dX2_come_172 ?_
      refine v_ei (y := nI (D.getD w []).length) ((hd.b w hwD).1) ?_
      refine v_iload_n C dX2_come_173 rfl 2 rfl ?_
      refine v_icmp_ne C 231 dX2_come_174 (by decide) (fun c1 => ?_) (fun c1 => ?_)
      · exact no (fun e => c1 (by rw [e]; simp [Nat.min_eq_left hn2]))
      · have hlen : (D.getD w []).length = n := (nI_eq (by omega) (by omega)).mp c1
        have hf : ∀ i, i < n → sA y 8 i = r.getD i 0 := fun i hi => by rw [mY_A8 hS.2.2.2.1]; exact hl i (by omega)
        refine v_aload_n C dX2_come_177 rfl 0 rfl ?_
        refine v_iload_n C dX2_come_178 rfl 3 rfl ?_
        refine v_callRi C (ci := 1) (vC := (RX2, TX2, 20)) (rest := []) (metX2_isWord (zl z) (E := E) (g := g) (y := y) (D := D) (w := w) (cl := r.length) hD hd.w hd.b hwD ((mY_I9 hS.2.2.2.1).trans h9) (by omega) (by omega)) (lw_V q329 q331 qs13 q19 q332) DX2_isWord (hR.lower (by decide)) (by decide) hH.1 rfl rfl rfl (Nat.le_of_ble_eq_true rfl) rfl dX2_come_179 (fun r1 hr1 => ?_)
        refine v_if_eq C 231 dX2_come_182 (by decide) (fun c2 => ?_) (fun c2 => ?_)
        · rw [hr1, hlen] at c2
          exact no (fun e => by rw [(mB_iff hn2 hf).mpr (by rw [← e]; exact List.prefix_rfl)] at c2; exact absurd c2 (by decide))
        · rw [hr1, hlen] at c2
          have heq : D.getD w [] = (r.take n).reverse := (((mB_iff hn2 hf).mp (bI_ne c2)).eq_of_length (by rw [List.length_reverse, List.length_take, Nat.min_eq_left hn2, hlen])).symm
          have hoc : occU D (r.take n) (w + 1) = occU D (r.take n) w ++ [w] := by rw [occU_succ, if_pos heq]
          have hol := occU_le (D := D) (s := r.take n) (w := w + 1) (by omega)
          rw [hoc, List.length_append, List.length_singleton] at hol
          obtain ⟨G, hG⟩ : ∃ G, G = F ++ fnd pl ln (done ++ occU D (r.take n) w) := ⟨_, rfl⟩
          rw [← hG] at hF
          have hGl : G.length + 1 ≤ 4200 := by rw [hG]; simp; omega
          have hG2 : G ++ [(w, pl, ln)] = F ++ fnd pl ln (done ++ occU D (r.take n) (w + 1)) := by rw [hG, hoc]; simp [fnd]
          refine v_aload_n C dX2_come_185 rfl 0 rfl ?_
          refine mg14 C hH.1 dX2_come_186 ?_
          refine v_aload_n C dX2_come_189 rfl 0 rfl ?_
          refine mg13 C hH.1 dX2_come_190 ?_
          refine v_ei (y := nI G.length) (hF.1) ?_
          refine v_iload_n C dX2_come_193 rfl 3 rfl ?_
          refine ms14 C (G.length) hH (rfl) (by omega) dX2_come_194 (fun H locs hH => ?_)
          refine v_aload_n C dX2_come_195 rfl 0 rfl ?_
          refine mg15 C hH.1 dX2_come_196 ?_
          refine v_aload_n C dX2_come_199 rfl 0 rfl ?_
          refine mg13 C hH.1 dX2_come_200 ?_
          refine v_ei (show sI (pA y 14 G.length (nI w)) 13 = sI y 13 from rfl) ?_
          refine v_ei (y := nI G.length) (hF.1) ?_
          refine v_aload_n C dX2_come_203 rfl 0 rfl ?_
          refine mg11 C hH.1 dX2_come_204 ?_
          refine v_el (show sL (pA y 14 G.length (nI w)) 11 = sL y 11 from rfl) ?_
          refine v_el (y := lN pl) ((mX_L11 hS.2.2.1).trans hp) ?_
          refine ms15 C (G.length) hH (rfl) (by omega) dX2_come_207 (fun H locs hH => ?_)
          refine v_aload_n C dX2_come_208 rfl 0 rfl ?_
          refine mg16 C hH.1 dX2_come_209 ?_
          refine v_aload_n C dX2_come_212 rfl 0 rfl ?_
          refine mg13 C hH.1 dX2_come_213 ?_
          refine v_ei (show sI (pF (pA y 14 G.length (nI w)) G.length (lN pl)) 13 = sI y 13 from rfl) ?_
          refine v_ei (y := nI G.length) (hF.1) ?_
          refine v_aload_n C dX2_come_216 rfl 0 rfl ?_
          refine mg12 C hH.1 dX2_come_217 ?_
          refine v_ei (show sI (pF (pA y 14 G.length (nI w)) G.length (lN pl)) 12 = sI y 12 from rfl) ?_
          refine v_ei (y := nI ln) ((mX_I12 hS.2.2.1).trans hln) ?_
          refine ms16 C (G.length) hH (rfl) (by omega) dX2_come_220 (fun H locs hH => ?_)
          refine v_aload_n C dX2_come_221 rfl 0 rfl ?_
          refine v_dup C rfl dX2_come_222 ?_
          refine mg13 C hH.1 dX2_come_223 ?_
          refine v_ei (show sI (pA (pF (pA y 14 G.length (nI w)) G.length (lN pl)) 16 G.length (nI ln)) 13 = sI y 13 from rfl) ?_
          refine v_ei (y := nI G.length) (hF.1) ?_
          refine v_iconst C 1 (by decide) dX2_come_226 ?_
          refine v_iadd C dX2_come_227 ?_
          refine v_ei (y := nI (G.length + 1)) (nI_1 _) ?_
          refine mp13 C hH dX2_come_228 (fun H locs hH => ?_)
          refine v_iinc C (k := 3) (nI (w + 1)) [1, 2, 3, 0] [(0, .ref g.1), (1, .int b), (2, .int (nI n)), (3, .int (nI (w + 1)))] dX2_come_231 rfl (inc1 _) (by decide) rfl ?_
          refine v_goto C 159 dX2_come_234 (by decide) ?_
          refine ih (w + 1) (pI (pA (pF (pA y 14 G.length (nI w)) G.length (lN pl)) 16 G.length (nI ln)) 13 (nI (G.length + 1))) H locs (by omega) hS ?_ hH
          rw [← hG2]
          exact hF.snoc (by omega) rfl rfl rfl rfl
/-- all lengths -/
theorem mcome_all {z : ZZ} {E : EE} {g : GG} {y0 : DS} {A : Nat → Prop} {Q : State → Prop} {D : List Wd} {bt : Bool} {N rm pl ln : Nat} {b : Int32} {r : Wd} {F : FL} (C : kC RX2 cX2_come 4 none E z) (hR : rmOK 1 (0, 0) z) (hDi : mDict y0 D bt N rm) (hr : r.length ≤ 41) (h9 : sI y0 9 = nI r.length) (hl : ∀ i, i < r.length → sA y0 8 i = r.getD i 0) (hp : sL y0 11 = lN pl) (hln : sI y0 12 = nI ln) (h42 : F.length + (mt D r).length ≤ 4200)
    (kk : ∀ (u : DS) (H : Heap) (locs : List Loc), mS2 u y0 → mFd u (F ++ fnd pl ln (mt D r)) → wH E (mW E g u) A z H locs → V z (0, 0) H locs Q 243 [(0, .ref g.1), (1, .int b), (2, .int (nI 0))] []) : ∀ (n : Nat) (done : List Nat) (y : DS) (H : Heap) (locs : List Loc), n ≤ r.length → done ++ mtU D r n = mt D r → mS2 y y0 → mFd y (F ++ fnd pl ln done) → wH E (mW E g y) A z H locs → V z (0, 0) H locs Q 153 [(0, .ref g.1), (1, .int b), (2, .int (nI n))] [] := by
  intro n
  induction n with
  | zero =>
    intro done y H locs hn hdn hS hF hH
    rw [mtU, List.append_nil] at hdn
    rw [hdn] at hF
    refine v_iload_n C dX2_come_153 rfl 2 rfl ?_
    refine v_if_le C 243 dX2_come_154 (by decide) (fun c0 => ?_) (fun c0 => ?_)
    · exact kk y H locs hS hF hH
    · exact absurd (by decide) c0
  | succ n ih =>
    intro done y H locs hn hdn hS hF hH
    have hlen := congrArg List.length hdn
    rw [mtU, List.length_append, List.length_append] at hlen
    refine v_iload_n C dX2_come_153 rfl 2 rfl ?_
    refine v_if_le C 243 dX2_come_154 (by decide) (fun c0 => ?_) (fun c0 => ?_)
    · exact absurd c0 (nI_nle (by omega) (by omega))
    · refine v_iconst C 0 (by decide) dX2_come_157 ?_
      refine v_istore_n C [1, 2, 3, 0] [(0, .ref g.1), (1, .int b), (2, .int (nI (n + 1))), (3, .int 0)] dX2_come_158 rfl (by decide) rfl ?_
      refine mcome_words (n := n + 1) (done := done) (F := F) C hR hDi hr h9 hl hp hln (by omega) hn (by omega) ?_ D.length 0 y H locs (by omega) hS (by rw [show occU D (r.take (n + 1)) 0 = [] from rfl, List.append_nil]; exact hF) hH
      intro u H locs hS hF hH
      refine v_iinc C (k := 2) (nI n) [1, 2, 0] [(0, .ref g.1), (1, .int b), (2, .int (nI n))] dX2_come_237 rfl (dec1 _) (by decide) rfl ?_
      refine v_goto C 153 dX2_come_240 (by decide) ?_
      exact ih (done ++ occ D (r.take (n + 1))) u H locs (by omega) (by rw [← hdn, mtU]; simp) hS hF hH
/-- come(b) of the model -/
theorem metX2_come (l : Launch) {E : EE} {g : GG} {y : DS} {D : List Wd} {bt : Bool} {N rm : Nat} {t : TS} (b : Int32) (hDi : mDict y D bt N rm) (ht : mTS y t) (hT : TOK D t) (h4 : t.2.2.2.2.length + 60 ≤ 4200) : MWv l yX2_come cX2_come 4 none 1 E (mW E g) y [.ref g.1, .int b] (fun u => mT u = mT y ∧ mD u = mD y ∧ mQ u = mQ y ∧ mTS u (cm D b t)) := by
  refine MWv.start (own := RX2) (by decide) rfl (Nat.le_of_ble_eq_true rfl) ?_
  intro z A hz C hR hH
  show V z (0, 0) _ [] _ 0 [(0, .ref g.1), (1, .int b)] []
  obtain ⟨⟨h9, h8, h10, h11, h12⟩, hF⟩ := ht
  have hD := hDi.1
  have hc40 : t.1.length ≤ 40 := hD.pre hT.1
  refine v_aload_n C dX2_come_0 rfl 0 rfl ?_
  refine v_dup C rfl dX2_come_1 ?_
  refine mg10 C hH.1 dX2_come_2 ?_
  refine v_el (y := t.2.1) (h10) ?_
  refine v_lconst C 1 (by decide) dX2_come_5 ?_
  refine v_ladd C dX2_come_6 ?_
  refine mp10 C hH dX2_come_7 (fun H locs hH => ?_)
  refine v_iload_n C dX2_come_10 rfl 1 rfl ?_
  refine v_bipush C 10 (by decide) dX2_come_11 ?_
  refine v_icmp_ne C 42 dX2_come_13 (by decide) (fun h10b => ?_) (fun h10b => ?_)
  · refine v_bipush C 63 (by decide) dX2_come_42 ?_
    refine v_istore_n C [1, 2, 0] [(0, .ref g.1), (1, .int b), (2, .int 63)] dX2_come_44 rfl (by decide) rfl ?_
    refine mcome_shift (y0 := pL y 10 (t.2.1 + 1)) C 63 (pL y 10 (t.2.1 + 1)) H locs (Nat.le_refl _) (fun j _ => rfl) (fun j h1 h2 => absurd h2 (by omega)) mS1.r rfl rfl hH ?_
    intro u H locs hs hS hu9 hu10 hH
    refine v_aload_n C dX2_come_69 rfl 0 rfl ?_
    refine mg8 C hH.1 dX2_come_70 ?_
    refine v_iconst C 0 (by decide) dX2_come_73 ?_
    refine v_iload_n C dX2_come_74 rfl 1 rfl ?_
    refine ms8 C (0) hH (by decide) (by first | assumption | omega) dX2_come_75 (fun H locs hH => ?_)
    refine v_sub [0, 1] rfl ?_
    have hl : ∀ i, i < t.1.length + 1 → sA (pA u 8 0 b) 8 i = (b :: t.1).getD i 0 := by
      intro i hi
      show upd (sA u 8) 0 b i = _
      cases i with
      | zero => rw [upd_self]; rfl
      | succ i => rw [upd_ne (by omega), hs (i + 1) (by omega) (by omega)]; exact h8 i (by omega)
    refine mcome_loop (y0 := pA u 8 0 b) (cur := t.1) (b := b) C hR (hDi.congr (u := pA u 8 0 b) hS.1) hc40 hl t.1.length t.1 (t.2.1 + 1) (pA u 8 0 b) H locs (List.take_length).symm (Nat.le_refl _) (Nat.le_refl _) mS1.r rfl (hu9.trans h9) hu10 hH ?_
    intro c1 u1 H locs e1 e2 e3 hS1 hA8 hc9 hc10 hH
    have hfol : fol D b t.1 = if isPre D (b :: c1) = true then b :: c1 else [] := by rw [e1]; exact go_snd
    have hisP : MRi (zl z) yX2_isPrefix cX2_isPrefix 5 (some .boolean) 0 E (mW E g u1) [.ref g.1, .int (nI (c1.length + 1))] (fun v => v = bI (isPre D (b :: c1))) := by
      have hd := (hDi.congr (u := pA u 8 0 b) hS.1).congr hS1.1
      have := metX2_isPrefix (zl z) (E := E) (g := g) (y := u1) (D := D) (r := b :: t.1) (n := c1.length + 1) hD hd.w hd.b (by omega) (by simp; omega) (fun i hi => by rw [hA8]; exact hl i (by omega))
      rw [List.take_succ_cons, ← e2] at this
      exact this
    have hft := fol_take (D := D) (b := b) (c := t.1)
    have hd1 := (hDi.congr (u := pA u 8 0 b) hS.1).congr hS1.1
    have k145 : ∀ v : Int32, v = nI (fol D b t.1).length → V z (0, 0) H locs (QWv z E (mW E g) A (fun u => mT u = mT y ∧ mD u = mD y ∧ mQ u = mQ y ∧ mTS u (cm D b t))) 145 [(0, .ref g.1), (1, .int b)] [.int v, .ref g.1] := by
      intro v hv
      subst hv
      refine mp9 C hH dX2_come_145 (fun H locs hH => ?_)
      refine v_aload_n C dX2_come_148 rfl 0 rfl ?_
      refine mg9 C hH.1 dX2_come_149 ?_
      refine v_ei (show sI (pI u1 9 (nI (fol D b t.1).length)) 9 = nI (fol D b t.1).length from rfl) ?_
      refine v_istore_n C [1, 2, 0] [(0, .ref g.1), (1, .int b), (2, .int (nI (fol D b t.1).length))] dX2_come_152 rfl (by decide) rfl ?_
      refine mcome_all (y0 := pI u1 9 (nI (fol D b t.1).length)) (pl := t.2.2.1) (ln := t.2.2.2.1) (r := fol D b t.1) (F := t.2.2.2.2) C hR (hd1.congr (u := pI u1 9 (nI (fol D b t.1).length)) rfl) (by omega) rfl (fun i hi => ?_) ((mX_L11 (hS1.2.2.1)).trans ((mX_L11 hS.2.2.1).trans h11)) ((mX_I12 (hS1.2.2.1)).trans ((mX_I12 hS.2.2.1).trans h12)) (by have := mt_le (D := D) (r := fol D b t.1); have := hD.1; omega) ?_ (fol D b t.1).length [] (pI u1 9 (nI (fol D b t.1).length)) H locs (Nat.le_refl _) rfl ⟨rfl, rfl, rfl, rfl, rfl⟩ ?_ hH
      · rw [show sA (pI u1 9 (nI (fol D b t.1).length)) 8 = sA u1 8 from rfl, hA8, hl i (by omega), hft.1, getD_take hi]
      · intro u2 H locs hS2 hF2 hH
        refine v_aload_n C dX2_come_243 rfl 0 rfl ?_
        refine v_dup C rfl dX2_come_244 ?_
        refine mg11 C hH.1 dX2_come_245 ?_
        refine v_el (y := lN t.2.2.1) ((mX_L11 hS2.2.2.1).trans ((mX_L11 hS1.2.2.1).trans ((mX_L11 hS.2.2.1).trans h11))) ?_
        refine v_lconst C 1 (by decide) dX2_come_248 ?_
        refine v_ladd C dX2_come_249 ?_
        refine v_el (y := lN (t.2.2.1 + 1)) (lN_s _) ?_
        refine mp11 C hH dX2_come_250 (fun H locs hH => ?_)
        refine v_vretW C hH ?_ dX2_come_253
        rw [cm_n h10b]
        refine ⟨hS2.1.trans (hS1.1.trans hS.1), hS2.2.1.trans (hS1.2.1.trans hS.2.1), hS2.2.2.2.2.trans (hS1.2.2.2.2.trans hS.2.2.2.2), ⟨mY_I9 hS2.2.2.2.1, fun i hi => ?_, (mY_L10 hS2.2.2.2.1).trans hc10, rfl, (mX_I12 hS2.2.2.1).trans ((mX_I12 hS1.2.2.1).trans ((mX_I12 hS.2.2.1).trans h12))⟩, hF2.congr rfl⟩
        have hi : i < (fol D b t.1).length := hi
        rw [show sA (pL u2 11 (lN (t.2.2.1 + 1))) 8 = sA u2 8 from rfl, mY_A8 hS2.2.2.2.1, show sA (pI u1 9 (nI (fol D b t.1).length)) 8 = sA u1 8 from rfl, hA8, hl i (by omega)]
        exact (by rw [← getD_take hi, ← hft.1])
      · simpa using hF.congr (u := pI u1 9 (nI (fol D b t.1).length)) (hS1.2.2.2.1.trans hS.2.2.2.1)
    refine v_aload_n C dX2_come_121 rfl 0 rfl ?_
    refine v_aload_n C dX2_come_122 rfl 0 rfl ?_
    refine v_aload_n C dX2_come_123 rfl 0 rfl ?_
    refine mg9 C hH.1 dX2_come_124 ?_
    refine v_ei (y := nI c1.length) (hc9) ?_
    refine v_iconst C 1 (by decide) dX2_come_127 ?_
    refine v_iadd C dX2_come_128 ?_
    refine v_ei (y := nI (c1.length + 1)) (nI_1 _) ?_
    refine v_callRi C (ci := 1) (vC := (RX2, TX2, 20)) (rest := [.ref g.1]) (hisP) (lw_V q321 q323 qs11 q19 q324) DX2_isPrefix (hR.lower (by decide)) (by decide) hH.1 rfl rfl rfl (Nat.le_of_ble_eq_true rfl) rfl dX2_come_129 (fun r1 hr1 => ?_)
    refine v_if_eq C 144 dX2_come_132 (by decide) (fun d0 => ?_) (fun d0 => ?_)
    · rw [hr1] at d0
      refine v_iconst C 0 (by decide) dX2_come_144 ?_
      exact k145 _ (by rw [hfol, if_neg (by rw [bI_eq d0]; decide)]; rfl)
    · rw [hr1] at d0
      refine v_aload_n C dX2_come_135 rfl 0 rfl ?_
      refine mg9 C hH.1 dX2_come_136 ?_
      refine v_ei (y := nI c1.length) (hc9) ?_
      refine v_iconst C 1 (by decide) dX2_come_139 ?_
      refine v_iadd C dX2_come_140 ?_
      refine v_ei (y := nI (c1.length + 1)) (nI_1 _) ?_
      refine v_goto C 145 dX2_come_141 (by decide) ?_
      exact k145 _ (by rw [hfol, if_pos (bI_ne d0)]; rfl)
  · refine v_aload_n C dX2_come_16 rfl 0 rfl ?_
    refine v_iconst C 0 (by decide) dX2_come_17 ?_
    refine mp9 C hH dX2_come_18 (fun H locs hH => ?_)
    refine v_aload_n C dX2_come_21 rfl 0 rfl ?_
    refine v_dup C rfl dX2_come_22 ?_
    refine mg12 C hH.1 dX2_come_23 ?_
    refine v_ei (show sI (pI (pL y 10 (t.2.1 + 1)) 9 0) 12 = sI y 12 from rfl) ?_
    refine v_ei (y := nI t.2.2.2.1) (h12) ?_
    refine v_iconst C 1 (by decide) dX2_come_26 ?_
    refine v_iadd C dX2_come_27 ?_
    refine v_ei (y := nI (t.2.2.2.1 + 1)) (nI_1 _) ?_
    refine mp12 C hH dX2_come_28 (fun H locs hH => ?_)
    refine v_aload_n C dX2_come_31 rfl 0 rfl ?_
    refine v_dup C rfl dX2_come_32 ?_
    refine mg11 C hH.1 dX2_come_33 ?_
    refine v_el (show sL (pI (pI (pL y 10 (t.2.1 + 1)) 9 0) 12 (nI (t.2.2.2.1 + 1))) 11 = sL y 11 from rfl) ?_
    refine v_el (y := lN t.2.2.1) (h11) ?_
    refine v_lconst C 1 (by decide) dX2_come_36 ?_
    refine v_ladd C dX2_come_37 ?_
    refine v_el (y := lN (t.2.2.1 + 1)) (lN_s _) ?_
    refine mp11 C hH dX2_come_38 (fun H locs hH => ?_)
    refine v_vretW C hH ?_ dX2_come_41
    rw [h10b, cm_10]
    exact ⟨rfl, rfl, rfl, ⟨rfl, fun i hi => absurd hi (Nat.not_lt_zero _), rfl, rfl, rfl⟩, hF.congr rfl⟩
theorem mtext_loop {z : ZZ} {E : EE} {g : GG} {y0 : DS} {A : Nat → Prop} {Q : State → Prop} {D : List Wd} {bt : Bool} {N rm : Nat} {t : TS} {a b c d e v7 : Int32} {nn : Nat} (C : kC RX2 cX2_text 10 (some .int) E z) (hR : rmOK 2 (0, 0) z) (hD : mDict y0 D bt N rm) (hT : TOK D t) (h3 : t.2.2.2.2.length ≤ 3000) (hl2 : t.2.2.2.1 ≤ 15000) (hn : nn ≤ 20) : ∀ (j k : Nat) (y : DS) (H : Heap) (locs : List Loc), k + j = nn → mT y = mT y0 → mD y = mD y0 → mQ y = mQ y0 → mTS y (txt D (tb a b c d e) k t) → wH E (mW E g y) A z H locs → (∀ (u : DS) (H : Heap) (locs : List Loc), mT u = mT y0 → mD u = mD y0 → mQ u = mQ y0 → mTS u (txt D (tb a b c d e) nn t) → wH E (mW E g u) A z H locs → V z (0, 0) H locs Q 122 [(0, .ref g.1), (1, .int a), (2, .int b), (3, .int c), (4, .int d), (5, .int e), (6, .int (nI nn)), (7, .int v7), (8, .int (nI nn))] []) → V z (0, 0) H locs Q 40 [(0, .ref g.1), (1, .int a), (2, .int b), (3, .int c), (4, .int d), (5, .int e), (6, .int (nI nn)), (7, .int v7), (8, .int (nI k))] [] := by
  intro j
  induction j with
  | zero =>
    intro k y H locs hk h1 h2 h4 hts hH kk
    have hk : k = nn := by omega
    subst hk
    refine v_iload C dX2_text_40 8 rfl ?_
    refine v_iload C dX2_text_42 6 rfl ?_
    refine v_icmp_ge C 122 dX2_text_44 (by decide) (fun h => ?_) (fun h => ?_)
    · exact kk y H locs h1 h2 h4 hts hH
    · exact absurd (Int32.le_refl _) h
  | succ j ih =>
    intro k y H locs hk h1 h2 h4 hts hH kk
    have hk1 : k < nn := by omega
    refine v_iload C dX2_text_40 8 rfl ?_
    refine v_iload C dX2_text_42 6 rfl ?_
    refine v_icmp_ge C 122 dX2_text_44 (by decide) (fun h => ?_) (fun h => ?_)
    · exact absurd h (nI_ge hk1 (by omega))
    · have hDD := hD.1
      have hFk := txt_F (D := D) (f := tb a b c d e) (t := t) k
      have hTk := hT.txt (f := tb a b c d e) k (by omega)
      have h60 : k * D.length ≤ 19 * 60 := Nat.mul_le_mul (by omega) hDD.1
      have k93 : ∀ v : Int32, v = tw a b c d e k → V z (0, 0) H locs Q 93 [(0, .ref g.1), (1, .int a), (2, .int b), (3, .int c), (4, .int d), (5, .int e), (6, .int (nI nn)), (7, .int v7), (8, .int (nI k))] [.int v] := by
        intro v hv
        refine v_istore C [1, 2, 3, 4, 5, 6, 7, 8, 9, 0] [(0, .ref g.1), (1, .int a), (2, .int b), (3, .int c), (4, .int d), (5, .int e), (6, .int (nI nn)), (7, .int v7), (8, .int (nI k)), (9, .int v)] dX2_text_93 (by decide) rfl ?_
        refine v_aload_n C dX2_text_95 rfl 0 rfl ?_
        refine v_iload C dX2_text_96 9 rfl ?_
        refine v_bipush C 24 (by decide) dX2_text_98 ?_
        refine v_bipush C 8 (by decide) dX2_text_100 ?_
        refine v_iload C dX2_text_102 8 rfl ?_
        refine v_iconst C 4 (by decide) dX2_text_104 ?_
        refine v_irem C (by decide) dX2_text_105 ?_
        refine v_imul C dX2_text_106 ?_
        refine v_isub C dX2_text_107 ?_
        refine v_ishr C dX2_text_108 ?_
        refine v_sipush C 255 (by decide) dX2_text_109 ?_
        refine v_iand C dX2_text_112 ?_
        refine v_ei (y := tb a b c d e k) (by subst hv; rfl) ?_
        refine v_callWv C (ci := 1) (vC := (RX2, TX2, 20)) (rest := []) (metX2_come (zl z) (tb a b c d e k) (hD.congr h1) hts hTk (by omega)) (lw_V q317 q319 qs10 q19 q320) DX2_come (hR.lower (by decide)) (by decide) hH rfl rfl rfl (Nat.le_of_ble_eq_true rfl) rfl dX2_text_113 (fun u H locs hu hH => ?_)
        obtain ⟨u1, u2, u3, u4⟩ := hu
        refine v_iinc C (k := 8) (nI (k + 1)) [1, 2, 3, 4, 5, 6, 7, 8, 0, 9] [(0, .ref g.1), (1, .int a), (2, .int b), (3, .int c), (4, .int d), (5, .int e), (6, .int (nI nn)), (7, .int v7), (8, .int (nI (k + 1))), (9, .int v)] dX2_text_116 rfl (inc1 _) (by decide) rfl ?_
        refine v_goto C 40 dX2_text_119 (by decide) ?_
        refine v_sub [0, 1, 2, 3, 4, 5, 6, 7, 8] rfl ?_
        exact ih (k + 1) u H locs (by omega) (u1.trans h1) (u2.trans h2) (u3.trans h4) u4 hH kk
      refine v_iload C dX2_text_47 8 rfl ?_
      refine v_iconst C 4 (by decide) dX2_text_49 ?_
      refine v_icmp_ge C 57 dX2_text_50 (by decide) (fun g4 => ?_) (fun g4 => ?_)
      · have m4 : 4 ≤ k := (nI_leI (by decide) (by omega)).mp g4
        refine v_iload C dX2_text_57 8 rfl ?_
        refine v_bipush C 8 (by decide) dX2_text_59 ?_
        refine v_icmp_ge C 68 dX2_text_61 (by decide) (fun g8 => ?_) (fun g8 => ?_)
        · have m8 : 8 ≤ k := (nI_leI (by decide) (by omega)).mp g8
          refine v_iload C dX2_text_68 8 rfl ?_
          refine v_bipush C 12 (by decide) dX2_text_70 ?_
          refine v_icmp_ge C 79 dX2_text_72 (by decide) (fun g12 => ?_) (fun g12 => ?_)
          · have m12 : 12 ≤ k := (nI_leI (by decide) (by omega)).mp g12
            refine v_iload C dX2_text_79 8 rfl ?_
            refine v_bipush C 16 (by decide) dX2_text_81 ?_
            refine v_icmp_ge C 91 dX2_text_83 (by decide) (fun g16 => ?_) (fun g16 => ?_)
            · have m16 : 16 ≤ k := (nI_leI (by decide) (by omega)).mp g16
              refine v_iload C dX2_text_91 5 rfl ?_
              exact k93 _ (by simp [tw, show ¬ k < 4 by omega, show ¬ k < 8 by omega, show ¬ k < 12 by omega, show ¬ k < 16 by omega])
            · have m16 : k < 16 := Nat.lt_of_not_le (fun q => g16 ((nI_leI (by decide) (by omega)).mpr q))
              refine v_iload C dX2_text_86 4 rfl ?_
              refine v_goto C 93 dX2_text_88 (by decide) ?_
              exact k93 _ (by simp [tw, m16, show ¬ k < 4 by omega, show ¬ k < 8 by omega, show ¬ k < 12 by omega])
          · have m12 : k < 12 := Nat.lt_of_not_le (fun q => g12 ((nI_leI (by decide) (by omega)).mpr q))
            refine v_iload_n C dX2_text_75 rfl 3 rfl ?_
            refine v_goto C 93 dX2_text_76 (by decide) ?_
            exact k93 _ (by simp [tw, m12, show ¬ k < 4 by omega, show ¬ k < 8 by omega])
        · have m8 : k < 8 := Nat.lt_of_not_le (fun q => g8 ((nI_leI (by decide) (by omega)).mpr q))
          refine v_iload_n C dX2_text_64 rfl 2 rfl ?_
          refine v_goto C 93 dX2_text_65 (by decide) ?_
          exact k93 _ (by simp [tw, m8, show ¬ k < 4 by omega])
      · have m4 : k < 4 := Nat.lt_of_not_le (fun q => g4 ((nI_leI (by decide) (by omega)).mpr q))
        refine v_iload_n C dX2_text_53 rfl 1 rfl ?_
        refine v_goto C 93 dX2_text_54 (by decide) ?_
        exact k93 _ (by simp [tw, m4])
theorem metX2_text (l : Launch) {E : EE} {g : GG} {y : DS} {D : List Wd} {bt : Bool} {N rm : Nat} {t : TS} {pk : List Nat} (a b c d e n : Int32) (hD : mDict y D bt N rm) (ht : mTS y t) (hp : mPk y pk) (hT : TOK D t) (hl2 : t.2.2.2.1 ≤ 15000) : MWi l yX2_text cX2_text 10 (some .int) 2 E (mW E g) y [.ref g.1, .int a, .int b, .int c, .int d, .int e, .int n] (fun r u => (tcd bt n t.2.2.2.2 → r = nI (txt D (tb a b c d e) n.toNatClampNeg t).2.2.2.2.length - nI t.2.2.2.2.length ∧ mT u = mT y ∧ mD u = mD y ∧ mTS u (txt D (tb a b c d e) n.toNatClampNeg t) ∧ mPk u (if 0 < n then [] else pk)) ∧ (¬ tcd bt n t.2.2.2.2 → r = -1 ∧ u = y)) := by
  refine MWi.start (own := RX2) (by decide) rfl (Nat.le_of_ble_eq_true rfl) ?_
  intro z A hz C hR hH
  show V z (0, 0) _ [] _ 0 [(0, .ref g.1), (1, .int a), (2, .int b), (3, .int c), (4, .int d), (5, .int e), (6, .int n)] []
  have h4200 := ht.2.2.1
  have hno : ¬ tcd bt n t.2.2.2.2 → V z (0, 0) (zs z).heap [] (QWi z E (mW E g) A (fun r u => (tcd bt n t.2.2.2.2 → r = nI (txt D (tb a b c d e) n.toNatClampNeg t).2.2.2.2.length - nI t.2.2.2.2.length ∧ mT u = mT y ∧ mD u = mD y ∧ mTS u (txt D (tb a b c d e) n.toNatClampNeg t) ∧ mPk u (if 0 < n then [] else pk)) ∧ (¬ tcd bt n t.2.2.2.2 → r = -1 ∧ u = y))) 29 [(0, .ref g.1), (1, .int a), (2, .int b), (3, .int c), (4, .int d), (5, .int e), (6, .int n)] [] := by
    intro hn
    refine v_iconst C (-1) (by decide) dX2_text_29 ?_
    exact v_iretW C hH ⟨fun q => absurd q hn, fun _ => ⟨rfl, rfl⟩⟩ dX2_text_30
  refine v_aload_n C dX2_text_0 rfl 0 rfl ?_
  refine mg1 C hH.1 dX2_text_1 ?_
  refine v_ei (y := bI bt) (hD.2.2.1) ?_
  refine v_if_eq C 29 dX2_text_4 (by decide) (fun hb => ?_) (fun hb => ?_)
  · exact hno (fun q => by rw [q.1] at hb; exact absurd hb (by decide))
  · have hbt : bt = true := bI_ne hb
    subst hbt
    refine v_iload C dX2_text_7 6 rfl ?_
    refine v_if_lt C 29 dX2_text_9 (by decide) (fun hn0 => ?_) (fun hn0 => ?_)
    · exact hno (fun q => q.2.1 hn0)
    · refine v_iload C dX2_text_12 6 rfl ?_
      refine v_bipush C 20 (by decide) dX2_text_14 ?_
      refine v_icmp_gt C 29 dX2_text_16 (by decide) (fun hn20 => ?_) (fun hn20 => ?_)
      · exact hno (fun q => q.2.2.1 hn20)
      · refine v_aload_n C dX2_text_19 rfl 0 rfl ?_
        refine mg13 C hH.1 dX2_text_20 ?_
        refine v_ei (y := nI t.2.2.2.2.length) (ht.2.1) ?_
        refine v_sipush C 3000 (by decide) dX2_text_23 ?_
        refine v_icmp_le C 31 dX2_text_26 (by decide) (fun h3 => ?_) (fun h3 => ?_)
        · have h3 : t.2.2.2.2.length ≤ 3000 := (nI_leI (by omega) (by decide)).mp h3
          obtain ⟨nn, hnn, rfl⟩ := nI_of2 (x := n) (M := 20) (n := 20) (by decide) hn0 (Int32.not_lt.mp hn20)
          have hcl : (nI nn).toNatClampNeg = nn := nI_clamp (by omega)
          have htc : tcd true (nI nn) t.2.2.2.2 := ⟨rfl, hn0, hn20, h3⟩
          refine v_aload_n C dX2_text_31 rfl 0 rfl ?_
          refine mg13 C hH.1 dX2_text_32 ?_
          refine v_ei (y := nI t.2.2.2.2.length) (ht.2.1) ?_
          refine v_istore C [1, 2, 3, 4, 5, 6, 7, 0] [(0, .ref g.1), (1, .int a), (2, .int b), (3, .int c), (4, .int d), (5, .int e), (6, .int (nI nn)), (7, .int (nI t.2.2.2.2.length))] dX2_text_35 (by decide) rfl ?_
          refine v_iconst C 0 (by decide) dX2_text_37 ?_
          refine v_istore C [1, 2, 3, 4, 5, 6, 7, 8, 0] [(0, .ref g.1), (1, .int a), (2, .int b), (3, .int c), (4, .int d), (5, .int e), (6, .int (nI nn)), (7, .int (nI t.2.2.2.2.length)), (8, .int 0)] dX2_text_38 (by decide) rfl ?_
          refine mtext_loop (nn := nn) C hR hD hT h3 hl2 hnn nn 0 y _ _ (by omega) rfl rfl rfl ht hH ?_
          intro u H locs u1 u2 u3 u4 hH
          have k140 : ∀ v : Int32, (v = 0 ∨ v = 1) → mPk (pI u 18 v) (if 0 < nI nn then [] else pk) → V z (0, 0) H locs (QWi z E (mW E g) A (fun r u => (tcd true (nI nn) t.2.2.2.2 → r = nI (txt D (tb a b c d e) (nI nn).toNatClampNeg t).2.2.2.2.length - nI t.2.2.2.2.length ∧ mT u = mT y ∧ mD u = mD y ∧ mTS u (txt D (tb a b c d e) (nI nn).toNatClampNeg t) ∧ mPk u (if 0 < (nI nn) then [] else pk)) ∧ (¬ tcd true (nI nn) t.2.2.2.2 → r = -1 ∧ u = y))) 140 [(0, .ref g.1), (1, .int a), (2, .int b), (3, .int c), (4, .int d), (5, .int e), (6, .int (nI nn)), (7, .int (nI t.2.2.2.2.length)), (8, .int (nI nn))] [.int v, .ref g.1] := by
            intro v hv01 hv
            refine mp18 C hH hv01 dX2_text_140 (fun H locs hH => ?_)
            refine v_aload_n C dX2_text_143 rfl 0 rfl ?_
            refine mg13 C hH.1 dX2_text_144 ?_
            refine v_ei (show sI (pI u 18 v) 13 = sI u 13 from rfl) ?_
            refine v_ei (y := nI (txt D (tb a b c d e) nn t).2.2.2.2.length) (u4.2.1) ?_
            refine v_iload C dX2_text_147 7 rfl ?_
            refine v_isub C dX2_text_149 ?_
            refine v_iretW C hH ⟨fun _ => ?_, fun q => absurd htc q⟩ dX2_text_150
            rw [hcl]
            exact ⟨rfl, u1, u2, ⟨u4.1.congr rfl rfl, u4.2.congr rfl⟩, hv⟩
          have e18 : sI u 18 = sI y 18 := mQ_I18 u3
          refine v_aload_n C dX2_text_122 rfl 0 rfl ?_
          refine v_aload_n C dX2_text_123 rfl 0 rfl ?_
          refine mg18 C hH.1 dX2_text_124 ?_
          refine v_ei (y := sI y 18) (e18) ?_
          refine v_if_eq C 139 dX2_text_127 (by decide) (fun h0 => ?_) (fun h0 => ?_)
          · refine v_iconst C 0 (by decide) dX2_text_139 ?_
            refine k140 _ (Or.inl rfl) (Or.inr ⟨rfl, ?_⟩)
            rcases hp with ⟨a1, -⟩ | ⟨-, a2⟩
            · rw [a1] at h0; exact absurd h0 (by decide)
            · rw [a2]; split <;> rfl
          · rcases hp with ⟨a1, a2, a3, a4⟩ | ⟨a1, a2⟩
            · refine v_iload C dX2_text_130 6 rfl ?_
              refine v_if_ne C 139 dX2_text_132 (by decide) (fun h1 => ?_) (fun h1 => ?_)
              · refine v_iconst C 0 (by decide) dX2_text_139 ?_
                have hpos : 0 < nI nn := nI_lt (a := 0) (Nat.pos_of_ne_zero (fun e => h1 (by rw [e]; exact nI_0))) (by omega)
                exact k140 _ (Or.inl rfl) (Or.inr ⟨rfl, by rw [if_pos hpos]⟩)
              · refine v_iconst C 1 (by decide) dX2_text_135 ?_
                refine v_goto C 140 dX2_text_136 (by decide) ?_
                have hz : ¬ 0 < nI nn := by rw [h1]; decide
                refine k140 _ (Or.inr rfl) (Or.inl ?_)
                rw [if_neg hz]
                exact ⟨rfl, (mQ_I17 u3).trans a2, a3, fun k hk => (congrFun (mQ_A19 u3) k).trans (a4 k hk)⟩
            · exact absurd a1 h0
        · exact hno (fun q => h3 ((nI_leI (by omega) (by decide)).mpr q.2.2.2))
end
section
theorem madd_inner {z : ZZ} {E : EE} {g : GG} {y : DS} {D : List Wd} {Q : State → Prop} {H : Heap} {locs : List Loc} {dr : Wd} {w : Nat} {c2 : Int32} (C : kC RX2 cX2_add 5 (some .int) E z) (hP : wP E (mW E g y) H) (hD : DOK D) (hw : sI y 3 = nI D.length) (hb : ∀ w, w < D.length → sA y 5 w = nI (D.getD w []).length ∧ ∀ k, k < (D.getD w []).length → sA y 4 (40 * w + k) = (D.getD w []).getD k 0) (h40 : dr.length ≤ 40) (hd : ∀ k, k < dr.length → sA y 6 k = dr.getD k 0) (hwD : w < D.length) (kk : V z (0, 0) H locs Q 79 [(0, .ref g.1), (1, .int (nI dr.length)), (2, .int c2), (3, .int (nI w)), (4, .int (nI (cpl (D.getD w []) dr)))] []) : ∀ (m k : Nat), k + m = dr.length → k ≤ cpl (D.getD w []) dr → V z (0, 0) H locs Q 34 [(0, .ref g.1), (1, .int (nI dr.length)), (2, .int c2), (3, .int (nI w)), (4, .int (nI k))] [] := by
  have h60 := hD.1
  have hl40 := (hD.at hwD).2
  have c1 := cpl_le1 (D.getD w []) dr
  have c2' := cpl_le2 (D.getD w []) dr
  intro m
  induction m with
  | zero =>
    intro k hk hle
    have hk : k = cpl (D.getD w []) dr := by omega
    refine v_iload C dX2_add_34 4 rfl ?_
    refine v_iload_n C dX2_add_36 rfl 1 rfl ?_
    refine v_icmp_ge C 79 dX2_add_37 (by decide) (fun c0 => ?_) (fun c0 => ?_)
    · rw [← hk] at kk; exact kk
    · exact absurd (nI_le (by omega) (by omega)) c0
  | succ m ih =>
    intro k hk hle
    have hk1 : k < dr.length := by omega
    refine v_iload C dX2_add_34 4 rfl ?_
    refine v_iload_n C dX2_add_36 rfl 1 rfl ?_
    refine v_icmp_ge C 79 dX2_add_37 (by decide) (fun c0 => ?_) (fun c0 => ?_)
    · exact absurd c0 (nI_ge hk1 (by omega))
    · refine v_iload C dX2_add_40 4 rfl ?_
      refine v_aload_n C dX2_add_42 rfl 0 rfl ?_
      refine mg5 C hP dX2_add_43 ?_
      refine v_iload_n C dX2_add_46 rfl 3 rfl ?_
      refine ma5 C (w) hP (rfl) (by omega) dX2_add_47 ?_
      refine v_ei (y := nI (D.getD w []).length) ((hb w hwD).1) ?_
      refine v_icmp_ge C 79 dX2_add_48 (by decide) (fun e0 => ?_) (fun e0 => ?_)
      · have e0 := (nI_leI (by omega) (by omega)).mp e0
        rw [show cpl (D.getD w []) dr = k by omega] at kk; exact kk
      · have e0 : k < (D.getD w []).length := Nat.lt_of_not_le (fun e => e0 ((nI_leI (by omega) (by omega)).mpr e))
        refine v_aload_n C dX2_add_51 rfl 0 rfl ?_
        refine mg4 C hP dX2_add_52 ?_
        refine v_bipush C 40 (by decide) dX2_add_55 ?_
        refine v_iload_n C dX2_add_57 rfl 3 rfl ?_
        refine v_imul C dX2_add_58 ?_
        refine v_iload C dX2_add_59 4 rfl ?_
        refine v_iadd C dX2_add_61 ?_
        refine v_ei (y := nI (40 * w + k)) (mul40 w k) ?_
        refine ma4 C (40 * w + k) hP (rfl) (by omega) dX2_add_62 ?_
        refine v_ei (y := (D.getD w []).getD k 0) ((hb w hwD).2 k e0) ?_
        refine v_aload_n C dX2_add_63 rfl 0 rfl ?_
        refine mg6 C hP dX2_add_64 ?_
        refine v_iload C dX2_add_67 4 rfl ?_
        refine ma6 C (k) hP (rfl) (by omega) dX2_add_69 ?_
        refine v_ei (y := dr.getD k 0) (hd k hk1) ?_
        refine v_icmp_ne C 79 dX2_add_70 (by decide) (fun e1 => ?_) (fun e1 => ?_)
        · have : ¬ k < cpl (D.getD w []) dr := fun e => e1 (cpl_at _ _ k e)
          rw [show cpl (D.getD w []) dr = k by omega] at kk; exact kk
        · refine v_iinc C (k := 4) (nI (k + 1)) [1, 2, 3, 4, 0] [(0, .ref g.1), (1, .int (nI dr.length)), (2, .int c2), (3, .int (nI w)), (4, .int (nI (k + 1)))] dX2_add_73 rfl (inc1 _) (by decide) rfl ?_
          refine v_goto C 34 dX2_add_76 (by decide) ?_
          exact ih (k + 1) (by omega) (cpl_more _ _ k hle e0 hk1 e1)
theorem madd_com {z : ZZ} {E : EE} {g : GG} {y : DS} {D : List Wd} {Q : State → Prop} {H : Heap} {locs : List Loc} {dr : Wd} (C : kC RX2 cX2_add 5 (some .int) E z) (hP : wP E (mW E g y) H) (hD : DOK D) (hw : sI y 3 = nI D.length) (hb : ∀ w, w < D.length → sA y 5 w = nI (D.getD w []).length ∧ ∀ k, k < (D.getD w []).length → sA y 4 (40 * w + k) = (D.getD w []).getD k 0) (h40 : dr.length ≤ 40) (hd : ∀ k, k < dr.length → sA y 6 k = dr.getD k 0) (kk : V z (0, 0) H locs Q 98 [(0, .ref g.1), (1, .int (nI dr.length)), (2, .int (nI (com D dr D.length)))] []) : ∀ (m w : Nat), w + m = D.length → V z (0, 0) H locs Q 23 [(0, .ref g.1), (1, .int (nI dr.length)), (2, .int (nI (com D dr w))), (3, .int (nI w))] [] := by
  have h60 := hD.1
  intro m
  induction m with
  | zero =>
    intro w hm
    have hm : w = D.length := by omega
    subst hm
    refine v_iload_n C dX2_add_23 rfl 3 rfl ?_
    refine v_aload_n C dX2_add_24 rfl 0 rfl ?_
    refine mg3 C hP dX2_add_25 ?_
    refine v_ei (y := nI D.length) (hw) ?_
    refine v_icmp_ge C 98 dX2_add_28 (by decide) (fun c0 => ?_) (fun c0 => ?_)
    · exact v_sub [0, 1, 2] rfl kk
    · exact absurd (Int32.le_refl _) c0
  | succ m ih =>
    intro w hm
    have hwD : w < D.length := by omega
    have hcl := com_le (D := D) (d := dr) w
    have c2' := cpl_le2 (D.getD w []) dr
    have k91 : ∀ v : Int32, v = nI (com D dr (w + 1)) → V z (0, 0) H locs Q 91 [(0, .ref g.1), (1, .int (nI dr.length)), (2, .int (nI (com D dr w))), (3, .int (nI w)), (4, .int (nI (cpl (D.getD w []) dr)))] [.int v] := by
      intro v hv
      subst hv
      refine v_istore_n C [1, 2, 0, 3, 4] [(0, .ref g.1), (1, .int (nI dr.length)), (2, .int (nI (com D dr (w + 1)))), (3, .int (nI w)), (4, .int (nI (cpl (D.getD w []) dr)))] dX2_add_91 rfl (by decide) rfl ?_
      refine v_iinc C (k := 3) (nI (w + 1)) [1, 2, 3, 0, 4] [(0, .ref g.1), (1, .int (nI dr.length)), (2, .int (nI (com D dr (w + 1)))), (3, .int (nI (w + 1))), (4, .int (nI (cpl (D.getD w []) dr)))] dX2_add_92 rfl (inc1 _) (by decide) rfl ?_
      refine v_goto C 23 dX2_add_95 (by decide) ?_
      exact v_sub [0, 1, 2, 3] rfl (ih (w + 1) (by omega))
    refine v_iload_n C dX2_add_23 rfl 3 rfl ?_
    refine v_aload_n C dX2_add_24 rfl 0 rfl ?_
    refine mg3 C hP dX2_add_25 ?_
    refine v_ei (y := nI D.length) (hw) ?_
    refine v_icmp_ge C 98 dX2_add_28 (by decide) (fun c0 => ?_) (fun c0 => ?_)
    · exact absurd c0 (nI_ge hwD (by omega))
    · refine v_iconst C 0 (by decide) dX2_add_31 ?_
      refine v_istore C [1, 2, 3, 4, 0] [(0, .ref g.1), (1, .int (nI dr.length)), (2, .int (nI (com D dr w))), (3, .int (nI w)), (4, .int 0)] dX2_add_32 (by decide) rfl ?_
      refine madd_inner C hP hD hw hb h40 hd hwD ?_ dr.length 0 (by omega) (Nat.zero_le _)
      refine v_iload C dX2_add_79 4 rfl ?_
      refine v_iload_n C dX2_add_81 rfl 2 rfl ?_
      refine v_icmp_le C 90 dX2_add_82 (by decide) (fun e0 => ?_) (fun e0 => ?_)
      · have e0 := (nI_leI (by omega) (by omega)).mp e0
        refine v_iload_n C dX2_add_90 rfl 2 rfl ?_
        exact k91 _ (by rw [com, if_neg (by omega)])
      · have e0 : com D dr w < cpl (D.getD w []) dr := Nat.lt_of_not_le (fun e => e0 ((nI_leI (by omega) (by omega)).mpr e))
        refine v_iload C dX2_add_85 4 rfl ?_
        refine v_goto C 91 dX2_add_87 (by decide) ?_
        exact k91 _ (by rw [com, if_pos e0])
def mG (u y : DS) : Prop := (sA u 5, sI u 0, sI u 1, sI u 2, sI u 3) = (sA y 5, sI y 0, sI y 1, sI y 2, sI y 3) ∧ mD u = mD y ∧ mX u = mX y ∧ mY u = mY y ∧ mF u = mF y ∧ mQ u = mQ y
theorem mG_5 {u y : DS} (h : mG u y) : sA u 5 = sA y 5 := congrArg (fun t => t.1) h.1
theorem mG_0 {u y : DS} (h : mG u y) : sI u 0 = sI y 0 := congrArg (fun t => t.2.1) h.1
theorem mG_1 {u y : DS} (h : mG u y) : sI u 1 = sI y 1 := congrArg (fun t => t.2.2.1) h.1
theorem mG_2 {u y : DS} (h : mG u y) : sI u 2 = sI y 2 := congrArg (fun t => t.2.2.2.1) h.1
theorem mG_3 {u y : DS} (h : mG u y) : sI u 3 = sI y 3 := congrArg (fun t => t.2.2.2.2) h.1
theorem madd_copy {z : ZZ} {E : EE} {g : GG} {y0 : DS} {A : Nat → Prop} {Q : State → Prop} {dr : Wd} {wc : Nat} {c2 : Int32} (C : kC RX2 cX2_add 5 (some .int) E z) (h40 : dr.length ≤ 40) (hd : ∀ k, k < dr.length → sA y0 6 k = dr.getD k 0) (hwc : wc < 60) (h3 : sI y0 3 = nI wc)
    (kk : ∀ (u : DS) (H : Heap) (locs : List Loc), (∀ i, i < 40 * wc → sA u 4 i = sA y0 4 i) → (∀ j, j < dr.length → sA u 4 (40 * wc + j) = dr.getD j 0) → mG u y0 → wH E (mW E g u) A z H locs → V z (0, 0) H locs Q 173 [(0, .ref g.1), (1, .int (nI dr.length)), (2, .int c2), (3, .int (nI dr.length))] []) : ∀ (m k : Nat) (y : DS) (H : Heap) (locs : List Loc), k + m = dr.length → (∀ i, i < 40 * wc → sA y 4 i = sA y0 4 i) → (∀ j, j < k → sA y 4 (40 * wc + j) = dr.getD j 0) → mG y y0 → wH E (mW E g y) A z H locs → V z (0, 0) H locs Q 142 [(0, .ref g.1), (1, .int (nI dr.length)), (2, .int c2), (3, .int (nI k))] [] := by
  intro m
  induction m with
  | zero =>
    intro k y H locs hk h1 h2 hG hH
    have hk : k = dr.length := by omega
    subst hk
    refine v_iload_n C dX2_add_142 rfl 3 rfl ?_
    refine v_iload_n C dX2_add_143 rfl 1 rfl ?_
    refine v_icmp_ge C 173 dX2_add_144 (by decide) (fun c0 => ?_) (fun c0 => ?_)
    · exact kk y H locs h1 h2 hG hH
    · exact absurd (Int32.le_refl _) c0
  | succ m ih =>
    intro k y H locs hk h1 h2 hG hH
    have hk1 : k < dr.length := by omega
    refine v_iload_n C dX2_add_142 rfl 3 rfl ?_
    refine v_iload_n C dX2_add_143 rfl 1 rfl ?_
    refine v_icmp_ge C 173 dX2_add_144 (by decide) (fun c0 => ?_) (fun c0 => ?_)
    · exact absurd c0 (nI_ge hk1 (by omega))
    · refine v_aload_n C dX2_add_147 rfl 0 rfl ?_
      refine mg4 C hH.1 dX2_add_148 ?_
      refine v_bipush C 40 (by decide) dX2_add_151 ?_
      refine v_aload_n C dX2_add_153 rfl 0 rfl ?_
      refine mg3 C hH.1 dX2_add_154 ?_
      refine v_ei (y := nI wc) ((mG_3 hG).trans h3) ?_
      refine v_imul C dX2_add_157 ?_
      refine v_iload_n C dX2_add_158 rfl 3 rfl ?_
      refine v_iadd C dX2_add_159 ?_
      refine v_ei (y := nI (40 * wc + k)) (mul40 wc k) ?_
      refine v_aload_n C dX2_add_160 rfl 0 rfl ?_
      refine mg6 C hH.1 dX2_add_161 ?_
      refine v_iload_n C dX2_add_164 rfl 3 rfl ?_
      refine ma6 C (k) hH.1 (rfl) (by omega) dX2_add_165 ?_
      refine v_ei (y := dr.getD k 0) ((congrFun (mD_A6 hG.2.1) k).trans (hd k hk1)) ?_
      refine ms4 C (40 * wc + k) hH (rfl) (by omega) dX2_add_166 (fun H locs hH => ?_)
      refine v_iinc C (k := 3) (nI (k + 1)) [1, 2, 3, 0] [(0, .ref g.1), (1, .int (nI dr.length)), (2, .int c2), (3, .int (nI (k + 1)))] dX2_add_167 rfl (inc1 _) (by decide) rfl ?_
      refine v_goto C 142 dX2_add_170 (by decide) ?_
      refine ih (k + 1) (pA y 4 (40 * wc + k) (dr.getD k 0)) H locs (by omega) (fun i hi => ?_) (fun j hj => ?_) hG hH
      · show upd (sA y 4) (40 * wc + k) (dr.getD k 0) i = _
        rw [upd_ne (by omega)]; exact h1 i hi
      · show upd (sA y 4) (40 * wc + k) (dr.getD k 0) (40 * wc + j) = _
        by_cases e : j = k
        · rw [e, upd_self]
        · rw [upd_ne (by omega)]; exact h2 j (by omega)
theorem metX2_add (l : Launch) {E : EE} {g : GG} {y : DS} {D : List Wd} {dr : Wd} {bt : Bool} {N rm : Nat} (hDi : mDict y D bt N rm) (hd : mDr y dr) : MWi l yX2_add cX2_add 5 (some .int) 0 E (mW E g) y [.ref g.1] (fun r u => (bt = true → r = -1 ∧ u = y) ∧ (bt = false → ¬ acd D dr N rm → r = -1 ∧ u = pI y 7 0) ∧ (bt = false → acd D dr N rm → r = nI D.length ∧ mDict u (D ++ [dr]) false (N + dr.length - com D dr D.length) rm ∧ mDr u [] ∧ mX u = mX y ∧ mY u = mY y ∧ mF u = mF y ∧ mQ u = mQ y)) := by
  refine MWi.start (own := RX2) (by decide) rfl (Nat.le_of_ble_eq_true rfl) ?_
  intro z A hz C hR hH
  show V z (0, 0) _ [] _ 0 [(0, .ref g.1)] []
  obtain ⟨hD, ⟨h0, hNr, hrm⟩, h1, h2, h3, hb⟩ := hDi
  obtain ⟨h7, h40, hdk⟩ := hd
  have h60 := hD.1
  have hcl := com_le (D := D) (d := dr) D.length
  refine v_aload_n C dX2_add_0 rfl 0 rfl ?_
  refine mg1 C hH.1 dX2_add_1 ?_
  refine v_ei (y := bI bt) (h1) ?_
  refine v_if_eq C 9 dX2_add_4 (by decide) (fun c0 => ?_) (fun c0 => ?_)
  · have hbt := bI_eq c0
    refine v_aload_n C dX2_add_9 rfl 0 rfl ?_
    refine mg7 C hH.1 dX2_add_10 ?_
    refine v_ei (y := nI dr.length) (h7) ?_
    refine v_istore_n C [1, 0] [(0, .ref g.1), (1, .int (nI dr.length))] dX2_add_13 rfl (by decide) rfl ?_
    refine v_aload_n C dX2_add_14 rfl 0 rfl ?_
    refine v_iconst C 0 (by decide) dX2_add_15 ?_
    refine mp7 C hH dX2_add_16 (fun H locs hH => ?_)
    refine v_iconst C 0 (by decide) dX2_add_19 ?_
    refine v_istore_n C [1, 2, 0] [(0, .ref g.1), (1, .int (nI dr.length)), (2, .int 0)] dX2_add_20 rfl (by decide) rfl ?_
    refine v_iconst C 0 (by decide) dX2_add_21 ?_
    refine v_istore_n C [1, 2, 3, 0] [(0, .ref g.1), (1, .int (nI dr.length)), (2, .int 0), (3, .int 0)] dX2_add_22 rfl (by decide) rfl ?_
    refine madd_com (D := D) (dr := dr) C hH.1 hD h3 hb h40 hdk ?_ D.length 0 (by omega)
    have hno : ¬ acd D dr N rm → V z (0, 0) H locs (QWi z E (mW E g) A (fun r u => (bt = true → r = -1 ∧ u = y) ∧ (bt = false → ¬ acd D dr N rm → r = -1 ∧ u = pI y 7 0) ∧ (bt = false → acd D dr N rm → r = nI D.length ∧ mDict u (D ++ [dr]) false (N + dr.length - com D dr D.length) rm ∧ mDr u [] ∧ mX u = mX y ∧ mY u = mY y ∧ mF u = mF y ∧ mQ u = mQ y))) 126 [(0, .ref g.1), (1, .int (nI dr.length)), (2, .int (nI (com D dr D.length)))] [] := by
      intro hna
      refine v_iconst C (-1) (by decide) dX2_add_126 ?_
      exact v_iretW C hH ⟨fun q => absurd (hbt.symm.trans q) (by decide), fun _ _ => ⟨rfl, rfl⟩, fun _ q => absurd q hna⟩ dX2_add_127
    refine v_iload_n C dX2_add_98 rfl 1 rfl ?_
    refine v_if_eq C 126 dX2_add_99 (by decide) (fun c1 => ?_) (fun c1 => ?_)
    · exact hno (fun q => q.1 (List.length_eq_zero_iff.mp ((nI_eq (by omega) (by decide)).mp (c1.trans nI_0.symm))))
    · refine v_aload_n C dX2_add_102 rfl 0 rfl ?_
      refine mg3 C hH.1 dX2_add_103 ?_
      refine v_ei (show sI (pI y 7 0) 3 = sI y 3 from rfl) ?_
      refine v_ei (y := nI D.length) (h3) ?_
      refine v_bipush C 60 (by decide) dX2_add_106 ?_
      refine v_icmp_eq C 126 dX2_add_108 (by decide) (fun c2 => ?_) (fun c2 => ?_)
      · exact hno (fun q => q.2.1 ((nI_eq (by omega) (by decide)).mp c2))
      · refine v_aload_n C dX2_add_111 rfl 0 rfl ?_
        refine mg2 C hH.1 dX2_add_112 ?_
        refine v_ei (show sI (pI y 7 0) 2 = sI y 2 from rfl) ?_
        refine v_ei (y := nI N) (h2) ?_
        refine v_iload_n C dX2_add_115 rfl 1 rfl ?_
        refine v_iadd C dX2_add_116 ?_
        refine v_ei (y := nI (N + dr.length)) (nI_add _ _) ?_
        refine v_iload_n C dX2_add_117 rfl 2 rfl ?_
        refine v_isub C dX2_add_118 ?_
        refine v_ei (y := nI (N + dr.length - com D dr D.length)) (pk_sub (by omega)) ?_
        refine v_aload_n C dX2_add_119 rfl 0 rfl ?_
        refine mg0 C hH.1 dX2_add_120 ?_
        refine v_ei (show sI (pI y 7 0) 0 = sI y 0 from rfl) ?_
        refine v_ei (y := nI rm) (h0) ?_
        refine v_icmp_le C 128 dX2_add_123 (by decide) (fun c3 => ?_) (fun c3 => ?_)
        · have ha : acd D dr N rm := ⟨fun q => c1 (by rw [q]; rfl), fun q => c2 (by rw [q]; rfl), (nI_leI (by omega) (by omega)).mp c3⟩
          have ha3 := ha.2.2
          have hwc : D.length < 60 := by have := ha.2.1; omega
          refine v_aload_n C dX2_add_128 rfl 0 rfl ?_
          refine v_dup C rfl dX2_add_129 ?_
          refine mg2 C hH.1 dX2_add_130 ?_
          refine v_ei (show sI (pI y 7 0) 2 = sI y 2 from rfl) ?_
          refine v_ei (y := nI N) (h2) ?_
          refine v_iload_n C dX2_add_133 rfl 1 rfl ?_
          refine v_iload_n C dX2_add_134 rfl 2 rfl ?_
          refine v_isub C dX2_add_135 ?_
          refine v_ei (y := nI (dr.length - com D dr D.length)) (pk_sub hcl) ?_
          refine v_iadd C dX2_add_136 ?_
          refine v_ei (y := nI (N + dr.length - com D dr D.length)) ((nI_add _ _).trans (by rw [show N + (dr.length - com D dr D.length) = N + dr.length - com D dr D.length by omega])) ?_
          refine mp2 C hH dX2_add_137 (fun H locs hH => ?_)
          refine v_iconst C 0 (by decide) dX2_add_140 ?_
          refine v_istore_n C [1, 2, 3, 0] [(0, .ref g.1), (1, .int (nI dr.length)), (2, .int (nI (com D dr D.length))), (3, .int 0)] dX2_add_141 rfl (by decide) rfl ?_
          refine madd_copy (y0 := pI (pI y 7 0) 2 (nI (N + dr.length - com D dr D.length))) (wc := D.length) C h40 hdk hwc h3 ?_ dr.length 0 (pI (pI y 7 0) 2 (nI (N + dr.length - com D dr D.length))) H locs (by omega) (fun i _ => rfl) (fun j hj => absurd hj (Nat.not_lt_zero _)) ⟨rfl, rfl, rfl, rfl, rfl, rfl⟩ hH
          intro u H locs a1 a2 hG hH
          refine v_aload_n C dX2_add_173 rfl 0 rfl ?_
          refine mg5 C hH.1 dX2_add_174 ?_
          refine v_aload_n C dX2_add_177 rfl 0 rfl ?_
          refine mg3 C hH.1 dX2_add_178 ?_
          refine v_ei (y := nI D.length) ((mG_3 hG).trans h3) ?_
          refine v_iload_n C dX2_add_181 rfl 1 rfl ?_
          refine ms5 C (D.length) hH (rfl) (by omega) dX2_add_182 (fun H locs hH => ?_)
          refine v_aload_n C dX2_add_183 rfl 0 rfl ?_
          refine v_dup C rfl dX2_add_184 ?_
          refine mg3 C hH.1 dX2_add_185 ?_
          refine v_ei (show sI (pA u 5 D.length (nI dr.length)) 3 = sI u 3 from rfl) ?_
          refine v_ei (y := nI D.length) ((mG_3 hG).trans h3) ?_
          refine v_iconst C 1 (by decide) dX2_add_188 ?_
          refine v_iadd C dX2_add_189 ?_
          refine v_ei (y := nI (D.length + 1)) (nI_1 _) ?_
          refine mp3 C hH dX2_add_190 (fun H locs hH => ?_)
          refine v_aload_n C dX2_add_193 rfl 0 rfl ?_
          refine mg3 C hH.1 dX2_add_194 ?_
          refine v_ei (show sI (pI (pA u 5 D.length (nI dr.length)) 3 (nI (D.length + 1))) 3 = nI (D.length + 1) from rfl) ?_
          refine v_iconst C 1 (by decide) dX2_add_197 ?_
          refine v_isub C dX2_add_198 ?_
          refine v_ei (y := nI D.length) (nI_pred _) ?_
          refine v_iretW C hH ⟨fun q => absurd (hbt.symm.trans q) (by decide), fun _ q => absurd ha q, fun _ _ => ⟨rfl, ⟨hD.add ha.2.1 ha.1 h40, ⟨(mG_0 hG).trans h0, ha3, hrm⟩, (mG_1 hG).trans (h1.trans (by rw [hbt])), mG_2 hG, by simp; rfl, fun w hw => ?_⟩, ⟨(mD_I7 hG.2.1).trans rfl, Nat.zero_le _, fun k hk => absurd hk (Nat.not_lt_zero _)⟩, hG.2.2.1, hG.2.2.2.1, hG.2.2.2.2.1, hG.2.2.2.2.2⟩⟩ dX2_add_199
          rw [List.length_append, List.length_singleton] at hw
          show upd (sA u 5) D.length (nI dr.length) w = _ ∧ ∀ k, k < _ → sA u 4 (40 * w + k) = _
          by_cases e : w = D.length
          · rw [e, upd_self, getD_snoc]; exact ⟨rfl, a2⟩
          · have hwD : w < D.length := by omega
            have hl40 := (hD.at hwD).2
            rw [upd_ne e, getD_app hwD, mG_5 hG]
            exact ⟨(hb w hwD).1, fun k hk => (a1 _ (by omega)).trans ((hb w hwD).2 k hk)⟩
        · exact hno (fun q => c3 ((nI_leI (by omega) (by omega)).mpr q.2.2))
  · have hbt := bI_ne c0
    refine v_iconst C (-1) (by decide) dX2_add_7 ?_
    exact v_iretW C hH ⟨fun _ => ⟨rfl, rfl⟩, fun e => absurd (hbt.symm.trans e) (by decide), fun e => absurd (hbt.symm.trans e) (by decide)⟩ dX2_add_8
def mK (y : DS) (D : List Wd) (F : FL) (pl : Nat) : Prop := mFd y F ∧ (∀ w, w < D.length → sA y 5 w = nI (D.getD w []).length) ∧ DOK D ∧ FOK D F pl ∧ pl < 4611686018427408000
theorem mK.congr {y u : DS} {D : List Wd} {F : FL} {pl : Nat} (h0 : mT u = mT y) (h1 : mF u = mF y) (h : mK y D F pl) : mK u D F pl := ⟨h.1.congr h1, fun w hw => (congrFun (mT_A5 h0) w).trans (h.2.1 w hw), h.2.2⟩
theorem metX2_begin (l : Launch) {E : EE} {g : GG} {y : DS} {D : List Wd} {F : FL} {pl k : Nat} (h : mK y D F pl) (hk : k < F.length) : MRl l yX2_begin cX2_begin 2 (some .long) 0 E (mW E g y) [.ref g.1, .int (nI k)] (fun r => r.toInt = bg D F k) := by
  obtain ⟨hF, hl, hD, hO, hp⟩ := h
  have hw : wd F k < D.length := (hO.1 k hk).1
  have h60 := hD.1
  have h42 := hF.2.1
  have hlen := ln_ok hD hO hk
  have hpl : en F k < pl := (hO.1 k hk).2.1
  refine MRl.start (own := RX2) (by decide) rfl (Nat.le_of_ble_eq_true rfl) ?_
  intro z hz C hR hP
  show V z (0, 0) _ [] _ 0 [(0, .ref g.1), (1, .int (nI k))] []
  refine v_aload_n C dX2_begin_0 rfl 0 rfl ?_
  refine mg15 C hP dX2_begin_1 ?_
  refine v_iload_n C dX2_begin_4 rfl 1 rfl ?_
  refine ma15 C (k) hP (rfl) (by first | assumption | omega) dX2_begin_5 ?_
  refine v_el (y := lN (en F k)) ((hF.2.2 k hk).2.1) ?_
  refine v_aload_n C dX2_begin_6 rfl 0 rfl ?_
  refine mg5 C hP dX2_begin_7 ?_
  refine v_aload_n C dX2_begin_10 rfl 0 rfl ?_
  refine mg14 C hP dX2_begin_11 ?_
  refine v_iload_n C dX2_begin_14 rfl 1 rfl ?_
  refine ma14 C (k) hP (rfl) (by first | assumption | omega) dX2_begin_15 ?_
  refine v_ei (y := nI (wd F k)) ((hF.2.2 k hk).1) ?_
  refine ma5 C (wd F k) hP (rfl) (by first | assumption | omega) dX2_begin_16 ?_
  refine v_ei (y := nI (ln_ D F k)) (hl _ hw) ?_
  refine v_i2l C dX2_begin_17 ?_
  refine v_el (y := lN (ln_ D F k)) (nI_l (by omega)) ?_
  refine v_lsub C dX2_begin_18 ?_
  refine v_lconst C 1 (by decide) dX2_begin_19 ?_
  refine v_ladd C dX2_begin_20 ?_
  exact v_lretR C rfl (begin_int (by omega) hlen.2) dX2_begin_21
theorem mpick_best {z : ZZ} {E : EE} {g : GG} {y : DS} {D : List Wd} {F : FL} {pl : Nat} {Q : State → Prop} {H : Heap} {locs : List Loc} {fr : Int64} {fI : Int} (C : kC RX2 cX2_pick 7 (some .int) E z) (hR : rmOK 1 (0, 0) z) (hP : wP E (mW E g y) H) (h : mK y D F pl) (hfr : fr.toInt = fI) (kk : V z (0, 0) H locs Q 180 [(0, .ref g.1), (1, .long fr), (3, .int 1), (4, .int (enc (sc D F fI F.length)))] []) : ∀ (m k : Nat), k + m = F.length → V z (0, 0) H locs Q 24 [(0, .ref g.1), (1, .long fr), (3, .int 1), (4, .int (enc (sc D F fI k))), (5, .int (nI k))] [] := by
  have hF := h.1
  have h42 := hF.2.1
  have h60 := h.2.2.1.1
  intro m
  induction m with
  | zero =>
    intro k hk
    have hk : k = F.length := by omega
    subst hk
    refine v_iload C dX2_pick_24 4 rfl ?_
    refine v_aload_n C dX2_pick_26 rfl 0 rfl ?_
    refine mg13 C hP dX2_pick_27 ?_
    refine v_ei (y := nI F.length) (hF.1) ?_
    refine v_icmp_ge C 180 dX2_pick_30 (by decide) (fun c0 => ?_) (fun c0 => ?_)
    · exact v_sub [0, 1, 2, 3] rfl kk
    · exact absurd (Int32.le_refl _) c0
  | succ m ih =>
    intro k hk
    have hk1 : k < F.length := by omega
    have hwk : wd F k < D.length := (h.2.2.2.1.1 k hk1).1
    have hlk := ln_ok h.2.2.1 h.2.2.2.1 hk1
    have hso : ∀ o, sc D F fI k = some o → o < F.length := fun o q => by have := (sc_some k q).1; omega
    have k174 : ∀ v : Int32, v = enc (sc D F fI (k + 1)) → V z (0, 0) H locs Q 174 [(0, .ref g.1), (1, .long fr), (3, .int 1), (4, .int v), (5, .int (nI k))] [] := by
      intro v hv
      subst hv
      refine v_iinc C (k := 4) (nI (k + 1)) [1, 2, 3, 4, 0] [(0, .ref g.1), (1, .long fr), (3, .int 1), (4, .int (enc (sc D F fI (k + 1)))), (5, .int (nI (k + 1)))] dX2_pick_174 rfl (inc1 _) (by decide) rfl ?_
      refine v_goto C 24 dX2_pick_177 (by decide) ?_
      exact ih (k + 1) (by omega)
    have k158 : ∀ v : Int32, ((v = 1 ∧ sc D F fI (k + 1) = some k) ∨ (v = 0 ∧ sc D F fI (k + 1) = sc D F fI k)) → V z (0, 0) H locs Q 158 [(0, .ref g.1), (1, .long fr), (3, .int 1), (4, .int (enc (sc D F fI k))), (5, .int (nI k))] [.int v] := by
      intro v hv
      refine v_istore C [1, 2, 3, 4, 5, 0] [(0, .ref g.1), (1, .long fr), (3, .int 1), (4, .int (enc (sc D F fI k))), (5, .int (nI k)), (6, .int v)] dX2_pick_158 (by decide) rfl ?_
      refine v_iload C dX2_pick_160 5 rfl ?_
      refine v_if_eq C 170 dX2_pick_162 (by decide) (fun c0 => ?_) (fun c0 => ?_)
      · refine v_iload C dX2_pick_170 3 rfl ?_
        refine v_istore C [1, 2, 3, 0, 4, 5] [(0, .ref g.1), (1, .long fr), (3, .int 1), (4, .int (enc (sc D F fI k))), (5, .int (nI k)), (6, .int v)] dX2_pick_172 (by decide) rfl ?_
        refine v_sub [0, 1, 2, 3, 4] rfl (k174 _ ?_)
        rcases hv with ⟨hv, -⟩ | ⟨-, hv⟩
        · rw [hv] at c0; exact absurd c0 (by decide)
        · rw [hv]
      · refine v_iload C dX2_pick_165 4 rfl ?_
        refine v_goto C 172 dX2_pick_167 (by decide) ?_
        refine v_istore C [1, 2, 3, 0, 4, 5] [(0, .ref g.1), (1, .long fr), (3, .int 1), (4, .int (nI k)), (5, .int (nI k)), (6, .int v)] dX2_pick_172 (by decide) rfl ?_
        refine v_sub [0, 1, 2, 3, 4] rfl (k174 _ ?_)
        rcases hv with ⟨-, hv⟩ | ⟨hv, -⟩
        · rw [hv]; rfl
        · exact absurd hv c0
    have k153 : sc D F fI (k + 1) = some k → V z (0, 0) H locs Q 153 [(0, .ref g.1), (1, .long fr), (3, .int 1), (4, .int (enc (sc D F fI k))), (5, .int (nI k))] [] := by
      intro hv
      refine v_iconst C 1 (by decide) dX2_pick_153 ?_
      refine v_goto C 158 dX2_pick_154 (by decide) ?_
      exact k158 _ (Or.inl ⟨rfl, hv⟩)
    have k157 : sc D F fI (k + 1) = sc D F fI k → V z (0, 0) H locs Q 157 [(0, .ref g.1), (1, .long fr), (3, .int 1), (4, .int (enc (sc D F fI k))), (5, .int (nI k))] [] := by
      intro hv
      refine v_iconst C 0 (by decide) dX2_pick_157 ?_
      exact k158 _ (Or.inr ⟨rfl, hv⟩)
    refine v_iload C dX2_pick_24 4 rfl ?_
    refine v_aload_n C dX2_pick_26 rfl 0 rfl ?_
    refine mg13 C hP dX2_pick_27 ?_
    refine v_ei (y := nI F.length) (hF.1) ?_
    refine v_icmp_ge C 180 dX2_pick_30 (by decide) (fun c0 => ?_) (fun c0 => ?_)
    · exact absurd c0 (nI_ge hk1 (by omega))
    · refine v_aload_n C dX2_pick_33 rfl 0 rfl ?_
      refine v_iload C dX2_pick_34 4 rfl ?_
      refine v_callRl C (ci := 1) (vC := (RX2, TX2, 20)) (rest := []) (metX2_begin (zl z) h hk1) (lw_V q383 q385 qs15 q19 q386) DX2_begin (hR.lower (by decide)) (by decide) hP rfl rfl rfl (Nat.le_of_ble_eq_true rfl) rfl dX2_pick_36 (fun r1 hr1 => ?_)
      refine v_lload_n C dX2_pick_39 rfl 1 rfl ?_
      refine v_lcmp C dX2_pick_40 ?_
      refine v_ifl_lt C 174 dX2_pick_41 (by decide) (fun c1 => ?_) (fun c1 => ?_)
      · have c1 := lt_int.mp c1
        rw [hr1, hfr] at c1
        exact k174 _ (by rw [sc, if_neg (fun q => by have := q.1; omega)])
      · have c1 : fI ≤ bg D F k := by
          have := Int.not_lt.mp (fun q => c1 (lt_int.mpr q))
          rw [hr1, hfr] at this
          exact this
        refine v_iload C dX2_pick_44 3 rfl ?_
        refine v_iconst C (-1) (by decide) dX2_pick_46 ?_
        refine v_icmp_eq C 153 dX2_pick_47 (by decide) (fun c2 => ?_) (fun c2 => ?_)
        · refine k153 ?_
          cases hs : sc D F fI k with
          | none => rw [sc, hs, if_pos ⟨c1, rfl⟩]
          | some o => rw [hs] at c2; exact absurd c2 (nI_m1 (by have := hso o hs; omega))
        · cases hs : sc D F fI k with
          | none => rw [hs] at c2; exact absurd rfl c2
          | some o =>
            have ho := hso o hs
            have hwo : wd F o < D.length := (h.2.2.2.1.1 o ho).1
            have hlo := ln_ok h.2.2.1 h.2.2.2.1 ho
            rw [hs] at k153 k157
            have yes : bef D F k o = true → sc D F fI (k + 1) = some k := fun e => by rw [sc, hs, if_pos ⟨c1, e⟩]
            have no : ¬ bef D F k o = true → sc D F fI (k + 1) = some o := fun e => by rw [sc, hs, if_neg (fun q => e q.2)]
            show V z (0, 0) _ _ _ 50 [(0, .ref g.1), (1, .long fr), (3, .int 1), (4, .int (nI o)), (5, .int (nI k))] []
            refine v_aload_n C dX2_pick_50 rfl 0 rfl ?_
            refine v_iload C dX2_pick_51 4 rfl ?_
            refine v_callRl C (ci := 1) (vC := (RX2, TX2, 20)) (rest := []) (metX2_begin (zl z) h hk1) (lw_V q383 q385 qs15 q19 q386) DX2_begin (hR.lower (by decide)) (by decide) hP rfl rfl rfl (Nat.le_of_ble_eq_true rfl) rfl dX2_pick_53 (fun r2 hr2 => ?_)
            refine v_aload_n C dX2_pick_56 rfl 0 rfl ?_
            refine v_iload C dX2_pick_57 3 rfl ?_
            refine v_callRl C (ci := 1) (vC := (RX2, TX2, 20)) (rest := [.long r2]) (metX2_begin (zl z) h ho) (lw_V q383 q385 qs15 q19 q386) DX2_begin (hR.lower (by decide)) (by decide) hP rfl rfl rfl (Nat.le_of_ble_eq_true rfl) rfl dX2_pick_59 (fun r3 hr3 => ?_)
            refine v_lcmp C dX2_pick_62 ?_
            refine v_ifl_lt C 153 dX2_pick_63 (by decide) (fun c3 => ?_) (fun c3 => ?_)
            · have c3 := lt_int.mp c3
              rw [hr2, hr3] at c3
              exact k153 (yes (bef_iff.mpr (Or.inl c3)))
            · have c3 : ¬ bg D F k < bg D F o := fun e => c3 (lt_int.mpr (by rw [hr2, hr3]; exact e))
              refine v_aload_n C dX2_pick_66 rfl 0 rfl ?_
              refine v_iload C dX2_pick_67 4 rfl ?_
              refine v_callRl C (ci := 1) (vC := (RX2, TX2, 20)) (rest := []) (metX2_begin (zl z) h hk1) (lw_V q383 q385 qs15 q19 q386) DX2_begin (hR.lower (by decide)) (by decide) hP rfl rfl rfl (Nat.le_of_ble_eq_true rfl) rfl dX2_pick_69 (fun r4 hr4 => ?_)
              refine v_aload_n C dX2_pick_72 rfl 0 rfl ?_
              refine v_iload C dX2_pick_73 3 rfl ?_
              refine v_callRl C (ci := 1) (vC := (RX2, TX2, 20)) (rest := [.long r4]) (metX2_begin (zl z) h ho) (lw_V q383 q385 qs15 q19 q386) DX2_begin (hR.lower (by decide)) (by decide) hP rfl rfl rfl (Nat.le_of_ble_eq_true rfl) rfl dX2_pick_75 (fun r5 hr5 => ?_)
              refine v_lcmp C dX2_pick_78 ?_
              refine v_ifl_ne C 157 dX2_pick_79 (by decide) (fun c4 => ?_) (fun c4 => ?_)
              · have c4 : ¬ bg D F k = bg D F o := fun e => c4 (eq_int.mpr (by rw [hr4, hr5]; exact e))
                exact k157 (no (fun e => by rcases bef_iff.mp e with e | ⟨e, -⟩ <;> omega))
              · have c4 : bg D F k = bg D F o := by rw [← hr4, ← hr5, c4]
                refine v_aload_n C dX2_pick_82 rfl 0 rfl ?_
                refine mg5 C hP dX2_pick_83 ?_
                refine v_aload_n C dX2_pick_86 rfl 0 rfl ?_
                refine mg14 C hP dX2_pick_87 ?_
                refine v_iload C dX2_pick_90 4 rfl ?_
                refine ma14 C (k) hP (rfl) (by omega) dX2_pick_92 ?_
                refine v_ei (y := nI (wd F k)) ((hF.2.2 k hk1).1) ?_
                refine ma5 C (wd F k) hP (rfl) (by omega) dX2_pick_93 ?_
                refine v_ei (y := nI (ln_ D F k)) (h.2.1 _ hwk) ?_
                refine v_aload_n C dX2_pick_94 rfl 0 rfl ?_
                refine mg5 C hP dX2_pick_95 ?_
                refine v_aload_n C dX2_pick_98 rfl 0 rfl ?_
                refine mg14 C hP dX2_pick_99 ?_
                refine v_iload C dX2_pick_102 3 rfl ?_
                refine ma14 C (o) hP (rfl) (by omega) dX2_pick_104 ?_
                refine v_ei (y := nI (wd F o)) ((hF.2.2 o ho).1) ?_
                refine ma5 C (wd F o) hP (rfl) (by omega) dX2_pick_105 ?_
                refine v_ei (y := nI (ln_ D F o)) (h.2.1 _ hwo) ?_
                refine v_icmp_gt C 153 dX2_pick_106 (by decide) (fun c5 => ?_) (fun c5 => ?_)
                · have c5 := (nI_ltI (by omega) (by omega)).mp c5
                  exact k153 (yes (bef_iff.mpr (Or.inr ⟨c4, Or.inl c5⟩)))
                · have c5 : ¬ ln_ D F o < ln_ D F k := fun e => c5 ((nI_ltI (by omega) (by omega)).mpr e)
                  refine v_aload_n C dX2_pick_109 rfl 0 rfl ?_
                  refine mg5 C hP dX2_pick_110 ?_
                  refine v_aload_n C dX2_pick_113 rfl 0 rfl ?_
                  refine mg14 C hP dX2_pick_114 ?_
                  refine v_iload C dX2_pick_117 4 rfl ?_
                  refine ma14 C (k) hP (rfl) (by omega) dX2_pick_119 ?_
                  refine v_ei (y := nI (wd F k)) ((hF.2.2 k hk1).1) ?_
                  refine ma5 C (wd F k) hP (rfl) (by omega) dX2_pick_120 ?_
                  refine v_ei (y := nI (ln_ D F k)) (h.2.1 _ hwk) ?_
                  refine v_aload_n C dX2_pick_121 rfl 0 rfl ?_
                  refine mg5 C hP dX2_pick_122 ?_
                  refine v_aload_n C dX2_pick_125 rfl 0 rfl ?_
                  refine mg14 C hP dX2_pick_126 ?_
                  refine v_iload C dX2_pick_129 3 rfl ?_
                  refine ma14 C (o) hP (rfl) (by omega) dX2_pick_131 ?_
                  refine v_ei (y := nI (wd F o)) ((hF.2.2 o ho).1) ?_
                  refine ma5 C (wd F o) hP (rfl) (by omega) dX2_pick_132 ?_
                  refine v_ei (y := nI (ln_ D F o)) (h.2.1 _ hwo) ?_
                  refine v_icmp_ne C 157 dX2_pick_133 (by decide) (fun c6 => ?_) (fun c6 => ?_)
                  · have c6 : ¬ ln_ D F k = ln_ D F o := fun e => c6 (by rw [e])
                    exact k157 (no (fun e => by rcases bef_iff.mp e with e | ⟨-, e | ⟨e, -⟩⟩ <;> omega))
                  · have c6 : ln_ D F k = ln_ D F o := (nI_eq (by omega) (by omega)).mp c6
                    refine v_aload_n C dX2_pick_136 rfl 0 rfl ?_
                    refine mg14 C hP dX2_pick_137 ?_
                    refine v_iload C dX2_pick_140 4 rfl ?_
                    refine ma14 C (k) hP (rfl) (by omega) dX2_pick_142 ?_
                    refine v_ei (y := nI (wd F k)) ((hF.2.2 k hk1).1) ?_
                    refine v_aload_n C dX2_pick_143 rfl 0 rfl ?_
                    refine mg14 C hP dX2_pick_144 ?_
                    refine v_iload C dX2_pick_147 3 rfl ?_
                    refine ma14 C (o) hP (rfl) (by omega) dX2_pick_149 ?_
                    refine v_ei (y := nI (wd F o)) ((hF.2.2 o ho).1) ?_
                    refine v_icmp_ge C 157 dX2_pick_150 (by decide) (fun c7 => ?_) (fun c7 => ?_)
                    · have c7 := (nI_leI (by omega) (by omega)).mp c7
                      exact k157 (no (fun e => by rcases bef_iff.mp e with e | ⟨-, e | ⟨-, e⟩⟩ <;> omega))
                    · have c7 : wd F k < wd F o := Nat.lt_of_not_le (fun e => c7 ((nI_leI (by omega) (by omega)).mpr e))
                      exact k153 (yes (bef_iff.mpr (Or.inr ⟨c4, Or.inr ⟨c6, c7⟩⟩)))
def mPk1 (y : DS) (pk : List Nat) : Prop := sI y 18 = 1 ∧ sI y 17 = nI pk.length ∧ pk.length ≤ 4200 ∧ ∀ k, k < pk.length → sA y 19 k = nI (pk.getD k 0)
theorem mPk1.snoc {y u : DS} {pk : List Nat} {k : Nat} (h : mPk1 y pk) (h2 : pk.length < 4200) (e0 : sI u 18 = sI y 18) (e1 : sI u 17 = nI (pk.length + 1)) (e2 : sA u 19 = upd (sA y 19) pk.length (nI k)) : mPk1 u (pk ++ [k]) := by
  have hl : (pk ++ [k]).length = pk.length + 1 := by simp
  refine ⟨e0.trans h.1, by rw [hl]; exact e1, by omega, fun j hj => ?_⟩
  rw [hl] at hj
  by_cases e : j = pk.length
  · subst e
    rw [e2, upd_self, getD_snoc]
  · rw [e2, upd_ne e, getD_app (by omega)]
    exact h.2.2.2 j (by omega)
theorem mpick_loop {z : ZZ} {E : EE} {g : GG} {y0 : DS} {A : Nat → Prop} {D : List Wd} {F : FL} {pl : Nat} (C : kC RX2 cX2_pick 7 (some .int) E z) (hR : rmOK 1 (0, 0) z) (h : mK y0 D F pl) : ∀ (f s0 : Nat) (fI : Int) (fr : Int64) (done : List Nat) (y : DS) (H : Heap) (locs : List Loc), F.length - s0 < f → s0 ≤ F.length → (∀ j, j < s0 → bg D F j < fI) → fr.toInt = fI → done.length ≤ s0 → mT y = mT y0 → mD y = mD y0 → mX y = mX y0 → mY y = mY y0 → mF y = mF y0 → mPk1 y done → done ++ pkL D F f fI = pks D F → wH E (mW E g y) A z H locs → V z (0, 0) H locs (QWi z E (mW E g) A (fun r u => r = nI (pks D F).length ∧ mT u = mT y0 ∧ mD u = mD y0 ∧ mX u = mX y0 ∧ mY u = mY y0 ∧ mF u = mF y0 ∧ mPk u (pks D F))) 14 [(0, .ref g.1), (1, .long fr), (3, .int 1)] [] := by
  have h42 := h.1.2.1
  intro f
  induction f with
  | zero => intro s0 fI fr done y H locs hf; omega
  | succ f ih =>
    intro s0 fI fr done y H locs hf hs hb hfr hd e1 e2 e3 e4 e5 hp hall hH
    refine v_iload_n C dX2_pick_14 rfl 2 rfl ?_
    refine v_if_eq C 230 dX2_pick_15 (by decide) (fun c0 => ?_) (fun c0 => ?_)
    · exact absurd c0 (by decide)
    · refine v_iconst C (-1) (by decide) dX2_pick_18 ?_
      refine v_istore C [1, 2, 3, 0] [(0, .ref g.1), (1, .long fr), (3, .int 1), (4, .int (-1))] dX2_pick_19 (by decide) rfl ?_
      refine v_iconst C 0 (by decide) dX2_pick_21 ?_
      refine v_istore C [1, 2, 3, 4, 0] [(0, .ref g.1), (1, .long fr), (3, .int 1), (4, .int (-1)), (5, .int 0)] dX2_pick_22 (by decide) rfl ?_
      refine mpick_best C hR hH.1 (h.congr e1 e5) hfr ?_ F.length 0 (by omega)
      cases hsc : sc D F fI F.length with
      | none =>
        show V z (0, 0) _ _ _ 180 [(0, .ref g.1), (1, .long fr), (3, .int 1), (4, .int (-1))] []
        refine v_iload C dX2_pick_180 3 rfl ?_
        refine v_iconst C (-1) (by decide) dX2_pick_182 ?_
        refine v_icmp_eq C 190 dX2_pick_183 (by decide) (fun d0 => ?_) (fun d0 => ?_)
        · refine v_iconst C 0 (by decide) dX2_pick_190 ?_
          refine v_istore_n C [1, 2, 0, 3] [(0, .ref g.1), (1, .long fr), (3, .int 0), (4, .int (-1))] dX2_pick_191 rfl (by decide) rfl ?_
          refine v_iload_n C dX2_pick_192 rfl 2 rfl ?_
          refine v_if_eq C 227 dX2_pick_193 (by decide) (fun d1 => ?_) (fun d1 => ?_)
          · refine v_goto C 14 dX2_pick_227 (by decide) ?_
            refine v_iload_n C dX2_pick_14 rfl 2 rfl ?_
            refine v_if_eq C 230 dX2_pick_15 (by decide) (fun d2 => ?_) (fun d2 => ?_)
            · refine v_aload_n C dX2_pick_230 rfl 0 rfl ?_
              refine mg17 C hH.1 dX2_pick_231 ?_
              refine v_ei (y := nI done.length) (hp.2.1) ?_
              rw [pkL_none hsc, List.append_nil] at hall
              rw [hall]
              rw [hall] at hp
              exact v_iretW C hH ⟨rfl, e1, e2, e3, e4, e5, Or.inl hp⟩ dX2_pick_234
            · exact absurd rfl d2
          · exact absurd rfl d1
        · exact absurd rfl d0
      | some k =>
        obtain ⟨k1, k2⟩ := sc_some _ hsc
        have k3 : s0 ≤ k := Nat.le_of_not_lt (fun q => by have := hb k q; omega)
        have hpk : en F k < pl := (h.2.2.2.1.1 k k1).2.1
        have hpl := h.2.2.2.2
        have i1 : (lN (en F k)).toInt = (en F k : Int) := pk_lT (by omega)
        show V z (0, 0) _ _ _ 180 [(0, .ref g.1), (1, .long fr), (3, .int 1), (4, .int (nI k))] []
        refine v_iload C dX2_pick_180 3 rfl ?_
        refine v_iconst C (-1) (by decide) dX2_pick_182 ?_
        refine v_icmp_eq C 190 dX2_pick_183 (by decide) (fun d0 => ?_) (fun d0 => ?_)
        · exact absurd d0 (nI_m1 (by omega))
        · refine v_iconst C 1 (by decide) dX2_pick_186 ?_
          refine v_goto C 191 dX2_pick_187 (by decide) ?_
          refine v_istore_n C [1, 2, 0, 3] [(0, .ref g.1), (1, .long fr), (3, .int 1), (4, .int (nI k))] dX2_pick_191 rfl (by decide) rfl ?_
          refine v_iload_n C dX2_pick_192 rfl 2 rfl ?_
          refine v_if_eq C 227 dX2_pick_193 (by decide) (fun d1 => ?_) (fun d1 => ?_)
          · exact absurd d1 (by decide)
          · refine v_aload_n C dX2_pick_196 rfl 0 rfl ?_
            refine mg19 C hH.1 dX2_pick_197 ?_
            refine v_aload_n C dX2_pick_200 rfl 0 rfl ?_
            refine mg17 C hH.1 dX2_pick_201 ?_
            refine v_ei (y := nI done.length) (hp.2.1) ?_
            refine v_iload C dX2_pick_204 3 rfl ?_
            refine ms19 C (done.length) hH (rfl) (by omega) dX2_pick_206 (fun H locs hH => ?_)
            refine v_aload_n C dX2_pick_207 rfl 0 rfl ?_
            refine v_dup C rfl dX2_pick_208 ?_
            refine mg17 C hH.1 dX2_pick_209 ?_
            refine v_ei (show sI (pA y 19 done.length (nI k)) 17 = sI y 17 from rfl) ?_
            refine v_ei (y := nI done.length) (hp.2.1) ?_
            refine v_iconst C 1 (by decide) dX2_pick_212 ?_
            refine v_iadd C dX2_pick_213 ?_
            refine v_ei (y := nI (done.length + 1)) (nI_1 _) ?_
            refine mp17 C hH dX2_pick_214 (fun H locs hH => ?_)
            refine v_aload_n C dX2_pick_217 rfl 0 rfl ?_
            refine mg15 C hH.1 dX2_pick_218 ?_
            refine v_iload C dX2_pick_221 3 rfl ?_
            refine ma15 C (k) hH.1 (rfl) (by omega) dX2_pick_223 ?_
            refine v_el (show sF (pI (pA y 19 done.length (nI k)) 17 (nI (done.length + 1))) k = sF y k from rfl) ?_
            refine v_el (y := lN (en F k)) ((congrFun (mF_F15 e5) k).trans (h.1.2.2 k k1).2.1) ?_
            refine v_lconst C 1 (by decide) dX2_pick_224 ?_
            refine v_ladd C dX2_pick_225 ?_
            refine v_lstore_n C [1, 0, 2, 3] [(0, .ref g.1), (1, .long ((lN (en F k)) + 1)), (3, .int 1), (4, .int (nI k))] dX2_pick_226 rfl (by decide) rfl ?_
            refine v_goto C 14 dX2_pick_227 (by decide) ?_
            refine v_sub [0, 1, 2] rfl ?_
            rw [pkL_some hsc] at hall
            exact ih (k + 1) ((en F k : Int) + 1) _ (done ++ [k]) (pI (pA y 19 done.length (nI k)) 17 (nI (done.length + 1))) H locs (by omega) (by omega) (fun j hj => bg_le h.2.2.1 h.2.2.2.1 (by omega) k1) (by rw [ladd_int (by rw [i1, one_int]; omega) (by rw [i1, one_int]; omega), i1, one_int]) (by simp; omega) e1 e2 e3 e4 e5 (hp.snoc (by omega) rfl rfl rfl) (by rw [← hall]; simp) hH
theorem metX2_pick (l : Launch) {E : EE} {g : GG} {y : DS} {D : List Wd} {F : FL} {pl : Nat} (h : mK y D F pl) : MWi l yX2_pick cX2_pick 7 (some .int) 1 E (mW E g) y [.ref g.1] (fun r u => r = nI (pks D F).length ∧ mT u = mT y ∧ mD u = mD y ∧ mX u = mX y ∧ mY u = mY y ∧ mF u = mF y ∧ mPk u (pks D F)) := by
  refine MWi.start (own := RX2) (by decide) rfl (Nat.le_of_ble_eq_true rfl) ?_
  intro z A hz C hR hH
  show V z (0, 0) _ [] _ 0 [(0, .ref g.1)] []
  refine v_aload_n C dX2_pick_0 rfl 0 rfl ?_
  refine v_iconst C 0 (by decide) dX2_pick_1 ?_
  refine mp17 C hH dX2_pick_2 (fun H locs hH => ?_)
  refine v_aload_n C dX2_pick_5 rfl 0 rfl ?_
  refine v_iconst C 1 (by decide) dX2_pick_6 ?_
  refine mp18 C hH (by decide) dX2_pick_7 (fun H locs hH => ?_)
  refine v_lconst C 0 (by decide) dX2_pick_10 ?_
  refine v_lstore_n C [1, 0] [(0, .ref g.1), (1, .long 0)] dX2_pick_11 rfl (by decide) rfl ?_
  refine v_iconst C 1 (by decide) dX2_pick_12 ?_
  refine v_istore_n C [1, 2, 0] [(0, .ref g.1), (1, .long 0), (3, .int 1)] dX2_pick_13 rfl (by decide) rfl ?_
  exact mpick_loop C hR h (F.length + 1) 0 0 0 [] (pI (pI y 17 0) 18 1) H locs (by omega) (Nat.zero_le _) (fun j hj => absurd hj (Nat.not_lt_zero _)) (by decide) (Nat.zero_le _) rfl rfl rfl rfl rfl ⟨rfl, rfl, Nat.zero_le _, fun k hk => absurd hk (Nat.not_lt_zero _)⟩ rfl hH
end
section
/-! Constructors -/
def rmI (mc ms : Nat) : Room := { frames := 1, cells := mc, slots := ms, locals := 40 }
section VI
variable {z : ZZ} {cs : Nat × Nat} {H : Heap} {locs : List Loc} {Q : State → Prop} {pc : Nat} {lv : List (Nat × Value)} {st : List Value} {own : String} {cc : ByteArray} {nL : Nat} {ret : Option FieldType} {E : EE} {A : Nat → Prop}
theorem v_cs {cs' : Nat × Nat} (h : cs = cs') (kk : V z cs' H locs Q pc lv st) : V z cs H locs Q pc lv st := h ▸ kk
theorem v_obj (C : kC own cc nL ret E z) {index a : Nat} (hq : Cond.methodLink own index Lib.objectInit ∈ lw_all) (hR : rmOK 1 cs z) (hst : (st.map fun v => v.category).sum ≤ 8) (hdg : decode cc pc = .ok (.invokespecial index, 3)) (kk : V z cs H locs Q (pc + 3) lv st) : V z cs H locs Q pc lv (.ref a :: st) := fun ls hl => W.objInit C.1.1 C.1.2.1 C.1.2.2.2.1 (C.1.2.2.2.2 _ hq) (C.1.2.2.2.2 _ q26) (C.1.2.2.2.2 _ q27) rfl hl.1 rfl hdg hR.1 (by have := hR.2.1; show 2 * 0 + _ + 12 ≤ _; omega) (kk ls hl)
theorem v_mmin (C : kC own cc nL ret E z) {index : Nat} {x y : Int32} (hq : Cond.methodLink own index Lib.Math.min.name ∈ lw_all) (hR : rmOK 1 cs z) (hst : (st.map fun v => v.category).sum ≤ 8) (hdg : decode cc pc = .ok (.invokestatic index, 3)) (kk : V z cs H locs Q (pc + 3) lv (.int (if y < x then y else x) :: st)) : V z cs H locs Q pc lv (.int y :: .int x :: st) := fun ls hl => va_mmin C.1.1 C.1.2.1 hl.1.symm C.1.2.2.2.1 (C.1.2.2.2.2 _ hq) (C.1.2.2.2.2 _ q29) (C.1.2.2.2.2 _ q18) (C.1.2.2.2.2 _ q30) hR.1 (by have := hR.2.1; omega) hR.2.2.1 hR.2.2.2 hdg (kk ls hl)
theorem v_mmax (C : kC own cc nL ret E z) {index : Nat} {x y : Int32} (hq : Cond.methodLink own index Lib.Math.max.name ∈ lw_all) (hR : rmOK 1 cs z) (hst : (st.map fun v => v.category).sum ≤ 8) (hdg : decode cc pc = .ok (.invokestatic index, 3)) (kk : V z cs H locs Q (pc + 3) lv (.int (if x < y then y else x) :: st)) : V z cs H locs Q pc lv (.int y :: .int x :: st) := fun ls hl => va_mmax C.1.1 C.1.2.1 hl.1.symm C.1.2.2.2.1 (C.1.2.2.2.2 _ hq) (C.1.2.2.2.2 _ q32) (C.1.2.2.2.2 _ q18) (C.1.2.2.2.2 _ q33) hR.1 (by have := hR.2.1; omega) hR.2.2.1 hR.2.2.2 hdg (kk ls hl)
theorem ra_one {U : State} {c d : ClassId} {ty : FieldType} (hty : ty = .int ∨ ty = .long) (h1 : va_RA U c ty) (h2 : va_RA U d ty) : c = d := by
  rcases hty with rfl | rfl
  · have h1 : U.vm.findClass ("[" ++ FieldType.int.toString) = some c := h1
    have h2 : U.vm.findClass ("[" ++ FieldType.int.toString) = some d := h2
    rw [h1] at h2
    exact Option.some.inj h2
  · have h1 : U.vm.findClass ("[" ++ FieldType.long.toString) = some c := h1
    have h2 : U.vm.findClass ("[" ++ FieldType.long.toString) = some d := h2
    rw [h1] at h2
    exact Option.some.inj h2
theorem v_newi (C : kC own cc nL ret E z) {w : va_W} {n : Int32} (N : Nat) (cs' : Nat × Nat) (hH : wH E w A z H locs) (hn : n = nI N) (hN : N ≤ 100000) (hcs : (cs.1 + 1, cs.2 + N) = cs') (hr : cs'.1 ≤ (zR z).cells ∧ cs'.2 ≤ (zR z).slots) (hdg : decode cc pc = .ok (.newarray .int, 2)) (kk : ∀ (q : Nat) (H1 : Heap), wH E (w ++ [(q, .inl (E.1, N, .inl (fun _ => 0)))]) A z H1 locs → V z cs' H1 locs Q (pc + 2) lv (.ref q :: st)) : V z cs H locs Q pc lv (.int n :: st) := by
  subst hn
  subst hcs
  intro ls hl
  refine va_newa (atype := .int) (ty := .int) (N' := N) (a0 := (N, .inl (fun _ => 0))) C.1.1 C.1.2.1 (C.1.2.2.2.2 _ q126) rfl C.2.1 hH.1 hH.2.1 hH.2.2.1 hH.2.2.2 (fun _ => rfl) (nI_pos (by omega)) (nI_clamp (by omega)) (by simp [componentBytes]; omega) hr.1 hr.2 hdg (fun q cA H1 hK h1 h2 h3 => ?_)
  have e : cA = E.1 := ra_one (by simp) (hK.2 2 (cA, .int) rfl).2 (C.2.1.2 0 _ rfl).2
  subst e
  exact kk q H1 ⟨h1, h2, h3, hH.2.2.2⟩ ls hl
theorem v_newl (C : kC own cc nL ret E z) {w : va_W} {n : Int32} (N : Nat) (cs' : Nat × Nat) (hH : wH E w A z H locs) (hn : n = nI N) (hN : N ≤ 100000) (hcs : (cs.1 + 1, cs.2 + N) = cs') (hr : cs'.1 ≤ (zR z).cells ∧ cs'.2 ≤ (zR z).slots) (hdg : decode cc pc = .ok (.newarray .long, 2)) (kk : ∀ (q : Nat) (H1 : Heap), wH E (w ++ [(q, .inl (E.2.1, N, .inr (.inl (fun _ => 0))))]) A z H1 locs → V z cs' H1 locs Q (pc + 2) lv (.ref q :: st)) : V z cs H locs Q pc lv (.int n :: st) := by
  subst hn
  subst hcs
  intro ls hl
  refine va_newa (atype := .long) (ty := .long) (N' := N) (a0 := (N, .inr (.inl (fun _ => 0)))) C.1.1 C.1.2.1 (C.1.2.2.2.2 _ q127) rfl C.2.1 hH.1 hH.2.1 hH.2.2.1 hH.2.2.2 (fun _ => rfl) (nI_pos (by omega)) (nI_clamp (by omega)) (by simp [componentBytes]; omega) hr.1 hr.2 hdg (fun q cA H1 hK h1 h2 h3 => ?_)
  have e : cA = E.2.1 := ra_one (by simp) (hK.2 2 (cA, .long) rfl).2 (C.2.1.2 1 _ rfl).2
  subst e
  exact kk q H1 ⟨h1, h2, h3, hH.2.2.2⟩ ls hl
theorem kputF (C : kC RX1 cc nL ret E z) (hnm : (zM z).name = "<init>") {w : va_W} (w' : va_W) {h : Nat} {fs : List Value} {v : Value} (k : Nat) {index : Nat} {ty : FieldType} (hq : Cond.fieldLink RX1 index "ScanDesk" (TX1 k).2.1 (TX1 k).2.2.1 ∈ lw_all) (hk : k < 29) (hf : (TX1 k).2.2.2 = true) (hd : (TX1 k).1 = RX1) (hty : parseFieldDescriptor (TX1 k).2.2.1 = some ty) (hn : narrow ty v = v) (hfit : fits ty v = true) (hl : k < fs.length) (hH : wH E w A z H locs) (he : w[0]? = some (h, .inr (0, fs))) (hw : w.set 0 (h, .inr (0, fs.set k v)) = w') (hdg : decode cc pc = .ok (.putfield index, 3)) (kk : ∀ (H1 : Heap) (locs1 : List Loc), wH E w' A z H1 locs1 → V z cs H1 locs1 Q (pc + 3) lv st) : V z cs H locs Q pc lv (v :: .ref h :: st) := by
  subst hw
  exact fun ls hls => va_putF (D := E.2.2) (ci := 0) (v := v) (ty := ty) (C := RX1) (T := TX1) (N := 29) C.1.1 C.1.2.1 C.1.2.2.2.2 in_X1 tyX1 tyX1_ok nmX1 C.1.2.2.2.1 C.2.1 hH.1 hH.2.1 hH.2.2.1 0 he rfl k hk (C.1.2.2.2.2 _ hq) (fun _ h9 => by rw [hd] at h9; exact h9) hf hnm hd hty hn hfit hl hdg (fun H1 locs1 h1 h2 h3 => kk H1 locs1 ⟨h1, h2, h3, hH.2.2.2⟩ ls hls)
theorem kputN (C : kC RX1 cc nL ret E z) {w : va_W} (w' : va_W) {h : Nat} {fs : List Value} {v : Value} (k : Nat) {index : Nat} {ty : FieldType} (hq : Cond.fieldLink RX1 index "ScanDesk" (TX1 k).2.1 (TX1 k).2.2.1 ∈ lw_all) (hk : k < 29) (hf : (TX1 k).2.2.2 = false) (hd : (TX1 k).1 = RX1) (hty : parseFieldDescriptor (TX1 k).2.2.1 = some ty) (hn : narrow ty v = v) (hfit : fits ty v = true) (hl : k < fs.length) (hH : wH E w A z H locs) (he : w[0]? = some (h, .inr (0, fs))) (hw : w.set 0 (h, .inr (0, fs.set k v)) = w') (hdg : decode cc pc = .ok (.putfield index, 3)) (kk : ∀ (H1 : Heap) (locs1 : List Loc), wH E w' A z H1 locs1 → V z cs H1 locs1 Q (pc + 3) lv st) : V z cs H locs Q pc lv (v :: .ref h :: st) := by
  subst hw
  exact fun ls hls => va_put (D := E.2.2) (ci := 0) (v := v) (ty := ty) (C := RX1) (T := TX1) (N := 29) C.1.1 C.1.2.1 C.1.2.2.2.2 in_X1 tyX1 tyX1_ok nmX1 C.1.2.2.2.1 C.2.1 hH.1 hH.2.1 hH.2.2.1 0 he rfl k hk (C.1.2.2.2.2 _ hq) (fun _ h9 => by rw [hd] at h9; exact h9) hf hty hn hfit hl hdg (fun H1 locs1 h1 h2 h3 => kk H1 locs1 ⟨h1, h2, h3, hH.2.2.2⟩ ls hls)
theorem mputF (C : kC RX2 cc nL ret E z) (hnm : (zM z).name = "<init>") {w : va_W} (w' : va_W) {h : Nat} {fs : List Value} {v : Value} (k : Nat) {index : Nat} {ty : FieldType} (hq : Cond.fieldLink RX2 index "ScanDeskModel" (TX2 k).2.1 (TX2 k).2.2.1 ∈ lw_all) (hk : k < 20) (hf : (TX2 k).2.2.2 = true) (hd : (TX2 k).1 = RX2) (hty : parseFieldDescriptor (TX2 k).2.2.1 = some ty) (hn : narrow ty v = v) (hfit : fits ty v = true) (hl : k < fs.length) (hH : wH E w A z H locs) (he : w[0]? = some (h, .inr (1, fs))) (hw : w.set 0 (h, .inr (1, fs.set k v)) = w') (hdg : decode cc pc = .ok (.putfield index, 3)) (kk : ∀ (H1 : Heap) (locs1 : List Loc), wH E w' A z H1 locs1 → V z cs H1 locs1 Q (pc + 3) lv st) : V z cs H locs Q pc lv (v :: .ref h :: st) := by
  subst hw
  exact fun ls hls => va_putF (D := E.2.2) (ci := 1) (v := v) (ty := ty) (C := RX2) (T := TX2) (N := 20) C.1.1 C.1.2.1 C.1.2.2.2.2 in_X2 tyX2 tyX2_ok nmX2 C.1.2.2.2.1 C.2.1 hH.1 hH.2.1 hH.2.2.1 0 he rfl k hk (C.1.2.2.2.2 _ hq) (fun _ h9 => by rw [hd] at h9; exact h9) hf hnm hd hty hn hfit hl hdg (fun H1 locs1 h1 h2 h3 => kk H1 locs1 ⟨h1, h2, h3, hH.2.2.2⟩ ls hls)
theorem mputN (C : kC RX2 cc nL ret E z) {w : va_W} (w' : va_W) {h : Nat} {fs : List Value} {v : Value} (k : Nat) {index : Nat} {ty : FieldType} (hq : Cond.fieldLink RX2 index "ScanDeskModel" (TX2 k).2.1 (TX2 k).2.2.1 ∈ lw_all) (hk : k < 20) (hf : (TX2 k).2.2.2 = false) (hd : (TX2 k).1 = RX2) (hty : parseFieldDescriptor (TX2 k).2.2.1 = some ty) (hn : narrow ty v = v) (hfit : fits ty v = true) (hl : k < fs.length) (hH : wH E w A z H locs) (he : w[0]? = some (h, .inr (1, fs))) (hw : w.set 0 (h, .inr (1, fs.set k v)) = w') (hdg : decode cc pc = .ok (.putfield index, 3)) (kk : ∀ (H1 : Heap) (locs1 : List Loc), wH E w' A z H1 locs1 → V z cs H1 locs1 Q (pc + 3) lv st) : V z cs H locs Q pc lv (v :: .ref h :: st) := by
  subst hw
  exact fun ls hls => va_put (D := E.2.2) (ci := 1) (v := v) (ty := ty) (C := RX2) (T := TX2) (N := 20) C.1.1 C.1.2.1 C.1.2.2.2.2 in_X2 tyX2 tyX2_ok nmX2 C.1.2.2.2.1 C.2.1 hH.1 hH.2.1 hH.2.2.1 0 he rfl k hk (C.1.2.2.2.2 _ hq) (fun _ h9 => by rw [hd] at h9; exact h9) hf hty hn hfit hl hdg (fun H1 locs1 h1 h2 h3 => kk H1 locs1 ⟨h1, h2, h3, hH.2.2.2⟩ ls hls)
end VI
theorem MI.start {l : Launch} {y : MethodName} {own : String} {cc : ByteArray} {nL mc ms : Nat} {E : EE} {w0 : va_W} {vs : List Value} {S : Type} {post : S → Prop} {wf : S → va_W} (hy : plainName y.cls = true) (ho : y.cls = own) (hin : y.name = "<init>") (hlen : (lg_sl vs).length ≤ nL)
    (body : ∀ (z : ZZ) (A : Nat → Prop), zl z = l → zR z = rmI mc ms → kC own cc nL none E z → (zM z).name = "<init>" → wH E w0 A z (zs z).heap [] → V z (0, 0) (zs z).heap [] (MQ (zb z) (va_Qv post (fun u t => va_P E.2.2 vwCl (wf u) t.heap ∧ va_K E.2.2 vwCl (tys2 E) t ∧ va_D A (wf u)) A) (za z) (zs z) mc ms A) 0 (lv_args 0 vs) []) :
    ∀ sz : Nat, Met l y (ws_ y cc nL none) (rmI mc ms) (va_Pc vs (mP E w0 sz)) (va_Qv post (fun u t => va_P E.2.2 vwCl (wf u) t.heap ∧ va_K E.2.2 vwCl (tys2 E) t ∧ va_D (va_A w0 sz) (wf u)) (va_A w0 sz)) mc ms (va_A w0 sz) := by
  intro sz
  refine Met.ofW (cc := cc) (maxL := nL) (ret := none) hy rfl ?_
  intro p e s m args below meth c s₁ B hml hv
  obtain ⟨rfl, hsz, hP, hK, hD0⟩ := hv
  subst hsz
  have hts := atoms_spec (ws := ws_ y cc nL none) B.pre
  have hts : ∀ w ∈ lw_all, w.before _ s = true := fun w h => hts w (List.mem_cons_of_mem _ h)
  have hown : s.vm.findClass own = some m.cls := by rw [← ho]; exact findClass_of_methodNamed B.named
  have hnm : meth.name = "<init>" := (name_of_methodNamed B.named B.method).1.trans hin
  have hl := lv_entry vs (n := nL) hlen
  rw [lg_entry_eq]
  have K := body (p, l, e, rmI mc ms, s, m, vs.toArray, below, meth, c) (va_A w0 s.heap.size) rfl rfl ⟨⟨B.exec, B.bytes, hml, hown, hts⟩, hK, B.returns, B.notSynchronized⟩ hnm ⟨hP, hD0.self, va_S.rf, fun q h => Or.inr h⟩
  exact K _ (by show lv_has _ c.maxLocals _; rw [hml]; exact hl)
/-- a constructor's end -/
theorem v_vretI {z : ZZ} {H : Heap} {locs : List Loc} {pc mc ms : Nat} {lv : List (Nat × Value)} {own : String} {cc : ByteArray} {nL : Nat} {E : EE} {A : Nat → Prop} {S : Type} {post : S → Prop} {wf : S → va_W} (u : S) (C : kC own cc nL none E z) (hH : wH E (wf u) A z H locs) (hp : post u) (hdg : decode cc pc = .ok (.return_, 1)) : V z (mc, ms) H locs (MQ (zb z) (va_Qv post (fun u t => va_P E.2.2 vwCl (wf u) t.heap ∧ va_K E.2.2 vwCl (tys2 E) t ∧ va_D A (wf u)) A) (za z) (zs z) mc ms A) pc lv [] := fun ls hl => W.vret C.1.1 C.1.2.1 C.2.2.1 (fun t ht hW => ⟨⟨u, rfl, hp, by rw [ht]; exact hH.1, va_K.moved hW.alike C.2.1, hH.2.1⟩, hH.2.2.1.F ht⟩) hH.2.2.1.2.2 hdg C.2.2.2
def rmN (r : Int32) : Nat := if r < 1 then 1 else if 2000 < r then 2000 else r.toNatClampNeg
theorem rmN_spec (r : Int32) : (1 ≤ rmN r ∧ rmN r ≤ 2000) ∧ (r < 1 → rmN r = 1) ∧ (¬ r < 1 → 2000 < r → rmN r = 2000) ∧ (¬ r < 1 → ¬ 2000 < r → nI (rmN r) = r) := by
  unfold rmN
  by_cases h1 : r < 1
  · rw [if_pos h1]
    exact ⟨by omega, fun _ => rfl, fun h => absurd h1 h, fun h => absurd h1 h⟩
  · rw [if_neg h1]
    by_cases h2 : 2000 < r
    · rw [if_pos h2]
      exact ⟨by omega, fun h => absurd h h1, fun _ _ => rfl, fun _ h => absurd h2 h⟩
    · rw [if_neg h2]
      have h3 : ¬ r < 0 := fun h => h1 (Int32.lt_trans h (by decide))
      obtain ⟨j, hj, rfl⟩ := nI_of2 (x := r) (M := 2000) (n := 2000) (by decide) h3 (Int32.not_lt.mp h2)
      rw [nI_clamp (by omega)]
      have h4 : 1 ≤ j := Nat.pos_of_ne_zero (fun e => h1 (by rw [e]; decide))
      exact ⟨⟨h4, hj⟩, fun h => absurd h h1, fun _ h => absurd h h2, fun _ _ => rfl⟩
theorem rmN_k (r : Int32) : (if (1 : Int32) < (if r < 2000 then r else 2000) then (if r < 2000 then r else 2000) else 1) = nI (rmN r) := by
  obtain ⟨-, a1, a2, a3⟩ := rmN_spec r
  by_cases h1 : r < 1
  · rw [if_pos (show r < 2000 from Int32.lt_trans h1 (by decide)), if_neg (fun h => Int32.lt_irrefl (Int32.lt_trans h h1)), a1 h1]; rfl
  · by_cases h2 : 2000 < r
    · rw [if_neg (fun h => Int32.lt_irrefl (Int32.lt_trans h h2)), if_pos (by decide), a2 h1 h2]; rfl
    · by_cases h3 : r < 2000
      · rw [if_pos h3]
        by_cases h4 : (1 : Int32) < r
        · rw [if_pos h4, a3 h1 h2]
        · rw [if_neg h4, a3 h1 h2]
          exact Int32.le_antisymm (Int32.not_lt.mp h1) (Int32.not_lt.mp h4)
      · rw [if_neg h3, if_pos (by decide), a3 h1 h2]
        exact Int32.le_antisymm (Int32.not_lt.mp h3) (Int32.not_lt.mp h2)
theorem t0_ok {D : List Wd} : TOK D ([], 0, 0, 1, []) := ⟨rfl, FOK.nil, Nat.le_refl _⟩
theorem DOK_nil : DOK [] := ⟨Nat.zero_le _, fun w h => absurd h List.not_mem_nil⟩
/-- what a new desk is -/
def kNew (x : DS) (r : Int32) : Prop := kDict x [] false 1 (rmN r) (fun _ => []) (fun _ => []) ∧ kDr x [] ∧ kTS x 1 (fun _ => []) ([], 0, 0, 1, []) ∧ kPk x []
theorem kNew_mk {x : DS} {r : Int32} (a0 : sI x 0 = nI (rmN r)) (a9 : sI x 9 = 1) (a10 : sI x 10 = 0) (a14 : sI x 14 = 0) (a16 : sI x 16 = 0) (a17 : sI x 17 = 0) (a20 : sI x 20 = 1) (a21 : sI x 21 = 0) (a23 : sI x 23 = 0) (a26 : sI x 26 = 0) (a28 : sI x 28 = 0) (c13 : ∀ w, sA x 13 w = 0) (b18 : sL x 18 = 0) (b19 : sL x 19 = 0) (c2 : sA x 2 0 = -1) (c3 : sA x 3 0 = -1) (c4 : sA x 4 0 = 0) (c5 : sA x 5 0 = -1) (c1 : sA x 1 0 = -1) (d1 : sI x 9 = nI 1) (d2 : sI x 20 = nI 1) : kNew x r := by
  have hrm := (rmN_spec r).1
  have hS : ∀ s : Wd, PreS_ [] s ↔ ∃ n, n < 1 ∧ (fun _ : Nat => ([] : Wd)) n = s := by
    intro s
    constructor
    · intro q
      rcases isPre_iff.mp q with e | ⟨w, hw, -⟩
      · exact ⟨0, Nat.zero_lt_one, e.symm⟩
      · exact absurd hw List.not_mem_nil
    · rintro ⟨n, -, e⟩
      rw [← e]; rfl
  have h0 : ∀ n : Nat, n < 1 → n = 0 := fun n hn => by omega
  have hT : Trie x 1 (fun _ => []) (fun _ => []) (PreS_ []) := by
    refine ⟨⟨Nat.le_refl _, by decide⟩, rfl, ?_, ?_, ?_, ?_, ?_, ?_, hS⟩
    · intro i j hi hj _; rw [h0 i hi, h0 j hj]
    · intro n hn; rw [h0 n hn]; exact c2
    · intro n _; exact List.nodup_nil
    · intro n c hn
      constructor
      · intro q; exact absurd q List.not_mem_nil
      · rintro ⟨-, b, hb⟩; cases hb
    · intro c b s hc e; cases e
    · intro n hn; rw [h0 n hn]; exact c4
  refine ⟨⟨hT, ⟨?_, fun w hw => absurd hw (Nat.not_lt_zero _)⟩, DOK_nil, ⟨a0, hrm.1, hrm.2⟩, d1, a10, a14, fun e => absurd e (by decide)⟩, ⟨a16, Nat.zero_le _, fun k hk => absurd hk (Nat.not_lt_zero _)⟩, ⟨⟨⟨0, Nat.zero_lt_one, rfl, a17⟩, b18, b19, d2⟩, ⟨a26, Nat.zero_le _, fun k hk => absurd hk (Nat.not_lt_zero _), fun w _ => c13 w, a23, fun k hk => absurd hk (Nat.not_lt_zero _), a21⟩⟩, ⟨a28, Nat.zero_le _, fun k hk => absurd hk (Nat.not_lt_zero _)⟩⟩
  intro n hn
  rw [h0 n hn]
  exact c5
abbrev kW0 (h : Nat) : va_W := [(h, .inr (0, [.int 0, .null, .null, .null, .null, .null, .null, .null, .null, .int 0, .int 0, .null, .null, .null, .int 0, .null, .int 0, .int 0, .long 0, .long 0, .int 0, .int 0, .null, .int 0, .null, .null, .int 0, .null, .int 0]))]
theorem metX1_init (l : Launch) {E : EE} (h : Nat) (r : Int32) : ∀ sz : Nat, Met l yX1_init (ws_ yX1_init cX1_init 2 none) (rmI 16 33024) (va_Pc [.ref h, .int r] (mP E (kW0 h) sz)) (va_Qv (fun u : DS × GG => u.2.1 = h ∧ kNew u.1 r) (fun u t => va_P E.2.2 vwCl (kW E u.2 u.1) t.heap ∧ va_K E.2.2 vwCl (tys2 E) t ∧ va_D (va_A (kW0 h) sz) (kW E u.2 u.1)) (va_A (kW0 h) sz)) 16 33024 (va_A (kW0 h) sz) := by
  refine MI.start (own := RX1) (wf := fun u : DS × GG => kW E u.2 u.1) (by decide) rfl rfl (Nat.le_of_ble_eq_true rfl) ?_
  intro z A hzl hz C hnm hH
  have hRm : ∀ a b : Nat, a ≤ 16 → b ≤ 33024 → rmOK 1 (a, b) z := fun a b h1 h2 => by unfold rmOK; rw [hz]; exact ⟨Nat.le_refl _, Nat.le_refl _, h1, h2⟩
  show V z (0, 0) _ [] _ 0 [(0, .ref h), (1, .int r)] []
  refine v_aload_n C dX1_init_0 rfl 0 rfl ?_
  refine v_obj C q25 (hRm _ _ (by decide) (by decide)) (Nat.le_of_ble_eq_true rfl) dX1_init_1 ?_
  refine v_aload_n C dX1_init_4 rfl 0 rfl ?_
  refine v_sipush C 2000 (by decide) dX1_init_5 ?_
  refine v_newi C 2000 (1, 2000) hH rfl (by decide) rfl ⟨by rw [hz]; decide, by rw [hz]; decide⟩ dX1_init_8 (fun q1_ H hH => ?_)
  have hH : wH E [(h, .inr (0, [.int 0, .null, .null, .null, .null, .null, .null, .null, .null, .int 0, .int 0, .null, .null, .null, .int 0, .null, .int 0, .int 0, .long 0, .long 0, .int 0, .int 0, .null, .int 0, .null, .null, .int 0, .null, .int 0])), (q1_, .inl (E.1, 2000, .inl (fun _ => 0)))] A z H _ := hH
  refine kputF C (ty := .array .int) hnm [(h, .inr (0, [.int 0, .ref q1_, .null, .null, .null, .null, .null, .null, .null, .int 0, .int 0, .null, .null, .null, .int 0, .null, .int 0, .int 0, .long 0, .long 0, .int 0, .int 0, .null, .int 0, .null, .null, .int 0, .null, .int 0])), (q1_, .inl (E.1, 2000, .inl (fun _ => 0)))] 1 q39 (by decide) rfl rfl (by decide +kernel) rfl rfl (Nat.le_of_ble_eq_true rfl) hH rfl rfl dX1_init_10 (fun H locs hH => ?_)
  refine v_aload_n C dX1_init_13 rfl 0 rfl ?_
  refine v_sipush C 2000 (by decide) dX1_init_14 ?_
  refine v_newi C 2000 (2, 4000) hH rfl (by decide) rfl ⟨by rw [hz]; decide, by rw [hz]; decide⟩ dX1_init_17 (fun q2_ H hH => ?_)
  have hH : wH E [(h, .inr (0, [.int 0, .ref q1_, .null, .null, .null, .null, .null, .null, .null, .int 0, .int 0, .null, .null, .null, .int 0, .null, .int 0, .int 0, .long 0, .long 0, .int 0, .int 0, .null, .int 0, .null, .null, .int 0, .null, .int 0])), (q1_, .inl (E.1, 2000, .inl (fun _ => 0))), (q2_, .inl (E.1, 2000, .inl (fun _ => 0)))] A z H _ := hH
  refine kputF C (ty := .array .int) hnm [(h, .inr (0, [.int 0, .ref q1_, .ref q2_, .null, .null, .null, .null, .null, .null, .int 0, .int 0, .null, .null, .null, .int 0, .null, .int 0, .int 0, .long 0, .long 0, .int 0, .int 0, .null, .int 0, .null, .null, .int 0, .null, .int 0])), (q1_, .inl (E.1, 2000, .inl (fun _ => 0))), (q2_, .inl (E.1, 2000, .inl (fun _ => 0)))] 2 q40 (by decide) rfl rfl (by decide +kernel) rfl rfl (Nat.le_of_ble_eq_true rfl) hH rfl rfl dX1_init_19 (fun H locs hH => ?_)
  refine v_aload_n C dX1_init_22 rfl 0 rfl ?_
  refine v_sipush C 2000 (by decide) dX1_init_23 ?_
  refine v_newi C 2000 (3, 6000) hH rfl (by decide) rfl ⟨by rw [hz]; decide, by rw [hz]; decide⟩ dX1_init_26 (fun q3_ H hH => ?_)
  have hH : wH E [(h, .inr (0, [.int 0, .ref q1_, .ref q2_, .null, .null, .null, .null, .null, .null, .int 0, .int 0, .null, .null, .null, .int 0, .null, .int 0, .int 0, .long 0, .long 0, .int 0, .int 0, .null, .int 0, .null, .null, .int 0, .null, .int 0])), (q1_, .inl (E.1, 2000, .inl (fun _ => 0))), (q2_, .inl (E.1, 2000, .inl (fun _ => 0))), (q3_, .inl (E.1, 2000, .inl (fun _ => 0)))] A z H _ := hH
  refine kputF C (ty := .array .int) hnm [(h, .inr (0, [.int 0, .ref q1_, .ref q2_, .ref q3_, .null, .null, .null, .null, .null, .int 0, .int 0, .null, .null, .null, .int 0, .null, .int 0, .int 0, .long 0, .long 0, .int 0, .int 0, .null, .int 0, .null, .null, .int 0, .null, .int 0])), (q1_, .inl (E.1, 2000, .inl (fun _ => 0))), (q2_, .inl (E.1, 2000, .inl (fun _ => 0))), (q3_, .inl (E.1, 2000, .inl (fun _ => 0)))] 3 q41 (by decide) rfl rfl (by decide +kernel) rfl rfl (Nat.le_of_ble_eq_true rfl) hH rfl rfl dX1_init_28 (fun H locs hH => ?_)
  refine v_aload_n C dX1_init_31 rfl 0 rfl ?_
  refine v_sipush C 2000 (by decide) dX1_init_32 ?_
  refine v_newi C 2000 (4, 8000) hH rfl (by decide) rfl ⟨by rw [hz]; decide, by rw [hz]; decide⟩ dX1_init_35 (fun q4_ H hH => ?_)
  have hH : wH E [(h, .inr (0, [.int 0, .ref q1_, .ref q2_, .ref q3_, .null, .null, .null, .null, .null, .int 0, .int 0, .null, .null, .null, .int 0, .null, .int 0, .int 0, .long 0, .long 0, .int 0, .int 0, .null, .int 0, .null, .null, .int 0, .null, .int 0])), (q1_, .inl (E.1, 2000, .inl (fun _ => 0))), (q2_, .inl (E.1, 2000, .inl (fun _ => 0))), (q3_, .inl (E.1, 2000, .inl (fun _ => 0))), (q4_, .inl (E.1, 2000, .inl (fun _ => 0)))] A z H _ := hH
  refine kputF C (ty := .array .int) hnm [(h, .inr (0, [.int 0, .ref q1_, .ref q2_, .ref q3_, .ref q4_, .null, .null, .null, .null, .int 0, .int 0, .null, .null, .null, .int 0, .null, .int 0, .int 0, .long 0, .long 0, .int 0, .int 0, .null, .int 0, .null, .null, .int 0, .null, .int 0])), (q1_, .inl (E.1, 2000, .inl (fun _ => 0))), (q2_, .inl (E.1, 2000, .inl (fun _ => 0))), (q3_, .inl (E.1, 2000, .inl (fun _ => 0))), (q4_, .inl (E.1, 2000, .inl (fun _ => 0)))] 4 q42 (by decide) rfl rfl (by decide +kernel) rfl rfl (Nat.le_of_ble_eq_true rfl) hH rfl rfl dX1_init_37 (fun H locs hH => ?_)
  refine v_aload_n C dX1_init_40 rfl 0 rfl ?_
  refine v_sipush C 2000 (by decide) dX1_init_41 ?_
  refine v_newi C 2000 (5, 10000) hH rfl (by decide) rfl ⟨by rw [hz]; decide, by rw [hz]; decide⟩ dX1_init_44 (fun q5_ H hH => ?_)
  have hH : wH E [(h, .inr (0, [.int 0, .ref q1_, .ref q2_, .ref q3_, .ref q4_, .null, .null, .null, .null, .int 0, .int 0, .null, .null, .null, .int 0, .null, .int 0, .int 0, .long 0, .long 0, .int 0, .int 0, .null, .int 0, .null, .null, .int 0, .null, .int 0])), (q1_, .inl (E.1, 2000, .inl (fun _ => 0))), (q2_, .inl (E.1, 2000, .inl (fun _ => 0))), (q3_, .inl (E.1, 2000, .inl (fun _ => 0))), (q4_, .inl (E.1, 2000, .inl (fun _ => 0))), (q5_, .inl (E.1, 2000, .inl (fun _ => 0)))] A z H _ := hH
  refine kputF C (ty := .array .int) hnm [(h, .inr (0, [.int 0, .ref q1_, .ref q2_, .ref q3_, .ref q4_, .ref q5_, .null, .null, .null, .int 0, .int 0, .null, .null, .null, .int 0, .null, .int 0, .int 0, .long 0, .long 0, .int 0, .int 0, .null, .int 0, .null, .null, .int 0, .null, .int 0])), (q1_, .inl (E.1, 2000, .inl (fun _ => 0))), (q2_, .inl (E.1, 2000, .inl (fun _ => 0))), (q3_, .inl (E.1, 2000, .inl (fun _ => 0))), (q4_, .inl (E.1, 2000, .inl (fun _ => 0))), (q5_, .inl (E.1, 2000, .inl (fun _ => 0)))] 5 q43 (by decide) rfl rfl (by decide +kernel) rfl rfl (Nat.le_of_ble_eq_true rfl) hH rfl rfl dX1_init_46 (fun H locs hH => ?_)
  refine v_aload_n C dX1_init_49 rfl 0 rfl ?_
  refine v_sipush C 2000 (by decide) dX1_init_50 ?_
  refine v_newi C 2000 (6, 12000) hH rfl (by decide) rfl ⟨by rw [hz]; decide, by rw [hz]; decide⟩ dX1_init_53 (fun q6_ H hH => ?_)
  have hH : wH E [(h, .inr (0, [.int 0, .ref q1_, .ref q2_, .ref q3_, .ref q4_, .ref q5_, .null, .null, .null, .int 0, .int 0, .null, .null, .null, .int 0, .null, .int 0, .int 0, .long 0, .long 0, .int 0, .int 0, .null, .int 0, .null, .null, .int 0, .null, .int 0])), (q1_, .inl (E.1, 2000, .inl (fun _ => 0))), (q2_, .inl (E.1, 2000, .inl (fun _ => 0))), (q3_, .inl (E.1, 2000, .inl (fun _ => 0))), (q4_, .inl (E.1, 2000, .inl (fun _ => 0))), (q5_, .inl (E.1, 2000, .inl (fun _ => 0))), (q6_, .inl (E.1, 2000, .inl (fun _ => 0)))] A z H _ := hH
  refine kputF C (ty := .array .int) hnm [(h, .inr (0, [.int 0, .ref q1_, .ref q2_, .ref q3_, .ref q4_, .ref q5_, .ref q6_, .null, .null, .int 0, .int 0, .null, .null, .null, .int 0, .null, .int 0, .int 0, .long 0, .long 0, .int 0, .int 0, .null, .int 0, .null, .null, .int 0, .null, .int 0])), (q1_, .inl (E.1, 2000, .inl (fun _ => 0))), (q2_, .inl (E.1, 2000, .inl (fun _ => 0))), (q3_, .inl (E.1, 2000, .inl (fun _ => 0))), (q4_, .inl (E.1, 2000, .inl (fun _ => 0))), (q5_, .inl (E.1, 2000, .inl (fun _ => 0))), (q6_, .inl (E.1, 2000, .inl (fun _ => 0)))] 6 q44 (by decide) rfl rfl (by decide +kernel) rfl rfl (Nat.le_of_ble_eq_true rfl) hH rfl rfl dX1_init_55 (fun H locs hH => ?_)
  refine v_aload_n C dX1_init_58 rfl 0 rfl ?_
  refine v_sipush C 2000 (by decide) dX1_init_59 ?_
  refine v_newi C 2000 (7, 14000) hH rfl (by decide) rfl ⟨by rw [hz]; decide, by rw [hz]; decide⟩ dX1_init_62 (fun q7_ H hH => ?_)
  have hH : wH E [(h, .inr (0, [.int 0, .ref q1_, .ref q2_, .ref q3_, .ref q4_, .ref q5_, .ref q6_, .null, .null, .int 0, .int 0, .null, .null, .null, .int 0, .null, .int 0, .int 0, .long 0, .long 0, .int 0, .int 0, .null, .int 0, .null, .null, .int 0, .null, .int 0])), (q1_, .inl (E.1, 2000, .inl (fun _ => 0))), (q2_, .inl (E.1, 2000, .inl (fun _ => 0))), (q3_, .inl (E.1, 2000, .inl (fun _ => 0))), (q4_, .inl (E.1, 2000, .inl (fun _ => 0))), (q5_, .inl (E.1, 2000, .inl (fun _ => 0))), (q6_, .inl (E.1, 2000, .inl (fun _ => 0))), (q7_, .inl (E.1, 2000, .inl (fun _ => 0)))] A z H _ := hH
  refine kputF C (ty := .array .int) hnm [(h, .inr (0, [.int 0, .ref q1_, .ref q2_, .ref q3_, .ref q4_, .ref q5_, .ref q6_, .ref q7_, .null, .int 0, .int 0, .null, .null, .null, .int 0, .null, .int 0, .int 0, .long 0, .long 0, .int 0, .int 0, .null, .int 0, .null, .null, .int 0, .null, .int 0])), (q1_, .inl (E.1, 2000, .inl (fun _ => 0))), (q2_, .inl (E.1, 2000, .inl (fun _ => 0))), (q3_, .inl (E.1, 2000, .inl (fun _ => 0))), (q4_, .inl (E.1, 2000, .inl (fun _ => 0))), (q5_, .inl (E.1, 2000, .inl (fun _ => 0))), (q6_, .inl (E.1, 2000, .inl (fun _ => 0))), (q7_, .inl (E.1, 2000, .inl (fun _ => 0)))] 7 q45 (by decide) rfl rfl (by decide +kernel) rfl rfl (Nat.le_of_ble_eq_true rfl) hH rfl rfl dX1_init_64 (fun H locs hH => ?_)
  refine v_aload_n C dX1_init_67 rfl 0 rfl ?_
  refine v_sipush C 2000 (by decide) dX1_init_68 ?_
  refine v_newi C 2000 (8, 16000) hH rfl (by decide) rfl ⟨by rw [hz]; decide, by rw [hz]; decide⟩ dX1_init_71 (fun q8_ H hH => ?_)
  have hH : wH E [(h, .inr (0, [.int 0, .ref q1_, .ref q2_, .ref q3_, .ref q4_, .ref q5_, .ref q6_, .ref q7_, .null, .int 0, .int 0, .null, .null, .null, .int 0, .null, .int 0, .int 0, .long 0, .long 0, .int 0, .int 0, .null, .int 0, .null, .null, .int 0, .null, .int 0])), (q1_, .inl (E.1, 2000, .inl (fun _ => 0))), (q2_, .inl (E.1, 2000, .inl (fun _ => 0))), (q3_, .inl (E.1, 2000, .inl (fun _ => 0))), (q4_, .inl (E.1, 2000, .inl (fun _ => 0))), (q5_, .inl (E.1, 2000, .inl (fun _ => 0))), (q6_, .inl (E.1, 2000, .inl (fun _ => 0))), (q7_, .inl (E.1, 2000, .inl (fun _ => 0))), (q8_, .inl (E.1, 2000, .inl (fun _ => 0)))] A z H _ := hH
  refine kputF C (ty := .array .int) hnm [(h, .inr (0, [.int 0, .ref q1_, .ref q2_, .ref q3_, .ref q4_, .ref q5_, .ref q6_, .ref q7_, .ref q8_, .int 0, .int 0, .null, .null, .null, .int 0, .null, .int 0, .int 0, .long 0, .long 0, .int 0, .int 0, .null, .int 0, .null, .null, .int 0, .null, .int 0])), (q1_, .inl (E.1, 2000, .inl (fun _ => 0))), (q2_, .inl (E.1, 2000, .inl (fun _ => 0))), (q3_, .inl (E.1, 2000, .inl (fun _ => 0))), (q4_, .inl (E.1, 2000, .inl (fun _ => 0))), (q5_, .inl (E.1, 2000, .inl (fun _ => 0))), (q6_, .inl (E.1, 2000, .inl (fun _ => 0))), (q7_, .inl (E.1, 2000, .inl (fun _ => 0))), (q8_, .inl (E.1, 2000, .inl (fun _ => 0)))] 8 q46 (by decide) rfl rfl (by decide +kernel) rfl rfl (Nat.le_of_ble_eq_true rfl) hH rfl rfl dX1_init_73 (fun H locs hH => ?_)
  refine v_aload_n C dX1_init_76 rfl 0 rfl ?_
  refine v_iconst C 1 (by decide) dX1_init_77 ?_
  refine kputN C (ty := .int) [(h, .inr (0, [.int 0, .ref q1_, .ref q2_, .ref q3_, .ref q4_, .ref q5_, .ref q6_, .ref q7_, .ref q8_, .int 1, .int 0, .null, .null, .null, .int 0, .null, .int 0, .int 0, .long 0, .long 0, .int 0, .int 0, .null, .int 0, .null, .null, .int 0, .null, .int 0])), (q1_, .inl (E.1, 2000, .inl (fun _ => 0))), (q2_, .inl (E.1, 2000, .inl (fun _ => 0))), (q3_, .inl (E.1, 2000, .inl (fun _ => 0))), (q4_, .inl (E.1, 2000, .inl (fun _ => 0))), (q5_, .inl (E.1, 2000, .inl (fun _ => 0))), (q6_, .inl (E.1, 2000, .inl (fun _ => 0))), (q7_, .inl (E.1, 2000, .inl (fun _ => 0))), (q8_, .inl (E.1, 2000, .inl (fun _ => 0)))] 9 q47 (by decide) rfl rfl (by decide +kernel) rfl rfl (Nat.le_of_ble_eq_true rfl) hH rfl rfl dX1_init_78 (fun H locs hH => ?_)
  refine v_aload_n C dX1_init_81 rfl 0 rfl ?_
  refine v_bipush C 60 (by decide) dX1_init_82 ?_
  refine v_newi C 60 (9, 16060) hH rfl (by decide) rfl ⟨by rw [hz]; decide, by rw [hz]; decide⟩ dX1_init_84 (fun q9_ H hH => ?_)
  have hH : wH E [(h, .inr (0, [.int 0, .ref q1_, .ref q2_, .ref q3_, .ref q4_, .ref q5_, .ref q6_, .ref q7_, .ref q8_, .int 1, .int 0, .null, .null, .null, .int 0, .null, .int 0, .int 0, .long 0, .long 0, .int 0, .int 0, .null, .int 0, .null, .null, .int 0, .null, .int 0])), (q1_, .inl (E.1, 2000, .inl (fun _ => 0))), (q2_, .inl (E.1, 2000, .inl (fun _ => 0))), (q3_, .inl (E.1, 2000, .inl (fun _ => 0))), (q4_, .inl (E.1, 2000, .inl (fun _ => 0))), (q5_, .inl (E.1, 2000, .inl (fun _ => 0))), (q6_, .inl (E.1, 2000, .inl (fun _ => 0))), (q7_, .inl (E.1, 2000, .inl (fun _ => 0))), (q8_, .inl (E.1, 2000, .inl (fun _ => 0))), (q9_, .inl (E.1, 60, .inl (fun _ => 0)))] A z H _ := hH
  refine kputF C (ty := .array .int) hnm [(h, .inr (0, [.int 0, .ref q1_, .ref q2_, .ref q3_, .ref q4_, .ref q5_, .ref q6_, .ref q7_, .ref q8_, .int 1, .int 0, .ref q9_, .null, .null, .int 0, .null, .int 0, .int 0, .long 0, .long 0, .int 0, .int 0, .null, .int 0, .null, .null, .int 0, .null, .int 0])), (q1_, .inl (E.1, 2000, .inl (fun _ => 0))), (q2_, .inl (E.1, 2000, .inl (fun _ => 0))), (q3_, .inl (E.1, 2000, .inl (fun _ => 0))), (q4_, .inl (E.1, 2000, .inl (fun _ => 0))), (q5_, .inl (E.1, 2000, .inl (fun _ => 0))), (q6_, .inl (E.1, 2000, .inl (fun _ => 0))), (q7_, .inl (E.1, 2000, .inl (fun _ => 0))), (q8_, .inl (E.1, 2000, .inl (fun _ => 0))), (q9_, .inl (E.1, 60, .inl (fun _ => 0)))] 11 q49 (by decide) rfl rfl (by decide +kernel) rfl rfl (Nat.le_of_ble_eq_true rfl) hH rfl rfl dX1_init_86 (fun H locs hH => ?_)
  refine v_aload_n C dX1_init_89 rfl 0 rfl ?_
  refine v_bipush C 60 (by decide) dX1_init_90 ?_
  refine v_newi C 60 (10, 16120) hH rfl (by decide) rfl ⟨by rw [hz]; decide, by rw [hz]; decide⟩ dX1_init_92 (fun q10_ H hH => ?_)
  have hH : wH E [(h, .inr (0, [.int 0, .ref q1_, .ref q2_, .ref q3_, .ref q4_, .ref q5_, .ref q6_, .ref q7_, .ref q8_, .int 1, .int 0, .ref q9_, .null, .null, .int 0, .null, .int 0, .int 0, .long 0, .long 0, .int 0, .int 0, .null, .int 0, .null, .null, .int 0, .null, .int 0])), (q1_, .inl (E.1, 2000, .inl (fun _ => 0))), (q2_, .inl (E.1, 2000, .inl (fun _ => 0))), (q3_, .inl (E.1, 2000, .inl (fun _ => 0))), (q4_, .inl (E.1, 2000, .inl (fun _ => 0))), (q5_, .inl (E.1, 2000, .inl (fun _ => 0))), (q6_, .inl (E.1, 2000, .inl (fun _ => 0))), (q7_, .inl (E.1, 2000, .inl (fun _ => 0))), (q8_, .inl (E.1, 2000, .inl (fun _ => 0))), (q9_, .inl (E.1, 60, .inl (fun _ => 0))), (q10_, .inl (E.1, 60, .inl (fun _ => 0)))] A z H _ := hH
  refine kputF C (ty := .array .int) hnm [(h, .inr (0, [.int 0, .ref q1_, .ref q2_, .ref q3_, .ref q4_, .ref q5_, .ref q6_, .ref q7_, .ref q8_, .int 1, .int 0, .ref q9_, .ref q10_, .null, .int 0, .null, .int 0, .int 0, .long 0, .long 0, .int 0, .int 0, .null, .int 0, .null, .null, .int 0, .null, .int 0])), (q1_, .inl (E.1, 2000, .inl (fun _ => 0))), (q2_, .inl (E.1, 2000, .inl (fun _ => 0))), (q3_, .inl (E.1, 2000, .inl (fun _ => 0))), (q4_, .inl (E.1, 2000, .inl (fun _ => 0))), (q5_, .inl (E.1, 2000, .inl (fun _ => 0))), (q6_, .inl (E.1, 2000, .inl (fun _ => 0))), (q7_, .inl (E.1, 2000, .inl (fun _ => 0))), (q8_, .inl (E.1, 2000, .inl (fun _ => 0))), (q9_, .inl (E.1, 60, .inl (fun _ => 0))), (q10_, .inl (E.1, 60, .inl (fun _ => 0)))] 12 q50 (by decide) rfl rfl (by decide +kernel) rfl rfl (Nat.le_of_ble_eq_true rfl) hH rfl rfl dX1_init_94 (fun H locs hH => ?_)
  refine v_aload_n C dX1_init_97 rfl 0 rfl ?_
  refine v_bipush C 60 (by decide) dX1_init_98 ?_
  refine v_newi C 60 (11, 16180) hH rfl (by decide) rfl ⟨by rw [hz]; decide, by rw [hz]; decide⟩ dX1_init_100 (fun q11_ H hH => ?_)
  have hH : wH E [(h, .inr (0, [.int 0, .ref q1_, .ref q2_, .ref q3_, .ref q4_, .ref q5_, .ref q6_, .ref q7_, .ref q8_, .int 1, .int 0, .ref q9_, .ref q10_, .null, .int 0, .null, .int 0, .int 0, .long 0, .long 0, .int 0, .int 0, .null, .int 0, .null, .null, .int 0, .null, .int 0])), (q1_, .inl (E.1, 2000, .inl (fun _ => 0))), (q2_, .inl (E.1, 2000, .inl (fun _ => 0))), (q3_, .inl (E.1, 2000, .inl (fun _ => 0))), (q4_, .inl (E.1, 2000, .inl (fun _ => 0))), (q5_, .inl (E.1, 2000, .inl (fun _ => 0))), (q6_, .inl (E.1, 2000, .inl (fun _ => 0))), (q7_, .inl (E.1, 2000, .inl (fun _ => 0))), (q8_, .inl (E.1, 2000, .inl (fun _ => 0))), (q9_, .inl (E.1, 60, .inl (fun _ => 0))), (q10_, .inl (E.1, 60, .inl (fun _ => 0))), (q11_, .inl (E.1, 60, .inl (fun _ => 0)))] A z H _ := hH
  refine kputF C (ty := .array .int) hnm [(h, .inr (0, [.int 0, .ref q1_, .ref q2_, .ref q3_, .ref q4_, .ref q5_, .ref q6_, .ref q7_, .ref q8_, .int 1, .int 0, .ref q9_, .ref q10_, .ref q11_, .int 0, .null, .int 0, .int 0, .long 0, .long 0, .int 0, .int 0, .null, .int 0, .null, .null, .int 0, .null, .int 0])), (q1_, .inl (E.1, 2000, .inl (fun _ => 0))), (q2_, .inl (E.1, 2000, .inl (fun _ => 0))), (q3_, .inl (E.1, 2000, .inl (fun _ => 0))), (q4_, .inl (E.1, 2000, .inl (fun _ => 0))), (q5_, .inl (E.1, 2000, .inl (fun _ => 0))), (q6_, .inl (E.1, 2000, .inl (fun _ => 0))), (q7_, .inl (E.1, 2000, .inl (fun _ => 0))), (q8_, .inl (E.1, 2000, .inl (fun _ => 0))), (q9_, .inl (E.1, 60, .inl (fun _ => 0))), (q10_, .inl (E.1, 60, .inl (fun _ => 0))), (q11_, .inl (E.1, 60, .inl (fun _ => 0)))] 13 q51 (by decide) rfl rfl (by decide +kernel) rfl rfl (Nat.le_of_ble_eq_true rfl) hH rfl rfl dX1_init_102 (fun H locs hH => ?_)
  refine v_aload_n C dX1_init_105 rfl 0 rfl ?_
  refine v_bipush C 40 (by decide) dX1_init_106 ?_
  refine v_newi C 40 (12, 16220) hH rfl (by decide) rfl ⟨by rw [hz]; decide, by rw [hz]; decide⟩ dX1_init_108 (fun q12_ H hH => ?_)
  have hH : wH E [(h, .inr (0, [.int 0, .ref q1_, .ref q2_, .ref q3_, .ref q4_, .ref q5_, .ref q6_, .ref q7_, .ref q8_, .int 1, .int 0, .ref q9_, .ref q10_, .ref q11_, .int 0, .null, .int 0, .int 0, .long 0, .long 0, .int 0, .int 0, .null, .int 0, .null, .null, .int 0, .null, .int 0])), (q1_, .inl (E.1, 2000, .inl (fun _ => 0))), (q2_, .inl (E.1, 2000, .inl (fun _ => 0))), (q3_, .inl (E.1, 2000, .inl (fun _ => 0))), (q4_, .inl (E.1, 2000, .inl (fun _ => 0))), (q5_, .inl (E.1, 2000, .inl (fun _ => 0))), (q6_, .inl (E.1, 2000, .inl (fun _ => 0))), (q7_, .inl (E.1, 2000, .inl (fun _ => 0))), (q8_, .inl (E.1, 2000, .inl (fun _ => 0))), (q9_, .inl (E.1, 60, .inl (fun _ => 0))), (q10_, .inl (E.1, 60, .inl (fun _ => 0))), (q11_, .inl (E.1, 60, .inl (fun _ => 0))), (q12_, .inl (E.1, 40, .inl (fun _ => 0)))] A z H _ := hH
  refine kputF C (ty := .array .int) hnm [(h, .inr (0, [.int 0, .ref q1_, .ref q2_, .ref q3_, .ref q4_, .ref q5_, .ref q6_, .ref q7_, .ref q8_, .int 1, .int 0, .ref q9_, .ref q10_, .ref q11_, .int 0, .ref q12_, .int 0, .int 0, .long 0, .long 0, .int 0, .int 0, .null, .int 0, .null, .null, .int 0, .null, .int 0])), (q1_, .inl (E.1, 2000, .inl (fun _ => 0))), (q2_, .inl (E.1, 2000, .inl (fun _ => 0))), (q3_, .inl (E.1, 2000, .inl (fun _ => 0))), (q4_, .inl (E.1, 2000, .inl (fun _ => 0))), (q5_, .inl (E.1, 2000, .inl (fun _ => 0))), (q6_, .inl (E.1, 2000, .inl (fun _ => 0))), (q7_, .inl (E.1, 2000, .inl (fun _ => 0))), (q8_, .inl (E.1, 2000, .inl (fun _ => 0))), (q9_, .inl (E.1, 60, .inl (fun _ => 0))), (q10_, .inl (E.1, 60, .inl (fun _ => 0))), (q11_, .inl (E.1, 60, .inl (fun _ => 0))), (q12_, .inl (E.1, 40, .inl (fun _ => 0)))] 15 q53 (by decide) rfl rfl (by decide +kernel) rfl rfl (Nat.le_of_ble_eq_true rfl) hH rfl rfl dX1_init_110 (fun H locs hH => ?_)
  refine v_aload_n C dX1_init_113 rfl 0 rfl ?_
  refine v_iconst C 1 (by decide) dX1_init_114 ?_
  refine kputN C (ty := .int) [(h, .inr (0, [.int 0, .ref q1_, .ref q2_, .ref q3_, .ref q4_, .ref q5_, .ref q6_, .ref q7_, .ref q8_, .int 1, .int 0, .ref q9_, .ref q10_, .ref q11_, .int 0, .ref q12_, .int 0, .int 0, .long 0, .long 0, .int 1, .int 0, .null, .int 0, .null, .null, .int 0, .null, .int 0])), (q1_, .inl (E.1, 2000, .inl (fun _ => 0))), (q2_, .inl (E.1, 2000, .inl (fun _ => 0))), (q3_, .inl (E.1, 2000, .inl (fun _ => 0))), (q4_, .inl (E.1, 2000, .inl (fun _ => 0))), (q5_, .inl (E.1, 2000, .inl (fun _ => 0))), (q6_, .inl (E.1, 2000, .inl (fun _ => 0))), (q7_, .inl (E.1, 2000, .inl (fun _ => 0))), (q8_, .inl (E.1, 2000, .inl (fun _ => 0))), (q9_, .inl (E.1, 60, .inl (fun _ => 0))), (q10_, .inl (E.1, 60, .inl (fun _ => 0))), (q11_, .inl (E.1, 60, .inl (fun _ => 0))), (q12_, .inl (E.1, 40, .inl (fun _ => 0)))] 20 q58 (by decide) rfl rfl (by decide +kernel) rfl rfl (Nat.le_of_ble_eq_true rfl) hH rfl rfl dX1_init_115 (fun H locs hH => ?_)
  refine v_aload_n C dX1_init_118 rfl 0 rfl ?_
  refine v_sipush C 4201 (by decide) dX1_init_119 ?_
  refine v_newi C 4201 (13, 20421) hH rfl (by decide) rfl ⟨by rw [hz]; decide, by rw [hz]; decide⟩ dX1_init_122 (fun q13_ H hH => ?_)
  have hH : wH E [(h, .inr (0, [.int 0, .ref q1_, .ref q2_, .ref q3_, .ref q4_, .ref q5_, .ref q6_, .ref q7_, .ref q8_, .int 1, .int 0, .ref q9_, .ref q10_, .ref q11_, .int 0, .ref q12_, .int 0, .int 0, .long 0, .long 0, .int 1, .int 0, .null, .int 0, .null, .null, .int 0, .null, .int 0])), (q1_, .inl (E.1, 2000, .inl (fun _ => 0))), (q2_, .inl (E.1, 2000, .inl (fun _ => 0))), (q3_, .inl (E.1, 2000, .inl (fun _ => 0))), (q4_, .inl (E.1, 2000, .inl (fun _ => 0))), (q5_, .inl (E.1, 2000, .inl (fun _ => 0))), (q6_, .inl (E.1, 2000, .inl (fun _ => 0))), (q7_, .inl (E.1, 2000, .inl (fun _ => 0))), (q8_, .inl (E.1, 2000, .inl (fun _ => 0))), (q9_, .inl (E.1, 60, .inl (fun _ => 0))), (q10_, .inl (E.1, 60, .inl (fun _ => 0))), (q11_, .inl (E.1, 60, .inl (fun _ => 0))), (q12_, .inl (E.1, 40, .inl (fun _ => 0))), (q13_, .inl (E.1, 4201, .inl (fun _ => 0)))] A z H _ := hH
  refine kputF C (ty := .array .int) hnm [(h, .inr (0, [.int 0, .ref q1_, .ref q2_, .ref q3_, .ref q4_, .ref q5_, .ref q6_, .ref q7_, .ref q8_, .int 1, .int 0, .ref q9_, .ref q10_, .ref q11_, .int 0, .ref q12_, .int 0, .int 0, .long 0, .long 0, .int 1, .int 0, .ref q13_, .int 0, .null, .null, .int 0, .null, .int 0])), (q1_, .inl (E.1, 2000, .inl (fun _ => 0))), (q2_, .inl (E.1, 2000, .inl (fun _ => 0))), (q3_, .inl (E.1, 2000, .inl (fun _ => 0))), (q4_, .inl (E.1, 2000, .inl (fun _ => 0))), (q5_, .inl (E.1, 2000, .inl (fun _ => 0))), (q6_, .inl (E.1, 2000, .inl (fun _ => 0))), (q7_, .inl (E.1, 2000, .inl (fun _ => 0))), (q8_, .inl (E.1, 2000, .inl (fun _ => 0))), (q9_, .inl (E.1, 60, .inl (fun _ => 0))), (q10_, .inl (E.1, 60, .inl (fun _ => 0))), (q11_, .inl (E.1, 60, .inl (fun _ => 0))), (q12_, .inl (E.1, 40, .inl (fun _ => 0))), (q13_, .inl (E.1, 4201, .inl (fun _ => 0)))] 22 q60 (by decide) rfl rfl (by decide +kernel) rfl rfl (Nat.le_of_ble_eq_true rfl) hH rfl rfl dX1_init_124 (fun H locs hH => ?_)
  refine v_aload_n C dX1_init_127 rfl 0 rfl ?_
  refine v_sipush C 4201 (by decide) dX1_init_128 ?_
  refine v_newi C 4201 (14, 24622) hH rfl (by decide) rfl ⟨by rw [hz]; decide, by rw [hz]; decide⟩ dX1_init_131 (fun q14_ H hH => ?_)
  have hH : wH E [(h, .inr (0, [.int 0, .ref q1_, .ref q2_, .ref q3_, .ref q4_, .ref q5_, .ref q6_, .ref q7_, .ref q8_, .int 1, .int 0, .ref q9_, .ref q10_, .ref q11_, .int 0, .ref q12_, .int 0, .int 0, .long 0, .long 0, .int 1, .int 0, .ref q13_, .int 0, .null, .null, .int 0, .null, .int 0])), (q1_, .inl (E.1, 2000, .inl (fun _ => 0))), (q2_, .inl (E.1, 2000, .inl (fun _ => 0))), (q3_, .inl (E.1, 2000, .inl (fun _ => 0))), (q4_, .inl (E.1, 2000, .inl (fun _ => 0))), (q5_, .inl (E.1, 2000, .inl (fun _ => 0))), (q6_, .inl (E.1, 2000, .inl (fun _ => 0))), (q7_, .inl (E.1, 2000, .inl (fun _ => 0))), (q8_, .inl (E.1, 2000, .inl (fun _ => 0))), (q9_, .inl (E.1, 60, .inl (fun _ => 0))), (q10_, .inl (E.1, 60, .inl (fun _ => 0))), (q11_, .inl (E.1, 60, .inl (fun _ => 0))), (q12_, .inl (E.1, 40, .inl (fun _ => 0))), (q13_, .inl (E.1, 4201, .inl (fun _ => 0))), (q14_, .inl (E.1, 4201, .inl (fun _ => 0)))] A z H _ := hH
  refine kputF C (ty := .array .int) hnm [(h, .inr (0, [.int 0, .ref q1_, .ref q2_, .ref q3_, .ref q4_, .ref q5_, .ref q6_, .ref q7_, .ref q8_, .int 1, .int 0, .ref q9_, .ref q10_, .ref q11_, .int 0, .ref q12_, .int 0, .int 0, .long 0, .long 0, .int 1, .int 0, .ref q13_, .int 0, .ref q14_, .null, .int 0, .null, .int 0])), (q1_, .inl (E.1, 2000, .inl (fun _ => 0))), (q2_, .inl (E.1, 2000, .inl (fun _ => 0))), (q3_, .inl (E.1, 2000, .inl (fun _ => 0))), (q4_, .inl (E.1, 2000, .inl (fun _ => 0))), (q5_, .inl (E.1, 2000, .inl (fun _ => 0))), (q6_, .inl (E.1, 2000, .inl (fun _ => 0))), (q7_, .inl (E.1, 2000, .inl (fun _ => 0))), (q8_, .inl (E.1, 2000, .inl (fun _ => 0))), (q9_, .inl (E.1, 60, .inl (fun _ => 0))), (q10_, .inl (E.1, 60, .inl (fun _ => 0))), (q11_, .inl (E.1, 60, .inl (fun _ => 0))), (q12_, .inl (E.1, 40, .inl (fun _ => 0))), (q13_, .inl (E.1, 4201, .inl (fun _ => 0))), (q14_, .inl (E.1, 4201, .inl (fun _ => 0)))] 24 q62 (by decide) rfl rfl (by decide +kernel) rfl rfl (Nat.le_of_ble_eq_true rfl) hH rfl rfl dX1_init_133 (fun H locs hH => ?_)
  refine v_aload_n C dX1_init_136 rfl 0 rfl ?_
  refine v_sipush C 4201 (by decide) dX1_init_137 ?_
  refine v_newl C 4201 (15, 28823) hH rfl (by decide) rfl ⟨by rw [hz]; decide, by rw [hz]; decide⟩ dX1_init_140 (fun q15_ H hH => ?_)
  have hH : wH E [(h, .inr (0, [.int 0, .ref q1_, .ref q2_, .ref q3_, .ref q4_, .ref q5_, .ref q6_, .ref q7_, .ref q8_, .int 1, .int 0, .ref q9_, .ref q10_, .ref q11_, .int 0, .ref q12_, .int 0, .int 0, .long 0, .long 0, .int 1, .int 0, .ref q13_, .int 0, .ref q14_, .null, .int 0, .null, .int 0])), (q1_, .inl (E.1, 2000, .inl (fun _ => 0))), (q2_, .inl (E.1, 2000, .inl (fun _ => 0))), (q3_, .inl (E.1, 2000, .inl (fun _ => 0))), (q4_, .inl (E.1, 2000, .inl (fun _ => 0))), (q5_, .inl (E.1, 2000, .inl (fun _ => 0))), (q6_, .inl (E.1, 2000, .inl (fun _ => 0))), (q7_, .inl (E.1, 2000, .inl (fun _ => 0))), (q8_, .inl (E.1, 2000, .inl (fun _ => 0))), (q9_, .inl (E.1, 60, .inl (fun _ => 0))), (q10_, .inl (E.1, 60, .inl (fun _ => 0))), (q11_, .inl (E.1, 60, .inl (fun _ => 0))), (q12_, .inl (E.1, 40, .inl (fun _ => 0))), (q13_, .inl (E.1, 4201, .inl (fun _ => 0))), (q14_, .inl (E.1, 4201, .inl (fun _ => 0))), (q15_, .inl (E.2.1, 4201, .inr (.inl (fun _ => 0))))] A z H _ := hH
  refine kputF C (ty := .array .long) hnm [(h, .inr (0, [.int 0, .ref q1_, .ref q2_, .ref q3_, .ref q4_, .ref q5_, .ref q6_, .ref q7_, .ref q8_, .int 1, .int 0, .ref q9_, .ref q10_, .ref q11_, .int 0, .ref q12_, .int 0, .int 0, .long 0, .long 0, .int 1, .int 0, .ref q13_, .int 0, .ref q14_, .ref q15_, .int 0, .null, .int 0])), (q1_, .inl (E.1, 2000, .inl (fun _ => 0))), (q2_, .inl (E.1, 2000, .inl (fun _ => 0))), (q3_, .inl (E.1, 2000, .inl (fun _ => 0))), (q4_, .inl (E.1, 2000, .inl (fun _ => 0))), (q5_, .inl (E.1, 2000, .inl (fun _ => 0))), (q6_, .inl (E.1, 2000, .inl (fun _ => 0))), (q7_, .inl (E.1, 2000, .inl (fun _ => 0))), (q8_, .inl (E.1, 2000, .inl (fun _ => 0))), (q9_, .inl (E.1, 60, .inl (fun _ => 0))), (q10_, .inl (E.1, 60, .inl (fun _ => 0))), (q11_, .inl (E.1, 60, .inl (fun _ => 0))), (q12_, .inl (E.1, 40, .inl (fun _ => 0))), (q13_, .inl (E.1, 4201, .inl (fun _ => 0))), (q14_, .inl (E.1, 4201, .inl (fun _ => 0))), (q15_, .inl (E.2.1, 4201, .inr (.inl (fun _ => 0))))] 25 q63 (by decide) rfl rfl (by decide +kernel) rfl rfl (Nat.le_of_ble_eq_true rfl) hH rfl rfl dX1_init_142 (fun H locs hH => ?_)
  refine v_aload_n C dX1_init_145 rfl 0 rfl ?_
  refine v_sipush C 4201 (by decide) dX1_init_146 ?_
  refine v_newi C 4201 (16, 33024) hH rfl (by decide) rfl ⟨by rw [hz]; decide, by rw [hz]; decide⟩ dX1_init_149 (fun q16_ H hH => ?_)
  have hH : wH E [(h, .inr (0, [.int 0, .ref q1_, .ref q2_, .ref q3_, .ref q4_, .ref q5_, .ref q6_, .ref q7_, .ref q8_, .int 1, .int 0, .ref q9_, .ref q10_, .ref q11_, .int 0, .ref q12_, .int 0, .int 0, .long 0, .long 0, .int 1, .int 0, .ref q13_, .int 0, .ref q14_, .ref q15_, .int 0, .null, .int 0])), (q1_, .inl (E.1, 2000, .inl (fun _ => 0))), (q2_, .inl (E.1, 2000, .inl (fun _ => 0))), (q3_, .inl (E.1, 2000, .inl (fun _ => 0))), (q4_, .inl (E.1, 2000, .inl (fun _ => 0))), (q5_, .inl (E.1, 2000, .inl (fun _ => 0))), (q6_, .inl (E.1, 2000, .inl (fun _ => 0))), (q7_, .inl (E.1, 2000, .inl (fun _ => 0))), (q8_, .inl (E.1, 2000, .inl (fun _ => 0))), (q9_, .inl (E.1, 60, .inl (fun _ => 0))), (q10_, .inl (E.1, 60, .inl (fun _ => 0))), (q11_, .inl (E.1, 60, .inl (fun _ => 0))), (q12_, .inl (E.1, 40, .inl (fun _ => 0))), (q13_, .inl (E.1, 4201, .inl (fun _ => 0))), (q14_, .inl (E.1, 4201, .inl (fun _ => 0))), (q15_, .inl (E.2.1, 4201, .inr (.inl (fun _ => 0)))), (q16_, .inl (E.1, 4201, .inl (fun _ => 0)))] A z H _ := hH
  refine kputF C (ty := .array .int) hnm [(h, .inr (0, [.int 0, .ref q1_, .ref q2_, .ref q3_, .ref q4_, .ref q5_, .ref q6_, .ref q7_, .ref q8_, .int 1, .int 0, .ref q9_, .ref q10_, .ref q11_, .int 0, .ref q12_, .int 0, .int 0, .long 0, .long 0, .int 1, .int 0, .ref q13_, .int 0, .ref q14_, .ref q15_, .int 0, .ref q16_, .int 0])), (q1_, .inl (E.1, 2000, .inl (fun _ => 0))), (q2_, .inl (E.1, 2000, .inl (fun _ => 0))), (q3_, .inl (E.1, 2000, .inl (fun _ => 0))), (q4_, .inl (E.1, 2000, .inl (fun _ => 0))), (q5_, .inl (E.1, 2000, .inl (fun _ => 0))), (q6_, .inl (E.1, 2000, .inl (fun _ => 0))), (q7_, .inl (E.1, 2000, .inl (fun _ => 0))), (q8_, .inl (E.1, 2000, .inl (fun _ => 0))), (q9_, .inl (E.1, 60, .inl (fun _ => 0))), (q10_, .inl (E.1, 60, .inl (fun _ => 0))), (q11_, .inl (E.1, 60, .inl (fun _ => 0))), (q12_, .inl (E.1, 40, .inl (fun _ => 0))), (q13_, .inl (E.1, 4201, .inl (fun _ => 0))), (q14_, .inl (E.1, 4201, .inl (fun _ => 0))), (q15_, .inl (E.2.1, 4201, .inr (.inl (fun _ => 0)))), (q16_, .inl (E.1, 4201, .inl (fun _ => 0)))] 27 q65 (by decide) rfl rfl (by decide +kernel) rfl rfl (Nat.le_of_ble_eq_true rfl) hH rfl rfl dX1_init_151 (fun H locs hH => ?_)
  refine v_aload_n C dX1_init_154 rfl 0 rfl ?_
  refine v_iconst C 1 (by decide) dX1_init_155 ?_
  refine v_sipush C 2000 (by decide) dX1_init_156 ?_
  refine v_iload_n C dX1_init_159 rfl 1 rfl ?_
  refine v_mmin C q28 (hRm _ _ (by decide) (by decide)) (Nat.le_of_ble_eq_true rfl) dX1_init_160 ?_
  refine v_mmax C q31 (hRm _ _ (by decide) (by decide)) (Nat.le_of_ble_eq_true rfl) dX1_init_163 ?_
  refine v_ei (y := nI (rmN r)) (rmN_k r) ?_
  refine kputF C (ty := .int) hnm [(h, .inr (0, [.int (nI (rmN r)), .ref q1_, .ref q2_, .ref q3_, .ref q4_, .ref q5_, .ref q6_, .ref q7_, .ref q8_, .int 1, .int 0, .ref q9_, .ref q10_, .ref q11_, .int 0, .ref q12_, .int 0, .int 0, .long 0, .long 0, .int 1, .int 0, .ref q13_, .int 0, .ref q14_, .ref q15_, .int 0, .ref q16_, .int 0])), (q1_, .inl (E.1, 2000, .inl (fun _ => 0))), (q2_, .inl (E.1, 2000, .inl (fun _ => 0))), (q3_, .inl (E.1, 2000, .inl (fun _ => 0))), (q4_, .inl (E.1, 2000, .inl (fun _ => 0))), (q5_, .inl (E.1, 2000, .inl (fun _ => 0))), (q6_, .inl (E.1, 2000, .inl (fun _ => 0))), (q7_, .inl (E.1, 2000, .inl (fun _ => 0))), (q8_, .inl (E.1, 2000, .inl (fun _ => 0))), (q9_, .inl (E.1, 60, .inl (fun _ => 0))), (q10_, .inl (E.1, 60, .inl (fun _ => 0))), (q11_, .inl (E.1, 60, .inl (fun _ => 0))), (q12_, .inl (E.1, 40, .inl (fun _ => 0))), (q13_, .inl (E.1, 4201, .inl (fun _ => 0))), (q14_, .inl (E.1, 4201, .inl (fun _ => 0))), (q15_, .inl (E.2.1, 4201, .inr (.inl (fun _ => 0)))), (q16_, .inl (E.1, 4201, .inl (fun _ => 0)))] 0 q38 (by decide) rfl rfl (by decide +kernel) rfl rfl (Nat.le_of_ble_eq_true rfl) hH rfl rfl dX1_init_166 (fun H locs hH => ?_)
  refine v_aload_n C dX1_init_169 rfl 0 rfl ?_
  refine v_iconst C 0 (by decide) dX1_init_170 ?_
  refine v_ei (y := nI 0) (nI_0.symm) ?_
  refine v_iconst C (-1) (by decide) dX1_init_171 ?_
  refine v_iconst C 0 (by decide) dX1_init_172 ?_
  obtain ⟨gg, hgg⟩ : ∃ gg : GG, gg = (h, fun k => if k = 1 then q1_ else if k = 2 then q2_ else if k = 3 then q3_ else if k = 4 then q4_ else if k = 5 then q5_ else if k = 6 then q6_ else if k = 7 then q7_ else if k = 8 then q8_ else if k = 11 then q9_ else if k = 12 then q10_ else if k = 13 then q11_ else if k = 15 then q12_ else if k = 22 then q13_ else if k = 24 then q14_ else if k = 25 then q15_ else if k = 27 then q16_ else 0) := ⟨_, rfl⟩
  obtain ⟨x0, hx0⟩ : ∃ x0 : DS, x0 = (fun k => if k = 0 then nI (rmN r) else if k = 9 then 1 else if k = 20 then 1 else 0, fun _ => 0, fun _ _ => 0, fun _ => 0) := ⟨_, rfl⟩
  have hH : wH E (kW E gg x0) A z H locs := by rw [hgg, hx0]; exact hH
  have hh : h = gg.1 := by rw [hgg]
  refine v_callWv C (ci := 0) (vC := (RX1, TX1, 29)) (rest := []) (wf := kW E gg) (b := gg.1) (metX1_clear (zl z) (E := E) (g := gg) (x := x0) (n := 0) (-1) 0 (by decide)) (lw_V q34 q36 qs0 q17 q37) DX1_clear (hRm _ _ (by decide) (by decide)) (by decide) hH rfl rfl (by rw [← hh]; rfl) (Nat.le_of_ble_eq_true rfl) rfl dX1_init_173 (fun u H locs hu hH => ?_)
  refine v_vretI (u, gg) C hH ⟨hh.symm, ?_⟩ dX1_init_176
  rw [hu, hx0]
  exact kNew_mk rfl rfl rfl rfl rfl rfl rfl rfl rfl rfl rfl (fun _ => rfl) rfl rfl rfl rfl rfl rfl rfl rfl rfl
def mNew (y : DS) (r : Int32) : Prop := mDict y [] false 1 (rmN r) ∧ mDr y [] ∧ mTS y ([], 0, 0, 1, []) ∧ mPk y []
abbrev mW0 (h : Nat) : va_W := [(h, .inr (1, [.int 0, .int 0, .int 0, .int 0, .null, .null, .null, .int 0, .null, .int 0, .long 0, .long 0, .int 0, .int 0, .null, .null, .null, .int 0, .int 0, .null]))]
theorem metX2_init (l : Launch) {E : EE} (h : Nat) (r : Int32) : ∀ sz : Nat, Met l yX2_init (ws_ yX2_init cX2_init 2 none) (rmI 8 20164) (va_Pc [.ref h, .int r] (mP E (mW0 h) sz)) (va_Qv (fun u : DS × GG => u.2.1 = h ∧ mNew u.1 r) (fun u t => va_P E.2.2 vwCl (mW E u.2 u.1) t.heap ∧ va_K E.2.2 vwCl (tys2 E) t ∧ va_D (va_A (mW0 h) sz) (mW E u.2 u.1)) (va_A (mW0 h) sz)) 8 20164 (va_A (mW0 h) sz) := by
  refine MI.start (own := RX2) (wf := fun u : DS × GG => mW E u.2 u.1) (by decide) rfl rfl (Nat.le_of_ble_eq_true rfl) ?_
  intro z A hzl hz C hnm hH
  have hRm : ∀ a b : Nat, a ≤ 8 → b ≤ 20164 → rmOK 1 (a, b) z := fun a b h1 h2 => by unfold rmOK; rw [hz]; exact ⟨Nat.le_refl _, Nat.le_refl _, h1, h2⟩
  obtain ⟨hrm, s1, s2, s3⟩ := rmN_spec r
  show V z (0, 0) _ [] _ 0 [(0, .ref h), (1, .int r)] []
  refine v_aload_n C dX2_init_0 rfl 0 rfl ?_
  refine v_obj C q239 (hRm _ _ (by decide) (by decide)) (Nat.le_of_ble_eq_true rfl) dX2_init_1 ?_
  refine v_aload_n C dX2_init_4 rfl 0 rfl ?_
  refine v_iconst C 1 (by decide) dX2_init_5 ?_
  refine mputN C (ty := .int) [(h, .inr (1, [.int 0, .int 0, .int 1, .int 0, .null, .null, .null, .int 0, .null, .int 0, .long 0, .long 0, .int 0, .int 0, .null, .null, .null, .int 0, .int 0, .null]))] 2 q242 (by decide) rfl rfl (by decide +kernel) rfl rfl (Nat.le_of_ble_eq_true rfl) hH rfl rfl dX2_init_6 (fun H locs hH => ?_)
  refine v_aload_n C dX2_init_9 rfl 0 rfl ?_
  refine v_sipush C 2400 (by decide) dX2_init_10 ?_
  refine v_newi C 2400 (1, 2400) hH rfl (by decide) rfl ⟨by rw [hz]; decide, by rw [hz]; decide⟩ dX2_init_13 (fun q1_ H hH => ?_)
  have hH : wH E [(h, .inr (1, [.int 0, .int 0, .int 1, .int 0, .null, .null, .null, .int 0, .null, .int 0, .long 0, .long 0, .int 0, .int 0, .null, .null, .null, .int 0, .int 0, .null])), (q1_, .inl (E.1, 2400, .inl (fun _ => 0)))] A z H _ := hH
  refine mputF C (ty := .array .int) hnm [(h, .inr (1, [.int 0, .int 0, .int 1, .int 0, .ref q1_, .null, .null, .int 0, .null, .int 0, .long 0, .long 0, .int 0, .int 0, .null, .null, .null, .int 0, .int 0, .null])), (q1_, .inl (E.1, 2400, .inl (fun _ => 0)))] 4 q244 (by decide) rfl rfl (by decide +kernel) rfl rfl (Nat.le_of_ble_eq_true rfl) hH rfl rfl dX2_init_15 (fun H locs hH => ?_)
  refine v_aload_n C dX2_init_18 rfl 0 rfl ?_
  refine v_bipush C 60 (by decide) dX2_init_19 ?_
  refine v_newi C 60 (2, 2460) hH rfl (by decide) rfl ⟨by rw [hz]; decide, by rw [hz]; decide⟩ dX2_init_21 (fun q2_ H hH => ?_)
  have hH : wH E [(h, .inr (1, [.int 0, .int 0, .int 1, .int 0, .ref q1_, .null, .null, .int 0, .null, .int 0, .long 0, .long 0, .int 0, .int 0, .null, .null, .null, .int 0, .int 0, .null])), (q1_, .inl (E.1, 2400, .inl (fun _ => 0))), (q2_, .inl (E.1, 60, .inl (fun _ => 0)))] A z H _ := hH
  refine mputF C (ty := .array .int) hnm [(h, .inr (1, [.int 0, .int 0, .int 1, .int 0, .ref q1_, .ref q2_, .null, .int 0, .null, .int 0, .long 0, .long 0, .int 0, .int 0, .null, .null, .null, .int 0, .int 0, .null])), (q1_, .inl (E.1, 2400, .inl (fun _ => 0))), (q2_, .inl (E.1, 60, .inl (fun _ => 0)))] 5 q245 (by decide) rfl rfl (by decide +kernel) rfl rfl (Nat.le_of_ble_eq_true rfl) hH rfl rfl dX2_init_23 (fun H locs hH => ?_)
  refine v_aload_n C dX2_init_26 rfl 0 rfl ?_
  refine v_bipush C 40 (by decide) dX2_init_27 ?_
  refine v_newi C 40 (3, 2500) hH rfl (by decide) rfl ⟨by rw [hz]; decide, by rw [hz]; decide⟩ dX2_init_29 (fun q3_ H hH => ?_)
  have hH : wH E [(h, .inr (1, [.int 0, .int 0, .int 1, .int 0, .ref q1_, .ref q2_, .null, .int 0, .null, .int 0, .long 0, .long 0, .int 0, .int 0, .null, .null, .null, .int 0, .int 0, .null])), (q1_, .inl (E.1, 2400, .inl (fun _ => 0))), (q2_, .inl (E.1, 60, .inl (fun _ => 0))), (q3_, .inl (E.1, 40, .inl (fun _ => 0)))] A z H _ := hH
  refine mputF C (ty := .array .int) hnm [(h, .inr (1, [.int 0, .int 0, .int 1, .int 0, .ref q1_, .ref q2_, .ref q3_, .int 0, .null, .int 0, .long 0, .long 0, .int 0, .int 0, .null, .null, .null, .int 0, .int 0, .null])), (q1_, .inl (E.1, 2400, .inl (fun _ => 0))), (q2_, .inl (E.1, 60, .inl (fun _ => 0))), (q3_, .inl (E.1, 40, .inl (fun _ => 0)))] 6 q246 (by decide) rfl rfl (by decide +kernel) rfl rfl (Nat.le_of_ble_eq_true rfl) hH rfl rfl dX2_init_31 (fun H locs hH => ?_)
  refine v_aload_n C dX2_init_34 rfl 0 rfl ?_
  refine v_bipush C 64 (by decide) dX2_init_35 ?_
  refine v_newi C 64 (4, 2564) hH rfl (by decide) rfl ⟨by rw [hz]; decide, by rw [hz]; decide⟩ dX2_init_37 (fun q4_ H hH => ?_)
  have hH : wH E [(h, .inr (1, [.int 0, .int 0, .int 1, .int 0, .ref q1_, .ref q2_, .ref q3_, .int 0, .null, .int 0, .long 0, .long 0, .int 0, .int 0, .null, .null, .null, .int 0, .int 0, .null])), (q1_, .inl (E.1, 2400, .inl (fun _ => 0))), (q2_, .inl (E.1, 60, .inl (fun _ => 0))), (q3_, .inl (E.1, 40, .inl (fun _ => 0))), (q4_, .inl (E.1, 64, .inl (fun _ => 0)))] A z H _ := hH
  refine mputF C (ty := .array .int) hnm [(h, .inr (1, [.int 0, .int 0, .int 1, .int 0, .ref q1_, .ref q2_, .ref q3_, .int 0, .ref q4_, .int 0, .long 0, .long 0, .int 0, .int 0, .null, .null, .null, .int 0, .int 0, .null])), (q1_, .inl (E.1, 2400, .inl (fun _ => 0))), (q2_, .inl (E.1, 60, .inl (fun _ => 0))), (q3_, .inl (E.1, 40, .inl (fun _ => 0))), (q4_, .inl (E.1, 64, .inl (fun _ => 0)))] 8 q248 (by decide) rfl rfl (by decide +kernel) rfl rfl (Nat.le_of_ble_eq_true rfl) hH rfl rfl dX2_init_39 (fun H locs hH => ?_)
  refine v_aload_n C dX2_init_42 rfl 0 rfl ?_
  refine v_iconst C 1 (by decide) dX2_init_43 ?_
  refine mputN C (ty := .int) [(h, .inr (1, [.int 0, .int 0, .int 1, .int 0, .ref q1_, .ref q2_, .ref q3_, .int 0, .ref q4_, .int 0, .long 0, .long 0, .int 1, .int 0, .null, .null, .null, .int 0, .int 0, .null])), (q1_, .inl (E.1, 2400, .inl (fun _ => 0))), (q2_, .inl (E.1, 60, .inl (fun _ => 0))), (q3_, .inl (E.1, 40, .inl (fun _ => 0))), (q4_, .inl (E.1, 64, .inl (fun _ => 0)))] 12 q252 (by decide) rfl rfl (by decide +kernel) rfl rfl (Nat.le_of_ble_eq_true rfl) hH rfl rfl dX2_init_44 (fun H locs hH => ?_)
  refine v_aload_n C dX2_init_47 rfl 0 rfl ?_
  refine v_sipush C 4400 (by decide) dX2_init_48 ?_
  refine v_newi C 4400 (5, 6964) hH rfl (by decide) rfl ⟨by rw [hz]; decide, by rw [hz]; decide⟩ dX2_init_51 (fun q5_ H hH => ?_)
  have hH : wH E [(h, .inr (1, [.int 0, .int 0, .int 1, .int 0, .ref q1_, .ref q2_, .ref q3_, .int 0, .ref q4_, .int 0, .long 0, .long 0, .int 1, .int 0, .null, .null, .null, .int 0, .int 0, .null])), (q1_, .inl (E.1, 2400, .inl (fun _ => 0))), (q2_, .inl (E.1, 60, .inl (fun _ => 0))), (q3_, .inl (E.1, 40, .inl (fun _ => 0))), (q4_, .inl (E.1, 64, .inl (fun _ => 0))), (q5_, .inl (E.1, 4400, .inl (fun _ => 0)))] A z H _ := hH
  refine mputF C (ty := .array .int) hnm [(h, .inr (1, [.int 0, .int 0, .int 1, .int 0, .ref q1_, .ref q2_, .ref q3_, .int 0, .ref q4_, .int 0, .long 0, .long 0, .int 1, .int 0, .ref q5_, .null, .null, .int 0, .int 0, .null])), (q1_, .inl (E.1, 2400, .inl (fun _ => 0))), (q2_, .inl (E.1, 60, .inl (fun _ => 0))), (q3_, .inl (E.1, 40, .inl (fun _ => 0))), (q4_, .inl (E.1, 64, .inl (fun _ => 0))), (q5_, .inl (E.1, 4400, .inl (fun _ => 0)))] 14 q254 (by decide) rfl rfl (by decide +kernel) rfl rfl (Nat.le_of_ble_eq_true rfl) hH rfl rfl dX2_init_53 (fun H locs hH => ?_)
  refine v_aload_n C dX2_init_56 rfl 0 rfl ?_
  refine v_sipush C 4400 (by decide) dX2_init_57 ?_
  refine v_newl C 4400 (6, 11364) hH rfl (by decide) rfl ⟨by rw [hz]; decide, by rw [hz]; decide⟩ dX2_init_60 (fun q6_ H hH => ?_)
  have hH : wH E [(h, .inr (1, [.int 0, .int 0, .int 1, .int 0, .ref q1_, .ref q2_, .ref q3_, .int 0, .ref q4_, .int 0, .long 0, .long 0, .int 1, .int 0, .ref q5_, .null, .null, .int 0, .int 0, .null])), (q1_, .inl (E.1, 2400, .inl (fun _ => 0))), (q2_, .inl (E.1, 60, .inl (fun _ => 0))), (q3_, .inl (E.1, 40, .inl (fun _ => 0))), (q4_, .inl (E.1, 64, .inl (fun _ => 0))), (q5_, .inl (E.1, 4400, .inl (fun _ => 0))), (q6_, .inl (E.2.1, 4400, .inr (.inl (fun _ => 0))))] A z H _ := hH
  refine mputF C (ty := .array .long) hnm [(h, .inr (1, [.int 0, .int 0, .int 1, .int 0, .ref q1_, .ref q2_, .ref q3_, .int 0, .ref q4_, .int 0, .long 0, .long 0, .int 1, .int 0, .ref q5_, .ref q6_, .null, .int 0, .int 0, .null])), (q1_, .inl (E.1, 2400, .inl (fun _ => 0))), (q2_, .inl (E.1, 60, .inl (fun _ => 0))), (q3_, .inl (E.1, 40, .inl (fun _ => 0))), (q4_, .inl (E.1, 64, .inl (fun _ => 0))), (q5_, .inl (E.1, 4400, .inl (fun _ => 0))), (q6_, .inl (E.2.1, 4400, .inr (.inl (fun _ => 0))))] 15 q255 (by decide) rfl rfl (by decide +kernel) rfl rfl (Nat.le_of_ble_eq_true rfl) hH rfl rfl dX2_init_62 (fun H locs hH => ?_)
  refine v_aload_n C dX2_init_65 rfl 0 rfl ?_
  refine v_sipush C 4400 (by decide) dX2_init_66 ?_
  refine v_newi C 4400 (7, 15764) hH rfl (by decide) rfl ⟨by rw [hz]; decide, by rw [hz]; decide⟩ dX2_init_69 (fun q7_ H hH => ?_)
  have hH : wH E [(h, .inr (1, [.int 0, .int 0, .int 1, .int 0, .ref q1_, .ref q2_, .ref q3_, .int 0, .ref q4_, .int 0, .long 0, .long 0, .int 1, .int 0, .ref q5_, .ref q6_, .null, .int 0, .int 0, .null])), (q1_, .inl (E.1, 2400, .inl (fun _ => 0))), (q2_, .inl (E.1, 60, .inl (fun _ => 0))), (q3_, .inl (E.1, 40, .inl (fun _ => 0))), (q4_, .inl (E.1, 64, .inl (fun _ => 0))), (q5_, .inl (E.1, 4400, .inl (fun _ => 0))), (q6_, .inl (E.2.1, 4400, .inr (.inl (fun _ => 0)))), (q7_, .inl (E.1, 4400, .inl (fun _ => 0)))] A z H _ := hH
  refine mputF C (ty := .array .int) hnm [(h, .inr (1, [.int 0, .int 0, .int 1, .int 0, .ref q1_, .ref q2_, .ref q3_, .int 0, .ref q4_, .int 0, .long 0, .long 0, .int 1, .int 0, .ref q5_, .ref q6_, .ref q7_, .int 0, .int 0, .null])), (q1_, .inl (E.1, 2400, .inl (fun _ => 0))), (q2_, .inl (E.1, 60, .inl (fun _ => 0))), (q3_, .inl (E.1, 40, .inl (fun _ => 0))), (q4_, .inl (E.1, 64, .inl (fun _ => 0))), (q5_, .inl (E.1, 4400, .inl (fun _ => 0))), (q6_, .inl (E.2.1, 4400, .inr (.inl (fun _ => 0)))), (q7_, .inl (E.1, 4400, .inl (fun _ => 0)))] 16 q256 (by decide) rfl rfl (by decide +kernel) rfl rfl (Nat.le_of_ble_eq_true rfl) hH rfl rfl dX2_init_71 (fun H locs hH => ?_)
  refine v_aload_n C dX2_init_74 rfl 0 rfl ?_
  refine v_sipush C 4400 (by decide) dX2_init_75 ?_
  refine v_newi C 4400 (8, 20164) hH rfl (by decide) rfl ⟨by rw [hz]; decide, by rw [hz]; decide⟩ dX2_init_78 (fun q8_ H hH => ?_)
  have hH : wH E [(h, .inr (1, [.int 0, .int 0, .int 1, .int 0, .ref q1_, .ref q2_, .ref q3_, .int 0, .ref q4_, .int 0, .long 0, .long 0, .int 1, .int 0, .ref q5_, .ref q6_, .ref q7_, .int 0, .int 0, .null])), (q1_, .inl (E.1, 2400, .inl (fun _ => 0))), (q2_, .inl (E.1, 60, .inl (fun _ => 0))), (q3_, .inl (E.1, 40, .inl (fun _ => 0))), (q4_, .inl (E.1, 64, .inl (fun _ => 0))), (q5_, .inl (E.1, 4400, .inl (fun _ => 0))), (q6_, .inl (E.2.1, 4400, .inr (.inl (fun _ => 0)))), (q7_, .inl (E.1, 4400, .inl (fun _ => 0))), (q8_, .inl (E.1, 4400, .inl (fun _ => 0)))] A z H _ := hH
  refine mputF C (ty := .array .int) hnm [(h, .inr (1, [.int 0, .int 0, .int 1, .int 0, .ref q1_, .ref q2_, .ref q3_, .int 0, .ref q4_, .int 0, .long 0, .long 0, .int 1, .int 0, .ref q5_, .ref q6_, .ref q7_, .int 0, .int 0, .ref q8_])), (q1_, .inl (E.1, 2400, .inl (fun _ => 0))), (q2_, .inl (E.1, 60, .inl (fun _ => 0))), (q3_, .inl (E.1, 40, .inl (fun _ => 0))), (q4_, .inl (E.1, 64, .inl (fun _ => 0))), (q5_, .inl (E.1, 4400, .inl (fun _ => 0))), (q6_, .inl (E.2.1, 4400, .inr (.inl (fun _ => 0)))), (q7_, .inl (E.1, 4400, .inl (fun _ => 0))), (q8_, .inl (E.1, 4400, .inl (fun _ => 0)))] 19 q259 (by decide) rfl rfl (by decide +kernel) rfl rfl (Nat.le_of_ble_eq_true rfl) hH rfl rfl dX2_init_80 (fun H locs hH => ?_)
  refine v_aload_n C dX2_init_83 rfl 0 rfl ?_
  have k107 : ∀ v : Int32, v = nI (rmN r) → V z (8, 20164) H locs (MQ (zb z) (va_Qv (fun u : DS × GG => u.2.1 = h ∧ mNew u.1 r) (fun u t => va_P E.2.2 vwCl (mW E u.2 u.1) t.heap ∧ va_K E.2.2 vwCl (tys2 E) t ∧ va_D A (mW E u.2 u.1)) A) (za z) (zs z) 8 20164 A) 107 [(0, .ref h), (1, .int r)] [.int v, .ref h] := by
    intro v hv
    subst hv
    refine mputF C (ty := .int) hnm [(h, .inr (1, [.int (nI (rmN r)), .int 0, .int 1, .int 0, .ref q1_, .ref q2_, .ref q3_, .int 0, .ref q4_, .int 0, .long 0, .long 0, .int 1, .int 0, .ref q5_, .ref q6_, .ref q7_, .int 0, .int 0, .ref q8_])), (q1_, .inl (E.1, 2400, .inl (fun _ => 0))), (q2_, .inl (E.1, 60, .inl (fun _ => 0))), (q3_, .inl (E.1, 40, .inl (fun _ => 0))), (q4_, .inl (E.1, 64, .inl (fun _ => 0))), (q5_, .inl (E.1, 4400, .inl (fun _ => 0))), (q6_, .inl (E.2.1, 4400, .inr (.inl (fun _ => 0)))), (q7_, .inl (E.1, 4400, .inl (fun _ => 0))), (q8_, .inl (E.1, 4400, .inl (fun _ => 0)))] 0 q240 (by decide) rfl rfl (by decide +kernel) rfl rfl (Nat.le_of_ble_eq_true rfl) hH rfl rfl dX2_init_107 (fun H locs hH => ?_)
    obtain ⟨gg, hgg⟩ : ∃ gg : GG, gg = (h, fun k => if k = 4 then q1_ else if k = 5 then q2_ else if k = 6 then q3_ else if k = 8 then q4_ else if k = 14 then q5_ else if k = 15 then q6_ else if k = 16 then q7_ else if k = 19 then q8_ else 0) := ⟨_, rfl⟩
    obtain ⟨y0, hy0⟩ : ∃ y0 : DS, y0 = (fun k => if k = 0 then nI (rmN r) else if k = 2 then 1 else if k = 12 then 1 else 0, fun _ => 0, fun _ _ => 0, fun _ => 0) := ⟨_, rfl⟩
    have hH : wH E (mW E gg y0) A z H locs := by rw [hgg, hy0]; exact hH
    refine v_vretI (y0, gg) C hH ⟨by rw [hgg], ?_⟩ dX2_init_110
    rw [hy0]
    exact ⟨⟨DOK_nil, ⟨rfl, hrm.1, hrm.2⟩, rfl, rfl, rfl, fun w hw => absurd hw (Nat.not_lt_zero _)⟩, ⟨rfl, Nat.zero_le _, fun k hk => absurd hk (Nat.not_lt_zero _)⟩, ⟨⟨rfl, fun k hk => absurd hk (Nat.not_lt_zero _), rfl, rfl, rfl⟩, ⟨rfl, Nat.zero_le _, fun k hk => absurd hk (Nat.not_lt_zero _)⟩⟩, Or.inr ⟨rfl, rfl⟩⟩
  refine v_iload_n C dX2_init_84 rfl 1 rfl ?_
  refine v_iconst C 1 (by decide) dX2_init_85 ?_
  refine v_icmp_ge C 93 dX2_init_86 (by decide) (fun c0 => ?_) (fun c0 => ?_)
  · refine v_iload_n C dX2_init_93 rfl 1 rfl ?_
    refine v_sipush C 2000 (by decide) dX2_init_94 ?_
    refine v_icmp_le C 106 dX2_init_97 (by decide) (fun c1 => ?_) (fun c1 => ?_)
    · refine v_iload_n C dX2_init_106 rfl 1 rfl ?_
      exact k107 _ (s3 (Int32.not_lt.mpr c0) (Int32.not_lt.mpr c1)).symm
    · refine v_sipush C 2000 (by decide) dX2_init_100 ?_
      refine v_goto C 107 dX2_init_103 (by decide) ?_
      exact k107 _ (by rw [s2 (Int32.not_lt.mpr c0) (Int32.not_le.mp c1)]; rfl)
  · refine v_iconst C 1 (by decide) dX2_init_89 ?_
    refine v_goto C 107 dX2_init_90 (by decide) ?_
    exact k107 _ (by rw [s1 (Int32.not_le.mp c0)]; rfl)
end
section
/-! THE CLAIM OUT OF ONE WALK OF THE LAW'S BODY. Your part is whole_start (and what it stands on); all else here is the same for every law, but numbers. -/
def R_law : String := "ScanDeskLaw"
def lw_P (b : Addr) (xs : List Int32) (args : Array Value) (s : State) : Prop := args = #[.ref b] ∧ s.IntsAt b xs ∧ xs.length ≤ 3585 ∧ (Jvm.Cond.and given_1 narrow_1).before args s = true
def lw_Q (_ : Array Value) (s : State) (o : Outcome) (t : State) : Prop := o = .returned (some (.int 1)) ∧ Framed s o t [] 600000 7290000
def lw_Z (below : List Frame) (a : Array Value) (s : State) : State → Prop := fun t => ∃ o, t.status = .running ∧ Ended t below o ∧ lw_Q a s o t
/-- the law's own end, with 1 on the stack, nothing written that was there before, its room as the claim has it -/
theorem lw_ret {p : Program} {l : Launch} {e : Env} {s : State} {m : MethodId} {below : List Frame} {meth : Method} {c : Code} {b : Nat} (hx : p.tables.exec = Jvm.exec) (hb : c.code = code) (hr : meth.sig.returnType = ret) (hlocks : meth.locks = false) {pc : Nat} {H : Heap} {ls : Array Slot} (hdg : decode code pc = .ok (.ireturn, 1)) : W p l e room_1 s m #[Value.ref b] below meth c H [] 600000 7290000 (lw_Z below #[Value.ref b] s) (F0 m pc ls [.int 1]) := by
  intro T hT X
  obtain ⟨fs, hret, hrun, hended, hW, hframe⟩ := X.leave (v := some (.int 1)) (hlocks := hlocks) (fun h => by rw [hr] at h; cases h)
  have hmeth' : T.vm.method? m = some meth := X.method'
  refine ⟨T.setFrames fs, ?_, .returned (some (.int 1)), hrun, hended, rfl, ⟨_, rfl⟩, hW, hframe⟩
  jvm_step X.here [X.here.top, hx, hb, hdg, hmeth', hr, ret, narrow_b1]
  (try refine ⟨rfl, ?_⟩); (try refine ⟨rfl, ?_⟩)
  first | (intro acts; rw [hret _ acts rfl rfl rfl]) | rw [hret _ _ rfl rfl rfl]
  exact Steps.refl _
/-- what holds at the law's entry: the machine, the code, the tables' words (any of lw_tbl by 'hts w (by decide +kernel)'), the script of L ints xs at the cell b, what the Statement gives of the start (any of its parts by flat_of_before) -/
def lw_At (p : Program) (s : State) (m : MethodId) (meth : Method) (c : Code) (b L : Nat) (xs : Nat → Int32) : Prop :=
  p.tables.exec = Jvm.exec ∧ c.code = code ∧ meth.sig.returnType = ret ∧ c.maxLocals = 4 ∧ s.vm.findClass R_law = some m.cls ∧ (∀ w ∈ lw_tbl, w.before #[Value.ref b] s = true) ∧ va_X b L xs s s.heap ∧ b < s.heap.size ∧ meth.locks = false ∧ (Jvm.Cond.and given_1 narrow_1).before #[Value.ref b] s = true
end
section
/-! Desk and model side by side, plainly: after each call they answer alike and stay together -/
def RelP (x y : DS) (n : Nat) (D : List Wd) (dr : Wd) (bt : Bool) (N rm : Nat) (R : Nat → Wd) (K : Nat → List Nat) (t : TS) (pk : List Nat) : Prop :=
  (kDict x D bt N rm R K ∧ kDr x dr ∧ kTS x N R t ∧ kPk x pk) ∧ (mDict y D bt N rm ∧ mDr y dr ∧ mTS y t ∧ mPk y pk) ∧ TOK D t ∧ t.2.2.1 ≤ 4611686018427387904 + 20 * n ∧ t.2.2.2.1 ≤ 1 + 20 * n
def Rel (x y : DS) (n : Nat) : Prop := ∃ (D : List Wd) (dr : Wd) (bt : Bool) (N rm : Nat) (R : Nat → Wd) (K : Nat → List Nat) (t : TS) (pk : List Nat), RelP x y n D dr bt N rm R K t pk
section RL
variable {x y u v : DS} {n : Nat} {D : List Wd} {dr : Wd} {bt : Bool} {N rm : Nat} {R : Nat → Wd} {K : Nat → List Nat} {t : TS} {pk : List Nat}
theorem RelP.next (h : RelP x y n D dr bt N rm R K t pk) : Rel x y (n + 1) := ⟨D, dr, bt, N, rm, R, K, t, pk, h.1, h.2.1, h.2.2.1, by have := h.2.2.2.1; omega, by have := h.2.2.2.2; omega⟩
theorem RelP.new {r : Int32} (hx : kNew x r) (hy : mNew y r) : Rel x y 0 := ⟨[], [], false, 1, rmN r, fun _ => [], fun _ => [], ([], 0, 0, 1, []), [], hx, hy, t0_ok, Nat.zero_le _, Nat.le_refl _⟩
theorem RelP.kk (h : RelP x y n D dr bt N rm R K t pk) (hn : n ≤ 511) : kK x D t.2.2.2.2 t.2.2.1 := ⟨h.1.2.2.1.2, h.1.1.2.1.2, h.1.1.2.2.1, h.2.2.1.2.1, by have := h.2.2.2.1; omega⟩
theorem RelP.mk (h : RelP x y n D dr bt N rm R K t pk) (hn : n ≤ 511) : mK y D t.2.2.2.2 t.2.2.1 := ⟨h.2.1.2.2.1.2, fun w hw => (h.2.1.1.2.2.2.2.2 w hw).1, h.1.1.2.2.1, h.2.2.1.2.1, by have := h.2.2.2.1; omega⟩
theorem RelP.ml (h : RelP x y n D dr bt N rm R K t pk) : mLn y t.2.2.2.2 := ⟨h.2.1.2.2.1.2, fun k hk => (h.2.2.1.2.1.1 k hk).2.2.2⟩
theorem RelP.put (h : RelP x y n D dr bt N rm R K t pk) {b r1 r2 : Int32} (h1 : (pcd bt dr b → r1 = nI (dr.length + 1) ∧ u = pA (pI x 16 (nI (dr.length + 1))) 15 dr.length b) ∧ (¬ pcd bt dr b → r1 = -1 ∧ u = x)) (h2 : (pcd bt dr b → r2 = nI (dr.length + 1) ∧ v = pI (pA y 6 dr.length b) 7 (nI (dr.length + 1))) ∧ (¬ pcd bt dr b → r2 = -1 ∧ v = y)) : r1 = r2 ∧ Rel u v (n + 1) := by
  by_cases hp : pcd bt dr b
  · obtain ⟨e1, e2⟩ := h1.1 hp
    obtain ⟨e3, e4⟩ := h2.1 hp
    refine ⟨e1.trans e3.symm, ?_⟩
    subst e2
    subst e4
    obtain ⟨⟨a1, a2, a3, a4⟩, ⟨b1, b2, b3, b4⟩, c1, c2, c3⟩ := h
    have hl : (dr ++ [b]).length = dr.length + 1 := by simp
    have h40 := a2.2.1
    have hp2 := hp.2.1
    refine ⟨D, dr ++ [b], bt, N, rm, R, K, t, pk, ⟨a1.congr rfl, ⟨by rw [hl]; rfl, by omega, fun k hk => ?_⟩, ⟨a3.1.congr rfl rfl, a3.2.congr rfl⟩, a4.congr rfl⟩, ⟨b1.congr rfl, ⟨by rw [hl]; rfl, by omega, fun k hk => ?_⟩, ⟨b3.1.congr rfl rfl, b3.2.congr rfl⟩, b4.congr rfl⟩, c1, by omega, by omega⟩
    · rw [hl] at hk
      show upd (sA x 15) dr.length b k = _
      by_cases e : k = dr.length
      · subst e; rw [upd_self, getD_snoc]
      · rw [upd_ne e, getD_app (by omega)]; exact a2.2.2 k (by omega)
    · rw [hl] at hk
      show upd (sA y 6) dr.length b k = _
      by_cases e : k = dr.length
      · subst e; rw [upd_self, getD_snoc]
      · rw [upd_ne e, getD_app (by omega)]; exact b2.2.2 k (by omega)
  · obtain ⟨e1, e2⟩ := h1.2 hp
    obtain ⟨e3, e4⟩ := h2.2 hp
    subst e2
    subst e4
    exact ⟨e1.trans e3.symm, h.next⟩
theorem RelP.add (h : RelP x y n D dr bt N rm R K t pk) {r1 r2 : Int32}
    (h1 : (bt = true → r1 = -1 ∧ u = x) ∧ (bt = false → ¬ acd D dr N rm → r1 = -1 ∧ u = pI x 16 0) ∧ (bt = false → acd D dr N rm → r1 = nI D.length ∧ (∃ (R' : Nat → Wd) (K : Nat → List Nat), kDict u (D ++ [dr]) false (N + dr.length - com D dr D.length) rm R' K ∧ ∀ n, n < N → R' n = R n) ∧ kDr u [] ∧ kX u = kX x ∧ kP u = kP x ∧ kY u = kY x ∧ kF u = kF x))
    (h2 : (bt = true → r2 = -1 ∧ v = y) ∧ (bt = false → ¬ acd D dr N rm → r2 = -1 ∧ v = pI y 7 0) ∧ (bt = false → acd D dr N rm → r2 = nI D.length ∧ mDict v (D ++ [dr]) false (N + dr.length - com D dr D.length) rm ∧ mDr v [] ∧ mX v = mX y ∧ mY v = mY y ∧ mF v = mF y ∧ mQ v = mQ y)) : r1 = r2 ∧ Rel u v (n + 1) := by
  cases bt with
  | true =>
    obtain ⟨e1, e2⟩ := h1.1 rfl
    obtain ⟨e3, e4⟩ := h2.1 rfl
    subst e2
    subst e4
    exact ⟨e1.trans e3.symm, h.next⟩
  | false =>
    obtain ⟨⟨a1, a2, a3, a4⟩, ⟨b1, b2, b3, b4⟩, c1, c2, c3⟩ := h
    by_cases ha : acd D dr N rm
    · obtain ⟨e1, ⟨R', K', d1, d2⟩, d3, d4, d5, d6, d7⟩ := h1.2.2 rfl ha
      obtain ⟨e2, f1, f2, f3, f4, f5, f6⟩ := h2.2.2 rfl ha
      refine ⟨e1.trans e2.symm, D ++ [dr], [], false, _, rm, R', K', t, pk, ⟨d1, d3, ⟨?_, a3.2.congr d7⟩, a4.congr d5⟩, ⟨f1, f2, ⟨b3.1.congr f3 f4, b3.2.congr f5⟩, b4.congr f6⟩, ⟨isPre_add.mpr (Or.inl c1.1), c1.2.1.add, c1.2.2⟩, by omega, by omega⟩
      obtain ⟨⟨m, m1, m2, m3⟩, g1, g2, g3⟩ := a3.1.congr d4 d6
      have hcl := com_le (D := D) (d := dr) D.length
      exact ⟨⟨m, by omega, (d2 m m1).trans m2, m3⟩, g1, g2, g3⟩
    · obtain ⟨e1, e2⟩ := h1.2.1 rfl ha
      obtain ⟨e3, e4⟩ := h2.2.1 rfl ha
      subst e2
      subst e4
      exact ⟨e1.trans e3.symm, D, [], false, N, rm, R, K, t, pk, ⟨a1.congr rfl, ⟨rfl, Nat.zero_le _, fun k hk => absurd hk (Nat.not_lt_zero _)⟩, ⟨a3.1.congr rfl rfl, a3.2.congr rfl⟩, a4.congr rfl⟩, ⟨b1.congr rfl, ⟨rfl, Nat.zero_le _, fun k hk => absurd hk (Nat.not_lt_zero _)⟩, ⟨b3.1.congr rfl rfl, b3.2.congr rfl⟩, b4.congr rfl⟩, c1, by omega, by omega⟩
theorem RelP.build (h : RelP x y n D dr bt N rm R K t pk) {r1 r2 : Int32} (h1 : (bt = true → r1 = -1 ∧ u = x) ∧ (bt = false → r1 = nI N ∧ kDict u D true N rm R K ∧ kD u = kD x ∧ kX u = kX x ∧ kP u = kP x ∧ kY u = kY x ∧ kF u = kF x)) (h2 : (bt = true → r2 = -1 ∧ v = y) ∧ (bt = false → r2 = nI N ∧ v = pI y 1 1)) : r1 = r2 ∧ Rel u v (n + 1) := by
  cases bt with
  | true =>
    obtain ⟨e1, e2⟩ := h1.1 rfl
    obtain ⟨e3, e4⟩ := h2.1 rfl
    subst e2
    subst e4
    exact ⟨e1.trans e3.symm, h.next⟩
  | false =>
    obtain ⟨⟨a1, a2, a3, a4⟩, ⟨b1, b2, b3, b4⟩, c1, c2, c3⟩ := h
    obtain ⟨e1, d1, d2, d3, d4, d5, d6⟩ := h1.2 rfl
    obtain ⟨e2, e3⟩ := h2.2 rfl
    subst e3
    obtain ⟨f1, f2, f3, f4, f5, f6⟩ := b1
    exact ⟨e1.trans e2.symm, D, dr, true, N, rm, R, K, t, pk, ⟨d1, a2.congr d2, ⟨a3.1.congr d3 d5, a3.2.congr d6⟩, a4.congr d4⟩, ⟨⟨f1, f2, rfl, f4, f5, f6⟩, b2.congr rfl, ⟨b3.1.congr rfl rfl, b3.2.congr rfl⟩, b4.congr rfl⟩, c1, by omega, by omega⟩
theorem RelP.text (h : RelP x y n D dr bt N rm R K t pk) (hn : n ≤ 511) {a b c d e m r1 r2 : Int32}
    (h1 : (tcd bt m t.2.2.2.2 → r1 = nI (txt D (tb a b c d e) m.toNatClampNeg t).2.2.2.2.length - nI t.2.2.2.2.length ∧ kT u = kT x ∧ kD u = kD x ∧ kTS u N R (txt D (tb a b c d e) m.toNatClampNeg t) ∧ kPk u (if 0 < m then [] else pk)) ∧ (¬ tcd bt m t.2.2.2.2 → r1 = -1 ∧ u = x))
    (h2 : (tcd bt m t.2.2.2.2 → r2 = nI (txt D (tb a b c d e) m.toNatClampNeg t).2.2.2.2.length - nI t.2.2.2.2.length ∧ mT v = mT y ∧ mD v = mD y ∧ mTS v (txt D (tb a b c d e) m.toNatClampNeg t) ∧ mPk v (if 0 < m then [] else pk)) ∧ (¬ tcd bt m t.2.2.2.2 → r2 = -1 ∧ v = y)) : r1 = r2 ∧ Rel u v (n + 1) := by
  by_cases ht : tcd bt m t.2.2.2.2
  · obtain ⟨e1, d1, d2, d3, d4⟩ := h1.1 ht
    obtain ⟨e2, f1, f2, f3, f4⟩ := h2.1 ht
    obtain ⟨⟨a1, a2, a3, a4⟩, ⟨b1, b2, b3, b4⟩, c1, c2, c3⟩ := h
    obtain ⟨j, hj, ej⟩ := nI_of2 (x := m) (M := 20) (n := 20) (by decide) ht.2.1 (Int32.not_lt.mp ht.2.2.1)
    have hcl : m.toNatClampNeg = j := by rw [ej]; exact nI_clamp (by omega)
    have hpl := txt_pl (D := D) (f := tb a b c d e) (t := t) j
    have hln := txt_ln (D := D) (f := tb a b c d e) (t := t) j
    rw [hcl] at d3 f3
    exact ⟨e1.trans e2.symm, D, dr, bt, N, rm, R, K, _, _, ⟨a1.congr d1, a2.congr d2, d3, d4⟩, ⟨b1.congr f1, b2.congr f2, f3, f4⟩, c1.txt j (by omega), by omega, by omega⟩
  · obtain ⟨e1, e2⟩ := h1.2 ht
    obtain ⟨e3, e4⟩ := h2.2 ht
    subst e2
    subst e4
    exact ⟨e1.trans e3.symm, h.next⟩
theorem RelP.skip (h : RelP x y n D dr bt N rm R K t pk) (hn : n ≤ 511) {m : Int64} {r1 r2 : Int32} (h1 : (scd bt m t.2.2.1 → r1 = 1 ∧ u = pI (pL x 18 (lN t.2.2.1 + m)) 17 0) ∧ (¬ scd bt m t.2.2.1 → r1 = 0 ∧ u = x)) (h2 : (scd bt m t.2.2.1 → r2 = 1 ∧ v = pI (pL y 11 (lN t.2.2.1 + m)) 9 0) ∧ (¬ scd bt m t.2.2.1 → r2 = 0 ∧ v = y)) : r1 = r2 ∧ Rel u v (n + 1) := by
  by_cases hs : scd bt m t.2.2.1
  · obtain ⟨e1, e2⟩ := h1.1 hs
    obtain ⟨e3, e4⟩ := h2.1 hs
    obtain ⟨⟨a1, a2, a3, a4⟩, ⟨b1, b2, b3, b4⟩, c1, c2, c3⟩ := h
    obtain ⟨j, rfl, hj⟩ := scd_of (by omega) hs
    rw [lN_add] at e2 e4
    subst e2
    subst e4
    refine ⟨e1.trans e3.symm, D, dr, bt, N, rm, R, K, ([], t.2.1, t.2.2.1 + j, t.2.2.2.1, t.2.2.2.2), pk, ⟨a1.congr rfl, a2.congr rfl, ⟨⟨⟨0, a1.1.1.1, a1.1.2.1, rfl⟩, rfl, a3.1.2.2.1, a3.1.2.2.2⟩, a3.2.congr rfl⟩, a4.congr rfl⟩, ⟨b1.congr rfl, b2.congr rfl, ⟨⟨rfl, fun k hk => absurd hk (Nat.not_lt_zero _), b3.1.2.2.1, rfl, b3.1.2.2.2.2⟩, b3.2.congr rfl⟩, b4.congr rfl⟩, ⟨rfl, c1.2.1.mono (Nat.le_add_right _ _), c1.2.2⟩, ?_, ?_⟩
    · show t.2.2.1 + j ≤ _; omega
    · show t.2.2.2.1 ≤ _; omega
  · obtain ⟨e1, e2⟩ := h1.2 hs
    obtain ⟨e3, e4⟩ := h2.2 hs
    subst e2
    subst e4
    exact ⟨e1.trans e3.symm, h.next⟩
theorem RelP.pick (h : RelP x y n D dr bt N rm R K t pk) {r1 r2 : Int32} (h1 : r1 = nI (pks D t.2.2.2.2).length ∧ kT u = kT x ∧ kD u = kD x ∧ kX u = kX x ∧ kY u = kY x ∧ kF u = kF x ∧ kPk u (pks D t.2.2.2.2)) (h2 : r2 = nI (pks D t.2.2.2.2).length ∧ mT v = mT y ∧ mD v = mD y ∧ mX v = mX y ∧ mY v = mY y ∧ mF v = mF y ∧ mPk v (pks D t.2.2.2.2)) : r1 = r2 ∧ Rel u v (n + 1) := by
  obtain ⟨⟨a1, a2, a3, a4⟩, ⟨b1, b2, b3, b4⟩, c1, c2, c3⟩ := h
  obtain ⟨e1, d1, d2, d3, d4, d5, d6⟩ := h1
  obtain ⟨e2, f1, f2, f3, f4, f5, f6⟩ := h2
  exact ⟨e1.trans e2.symm, D, dr, bt, N, rm, R, K, t, _, ⟨a1.congr d1, a2.congr d2, ⟨a3.1.congr d3 d4, a3.2.congr d5⟩, d6⟩, ⟨b1.congr f1, b2.congr f2, ⟨b3.1.congr f3 f4, b3.2.congr f5⟩, f6⟩, c1, by omega, by omega⟩
end RL
end
section
/-! The law: rows of its own, its sixteen cases, its loop -/
abbrev aN (z : ZZ) : Nat → Prop := fun q => (zs z).heap.size ≤ q
def dis (w1 w2 : va_W) : Prop := ∀ (i j : Nat) (p q : Nat × va_E), w1[i]? = some p → w2[j]? = some q → p.1 ≠ q.1
/-- two worlds side by side -/
def wL (E : EE) (w1 w2 : va_W) (z : ZZ) (H : Heap) (locs : List Loc) : Prop := wP E w1 H ∧ wP E w2 H ∧ va_D (aN z) w1 ∧ va_D (aN z) w2 ∧ dis w1 w2 ∧ va_S (aN z) (zs z).heap H locs
theorem wL.swap {E : EE} {w1 w2 : va_W} {z : ZZ} {H : Heap} {locs : List Loc} (h : wL E w1 w2 z H locs) : wL E w2 w1 z H locs := ⟨h.2.1, h.1, h.2.2.2.1, h.2.2.1, fun i j p q hp hq e => h.2.2.2.2.1 j i q p hq hp e.symm, h.2.2.2.2.2⟩
theorem dis_frame {E : EE} {w1 w1' w2 : va_W} {H H1 : Heap} (hP2 : wP E w2 H) (hd : dis w1 w2) (hk : ∀ q : Nat, q < H.size → ¬ va_A w1 H.size q → H1[q]? = H[q]?) (hD1 : va_D (va_A w1 H.size) w1') : wP E w2 H1 ∧ dis w1' w2 := by
  have key : ∀ (j : Nat) (q : Nat × va_E), w2[j]? = some q → q.1 < H.size ∧ ¬ va_A w1 H.size q.1 := by
    intro j q hq
    have hl := (hP2 j q hq).lt
    refine ⟨hl, fun h => ?_⟩
    rcases h with ⟨k, e, h⟩ | h
    · exact hd k j (q.1, e) q h hq rfl
    · omega
  refine ⟨fun j q hq => (hP2 j q hq).kept (hk q.1 (key j q hq).1 (key j q hq).2), fun i j p q hp hq e => ?_⟩
  have := hD1.2 i p hp
  rw [e] at this
  exact (key j q hq).2 this
theorem cut_P {D : va_G} {cl : List vw_C} {w1 w2 : va_W} {H : Heap} (h : va_P D cl (w1 ++ w2) H) : va_P D cl w1 H ∧ va_P D cl w2 H := by
  refine ⟨fun k q hk => h k q ?_, fun k q hk => h (w1.length + k) q ?_⟩
  · rw [List.getElem?_append_left (List.getElem?_eq_some_iff.mp hk).1]; exact hk
  · rw [List.getElem?_append_right (by omega), Nat.add_sub_cancel_left]; exact hk
theorem cut_D {A : Nat → Prop} {w1 w2 : va_W} (h : va_D A (w1 ++ w2)) : va_D A w1 ∧ va_D A w2 ∧ dis w1 w2 := by
  have l : ∀ (k : Nat) (q : Nat × va_E), w1[k]? = some q → (w1 ++ w2)[k]? = some q := fun k q hk => by rw [List.getElem?_append_left (List.getElem?_eq_some_iff.mp hk).1]; exact hk
  have r : ∀ (k : Nat) (q : Nat × va_E), w2[k]? = some q → (w1 ++ w2)[w1.length + k]? = some q := fun k q hk => by rw [List.getElem?_append_right (by omega), Nat.add_sub_cancel_left]; exact hk
  refine ⟨⟨fun i j p q hi hj e => h.1 i j p q (l i p hi) (l j q hj) e, fun k q hk => h.2 k q (l k q hk)⟩, ⟨fun i j p q hi hj e => ?_, fun k q hk => h.2 _ q (r k q hk)⟩, fun i j p q hi hj e => ?_⟩
  · have := h.1 _ _ p q (r i p hi) (r j q hj) e
    omega
  · have h1 := h.1 _ _ p q (l i p hi) (r j q hj) e
    have h2 := (List.getElem?_eq_some_iff.mp hi).1
    omega
section VL
variable {z : ZZ} {cs : Nat × Nat} {H : Heap} {locs : List Loc} {Q : State → Prop} {pc : Nat} {lv : List (Nat × Value)} {st : List Value} {own : String} {cc : ByteArray} {nL : Nat} {ret' : Option FieldType} {E : EE}
theorem v_sld (C : kC own cc nL ret' E z) {b L : Nat} {xs : Nat → Int32} {A : Nat → Prop} (hX : va_X b L xs (zs z) (zs z).heap) (hbl : b < (zs z).heap.size) (hA : ¬ A b) (hS : va_S A (zs z).heap H locs) {i : Int32} (j : Nat) (hi : i = nI j) (hj : j < L) (hL : L < 2147483648) (hdg : decode cc pc = .ok (.iaload, 1)) (kk : V z cs H locs Q (pc + 1) lv (.int (xs j) :: st)) : V z cs H locs Q pc lv (.int i :: .ref b :: st) := by
  subst hi
  intro ls hl
  refine va_sld C.1.1 C.1.2.1 hX hbl hA hS (vp_in_nI hj hL) hdg ?_
  rw [nI_clamp (by omega)]
  exact kk ls hl
theorem v_slen (C : kC own cc nL ret' E z) {b L : Nat} {xs : Nat → Int32} {A : Nat → Prop} (hX : va_X b L xs (zs z) (zs z).heap) (hbl : b < (zs z).heap.size) (hA : ¬ A b) (hS : va_S A (zs z).heap H locs) (hdg : decode cc pc = .ok (.arraylength, 1)) (kk : V z cs H locs Q (pc + 1) lv (.int (nI L) :: st)) : V z cs H locs Q pc lv (.ref b :: st) := fun ls hl => va_slen C.1.1 C.1.2.1 hX hbl hA hS hdg (kk ls hl)
theorem v_tabIn (C : kC own cc nL ret' E z) {dflt lo hi : Int} {offs : Array Int} {len : Nat} {x : Int32} {off : Int} (tgt : Nat) (hdg : decode cc pc = .ok (.tableswitch dflt lo hi offs, len)) (h1 : ¬ x.toInt < lo) (h2 : ¬ hi < x.toInt) (ho : offs[(x.toInt - lo).toNat]? = some off) (ht : (pc : Int) + off = (tgt : Int)) (kk : V z cs H locs Q tgt lv st) : V z cs H locs Q pc lv (.int x :: st) := fun ls hl => lv_tableIn C.1.1 C.1.2.1 hdg h1 h2 ho ht (kk ls hl)
theorem l_callWi (C : kC own cc nL ret' E z) {y : MethodName} {index maxL lev n ci : Nat} {bytes : ByteArray} {ret1 : Option FieldType} {wf : DS → va_W} {w2 : va_W} {x : DS} {b : Nat} {As rest fs : List Value} {vC : vw_C} {post : Int32 → DS → Prop} (hM : MWi (zl z) y bytes maxL ret1 lev E wf x (.ref b :: As) post) (G : GoodIn lw_all (wsV own index vC.1 y (ws_ y bytes maxL ret1))) (hd : y.cls = vC.1 ∧ y.cls ≠ "java/lang/invoke/MethodHandle" ∧ y.cls ≠ "java/lang/invoke/VarHandle" ∧ (parseMethodDescriptor y.desc).map (fun d => d.parameters.length) = some n) (hR : rmOK (lev + 1) cs z) (hm : maxL ≤ 21) (hL : wL E (wf x) w2 z H locs) (hc : vwCl[ci]? = some vC) (he : (wf x)[0]? = some (b, .inr (ci, fs)))
    (hst : st = As.reverse ++ .ref b :: rest) (hr : (rest.map fun v => v.category).sum ≤ 8) (hn : As.length = n) (hdg : decode cc pc = .ok (.invokevirtual index, 3)) (kk : ∀ (r : Int32) (u : DS) (H1 : Heap) (locs1 : List Loc), post r u → wL E (wf u) w2 z H1 locs1 → V z cs H1 locs1 Q (pc + 3) lv (.int r :: rest)) : V z cs H locs Q pc lv st := by
  intro ls hl
  subst hst
  obtain ⟨hP, hP2, hD, hD2, hdis, hS⟩ := hL
  have hFc : ∀ q, va_A (wf x) H.size q → aN z q := by
    intro q h
    rcases h with ⟨k, e, h⟩ | h
    · exact hD.2 k (q, e) h
    · exact Nat.le_trans hS.1 h
  refine va_calli (va_runV (rest := rest) C.1 (hM H.size) (v_cw C G hd hR hm) ⟨mP_blind, va_recv C.2.1 hP hc he, fun U hU hW => ⟨rfl, by rw [hU], by rw [hU]; exact hP, va_K.moved hW.alike C.2.1, hD.weaken (fun _ _ _ _ => trivial)⟩⟩ rfl hn (hl.1.trans C.1.2.2.1) rfl (lv_room hr) hdg ⟨hR.2.2.1, hR.2.2.2⟩) hS (fun q _ h => hFc q h) hFc (fun r u t H1 locs1 ht hvm hw1 hB hz1 hk1 hS1 => ?_)
  obtain ⟨hP1, hK1, hD1⟩ := hB
  rw [ht] at hP1
  obtain ⟨f1, f2⟩ := dis_frame hP2 hdis hk1 hD1
  exact kk r u H1 locs1 hw1 ⟨hP1, f1, hD1.weaken (fun k q _ h => hFc q.1 h), hD2, f2, hS1⟩ ls hl
/-- a constructor is called -/
theorem l_callI (C : kC own cc nL ret' E z) {y : MethodName} {index maxL mc ms n : Nat} {bytes : ByteArray} {w0 w2 : va_W} {S : Type} {wf : S → va_W} {b : Nat} {As rest : List Value} {post : S → Prop} (cs' : Nat × Nat) (hM : ∀ sz : Nat, Met (zl z) y (ws_ y bytes maxL none) (rmI mc ms) (va_Pc (.ref b :: As) (mP E w0 sz)) (va_Qv post (fun u t => va_P E.2.2 vwCl (wf u) t.heap ∧ va_K E.2.2 vwCl (tys2 E) t ∧ va_D (va_A w0 sz) (wf u)) (va_A w0 sz)) mc ms (va_A w0 sz)) (q1 : Cond.code y bytes maxL none ∈ lw_all) (q2 : Cond.initialized y.cls ∈ lw_all) (q3 : Cond.methodLink own index y ∈ lw_all) (q4 : Cond.instanceMethod y ∈ lw_all) (hy : y.name = "<init>") (hd : y.cls ≠ "java/lang/invoke/MethodHandle" ∧ y.cls ≠ "java/lang/invoke/VarHandle" ∧ (parseMethodDescriptor y.desc).map (fun d => d.parameters.length) = some n) (hR : rmOK 2 cs' z) (hcs : (cs.1 + mc, cs.2 + ms) = cs') (hm : maxL ≤ 21) (hL : wL E w0 w2 z H locs)
    (hst : st = As.reverse ++ .ref b :: rest) (hr : (rest.map fun v => v.category).sum ≤ 8) (hn : As.length = n) (hdg : decode cc pc = .ok (.invokespecial index, 3)) (kk : ∀ (u : S) (H1 : Heap) (locs1 : List Loc), post u → wL E (wf u) w2 z H1 locs1 → V z cs' H1 locs1 Q (pc + 3) lv rest) : V z cs H locs Q pc lv st := by
  subst hcs
  intro ls hl
  subst hst
  obtain ⟨hP, hP2, hD, hD2, hdis, hS⟩ := hL
  obtain ⟨r1, r2, r3, r4⟩ := hR
  have hFc : ∀ q, va_A w0 H.size q → aN z q := by
    intro q h
    rcases h with ⟨k, e, h⟩ | h
    · exact hD.2 k (q, e) h
    · exact Nat.le_trans hS.1 h
  refine va_callv (va_runI (rest := rest) C.1 (hM H.size) (cwI n C.1.2.2.2.2 (lw_meth q1) rfl rfl rfl (C.1.2.2.2.2 _ q2) (C.1.2.2.2.2 _ q3) (C.1.2.2.2.2 _ q4) hy hd ⟨r1, by show 8 + (maxL + 11) + 40 ≤ _; omega⟩) ⟨mP_blind, fun U hU hW => ⟨rfl, by rw [hU], by rw [hU]; exact hP, va_K.moved hW.alike C.2.1, hD.weaken (fun _ _ _ _ => trivial)⟩⟩ rfl hn (hl.1.trans C.1.2.2.1) rfl (lv_room hr) hdg ⟨r3, r4⟩) hS (fun q _ h => hFc q h) hFc (fun u t H1 locs1 ht hvm hw1 hB hz1 hk1 hS1 => ?_)
  obtain ⟨hP1, hK1, hD1⟩ := hB
  rw [ht] at hP1
  obtain ⟨f1, f2⟩ := dis_frame hP2 hdis hk1 hD1
  exact kk u H1 locs1 hw1 ⟨hP1, f1, hD1.weaken (fun k q _ h => hFc q.1 h), hD2, f2, hS1⟩ ls hl
theorem l_newK (C : kC R_law cc nL ret' E z) {w : va_W} (cs' : Nat × Nat) (hP : wP E w H) (hD : va_D (aN z) w) (hS : va_S (aN z) (zs z).heap H locs) (hcs : (cs.1 + 1, cs.2 + 29) = cs') (hr : cs'.1 ≤ (zR z).cells ∧ cs'.2 ≤ (zR z).slots) (hdg : decode cc pc = .ok (.new 7, 3)) (kk : ∀ (q : Nat) (H1 : Heap), wL E (kW0 q) w z H1 locs → V z cs' H1 locs Q (pc + 3) lv (.ref q :: st)) : V z cs H locs Q pc lv st := by
  subst hcs
  intro ls hl
  refine va_new (D := E.2.2) (ci := 0) (fs := [.int 0, .null, .null, .null, .null, .null, .null, .null, .null, .int 0, .int 0, .null, .null, .null, .int 0, .null, .int 0, .int 0, .long 0, .long 0, .int 0, .int 0, .null, .int 0, .null, .null, .int 0, .null, .int 0]) (C := RX1) (T := TX1) (N := 29) C.1.1 C.1.2.1 C.1.2.2.2.2 in_X1 tyX1 tyX1_ok C.1.2.2.2.1 (C.1.2.2.2.2 _ q20) (C.1.2.2.2.2 _ q21) (C.1.2.2.2.2 _ q17) C.2.1 hP hD hS (fun q h => h) rfl (fun j hj => match j, hj with | 0, _ => rfl | 1, _ => rfl | 2, _ => rfl | 3, _ => rfl | 4, _ => rfl | 5, _ => rfl | 6, _ => rfl | 7, _ => rfl | 8, _ => rfl | 9, _ => rfl | 10, _ => rfl | 11, _ => rfl | 12, _ => rfl | 13, _ => rfl | 14, _ => rfl | 15, _ => rfl | 16, _ => rfl | 17, _ => rfl | 18, _ => rfl | 19, _ => rfl | 20, _ => rfl | 21, _ => rfl | 22, _ => rfl | 23, _ => rfl | 24, _ => rfl | 25, _ => rfl | 26, _ => rfl | 27, _ => rfl | 28, _ => rfl | n + 29, h => absurd h (by omega)) hr.1 hr.2 hdg (fun q H1 h1 h2 h3 => ?_)
  obtain ⟨a1, a2⟩ := cut_P h1
  obtain ⟨b1, b2, b3⟩ := cut_D h2
  exact kk q H1 (wL.swap ⟨a1, a2, b1, b2, b3, h3⟩) ls hl
theorem l_newM (C : kC R_law cc nL ret' E z) {w : va_W} (cs' : Nat × Nat) (hP : wP E w H) (hD : va_D (aN z) w) (hS : va_S (aN z) (zs z).heap H locs) (hcs : (cs.1 + 1, cs.2 + 20) = cs') (hr : cs'.1 ≤ (zR z).cells ∧ cs'.2 ≤ (zR z).slots) (hdg : decode cc pc = .ok (.new 18, 3)) (kk : ∀ (q : Nat) (H1 : Heap), wL E (mW0 q) w z H1 locs → V z cs' H1 locs Q (pc + 3) lv (.ref q :: st)) : V z cs H locs Q pc lv st := by
  subst hcs
  intro ls hl
  refine va_new (D := E.2.2) (ci := 1) (fs := [.int 0, .int 0, .int 0, .int 0, .null, .null, .null, .int 0, .null, .int 0, .long 0, .long 0, .int 0, .int 0, .null, .null, .null, .int 0, .int 0, .null]) (C := RX2) (T := TX2) (N := 20) C.1.1 C.1.2.1 C.1.2.2.2.2 in_X2 tyX2 tyX2_ok C.1.2.2.2.1 (C.1.2.2.2.2 _ q234) (C.1.2.2.2.2 _ q235) (C.1.2.2.2.2 _ q19) C.2.1 hP hD hS (fun q h => h) rfl (fun j hj => match j, hj with | 0, _ => rfl | 1, _ => rfl | 2, _ => rfl | 3, _ => rfl | 4, _ => rfl | 5, _ => rfl | 6, _ => rfl | 7, _ => rfl | 8, _ => rfl | 9, _ => rfl | 10, _ => rfl | 11, _ => rfl | 12, _ => rfl | 13, _ => rfl | 14, _ => rfl | 15, _ => rfl | 16, _ => rfl | 17, _ => rfl | 18, _ => rfl | 19, _ => rfl | n + 20, h => absurd h (by omega)) hr.1 hr.2 hdg (fun q H1 h1 h2 h3 => ?_)
  obtain ⟨a1, a2⟩ := cut_P h1
  obtain ⟨b1, b2, b3⟩ := cut_D h2
  exact kk q H1 (wL.swap ⟨a1, a2, b1, b2, b3, h3⟩) ls hl
end VL
/-- cell(script, 0) -/
def cell0 (L : Nat) (xs : Nat → Int32) : Int32 := if 0 < L then xs 0 else 0
theorem metX0_cell (l : Launch) {E : EE} {b L : Nat} {xs : Nat → Int32} (hL : L < 2147483648) : Met l yX0_cell (ws_ yX0_cell cX0_cell 2 (some .int)) (rmK 0) (va_Pc [.ref b, .int 0] (fun U => va_X b L xs U U.heap ∧ b < U.heap.size ∧ va_K E.2.2 vwCl (tys2 E) U)) (vp_Si (fun r => r = cell0 L xs)) 0 0 (fun _ => False) := by
  refine Met.ofW (cc := cX0_cell) (maxL := 2) (ret := some .int) (by decide) rfl ?_
  intro p e s m args below meth c s₁ B hml hv
  obtain ⟨rfl, hX, hbl, hK⟩ := hv
  have hts := atoms_spec (ws := ws_ yX0_cell cX0_cell 2 (some .int)) B.pre
  have hts : ∀ w ∈ lw_all, w.before _ s = true := fun w h => hts w (List.mem_cons_of_mem _ h)
  have hown : s.vm.findClass RX0 = some m.cls := findClass_of_methodNamed B.named
  have hl := lv_entry ([.ref b, .int 0] : List Value) (n := 2) (Nat.le_of_ble_eq_true rfl)
  rw [lg_entry_eq]
  obtain ⟨z, hz⟩ : ∃ z : ZZ, z = (p, l, e, rmK 0, s, m, ([.ref b, .int 0] : List Value).toArray, below, meth, c) := ⟨_, rfl⟩
  have C : kC RX0 cX0_cell 2 (some .int) E z := by rw [hz]; exact ⟨⟨B.exec, B.bytes, hml, hown, hts⟩, hK, B.returns, B.notSynchronized⟩
  have hX : va_X b L xs (zs z) (zs z).heap := by rw [hz]; exact hX
  have hbl : b < (zs z).heap.size := by rw [hz]; exact hbl
  have hA : ¬ (fun _ : Nat => False) b := fun h => h
  have hS : va_S (fun _ => False) (zs z).heap (zs z).heap [] := va_S.rf
  have main : V z (0, 0) (zs z).heap [] (QRi z (fun r => r = cell0 L xs)) 0 [(0, .ref b), (1, .int 0)] [] := by
    refine v_iload_n C dX0_cell_0 rfl 1 rfl ?_
    refine v_aload_n C dX0_cell_1 rfl 0 rfl ?_
    refine v_slen C hX hbl hA hS dX0_cell_2 ?_
    refine v_icmp_ge C 12 dX0_cell_3 (by decide) (fun c0 => ?_) (fun c0 => ?_)
    · refine v_iconst C 0 (by decide) dX0_cell_12 ?_
      exact v_iretR C rfl (by unfold cell0; rw [if_neg]; intro h; exact absurd c0 (nI_ge h hL)) dX0_cell_13
    · have h0 : 0 < L := Nat.pos_of_ne_zero (fun e => c0 (by rw [e]; decide))
      refine v_aload_n C dX0_cell_6 rfl 0 rfl ?_
      refine v_iload_n C dX0_cell_7 rfl 1 rfl ?_
      refine v_sld C hX hbl hA hS 0 rfl h0 hL dX0_cell_8 ?_
      refine v_goto C 13 dX0_cell_9 (by decide) ?_
      exact v_iretR C rfl (by unfold cell0; rw [if_pos h0]) dX0_cell_13
  subst hz
  exact main _ (by show lv_has _ c.maxLocals _; rw [hml]; exact hl)
theorem l_cell {z : ZZ} {cs : Nat × Nat} {H : Heap} {locs : List Loc} {Q : State → Prop} {pc : Nat} {lv : List (Nat × Value)} {st : List Value} {cc : ByteArray} {nL : Nat} {ret' : Option FieldType} {E : EE} {b L : Nat} {xs : Nat → Int32} (C : kC R_law cc nL ret' E z) (hR : rmOK 1 cs z) (hX : va_X b L xs (zs z) (zs z).heap) (hbl : b < (zs z).heap.size) (hL : L < 2147483648) (hS : va_S (aN z) (zs z).heap H locs) (hr : (st.map fun v => v.category).sum ≤ 8) (hdg : decode cc pc = .ok (.invokestatic 9, 3)) (kk : V z cs H locs Q (pc + 3) lv (.int (cell0 L xs) :: st)) : V z cs H locs Q pc lv (.int 0 :: .ref b :: st) := by
  intro ls hl
  have hA : ¬ aN z b := fun h => absurd hbl (Nat.not_lt.mpr h)
  have hX2 : va_X b L xs (zs z) H := hX.kept (hS.2.1 b hbl hA)
  have hb2 : b < H.size := Nat.lt_of_lt_of_le hbl hS.1
  refine vp_callSi (W.runS (As := [.ref b, .int 0]) (rest := st) C.1 (metX0_cell (zl z) (E := E) (b := b) (xs := xs) hL) (va_cwS 2 C.1.2.2.2.2 (lw_S q231 q232 q16 q233) rfl rfl rfl (by decide +kernel) ⟨hR.1, by have := hR.2.1; show 8 + (2 + 11) + 40 * 0 ≤ _; omega⟩) ⟨fun a U g mk q => ⟨q.1, q.2.1.moved (U := U.calling g mk a) (Vm.Alike.refl U.vm), q.2.2.1, va_K.moved (u := U) (U := U.calling g mk a) (Vm.Alike.refl U.vm) q.2.2.2⟩, fun U hU hW => ⟨rfl, by rw [hU]; exact hX2.moved hW.alike, by rw [hU]; exact hb2, va_K.moved hW.alike C.2.1⟩⟩ rfl rfl (hl.1.trans C.1.2.2.1) rfl (lv_room hr) hdg ⟨hR.2.2.1, hR.2.2.2⟩) (fun r h => ?_)
  rw [h]
  exact kk ls hl
end
section
theorem law_put {z : ZZ} {cs : Nat × Nat} {H : Heap} {locs : List Loc} {Q : State → Prop} {E : EE} {g g2 : GG} {x y : DS} {b L i n : Nat} {xs : Nat → Int32} (C : kC R_law code 4 ret E z) (hR : rmOK 4 cs z) (hX : va_X b L xs (zs z) (zs z).heap) (hbl : b < (zs z).heap.size) (hLL : L ≤ 3585) (hi : i + 7 ≤ L) (hn : n ≤ 511) (hRel : Rel x y n) (hL : wL E (kW E g x) (mW E g2 y) z H locs) (kk : ∀ (x y : DS) (H : Heap) (locs : List Loc), Rel x y (n + 1) → wL E (kW E g x) (mW E g2 y) z H locs → V z cs H locs Q 493 [(0, .ref b), (1, .ref g.1), (2, .ref g2.1), (3, .int (nI i))] []) : V z cs H locs Q 120 [(0, .ref b), (1, .ref g.1), (2, .ref g2.1), (3, .int (nI i))] [] := by
  obtain ⟨D, dr, bt, N, rm, R, K, t, pk, hp⟩ := hRel
  have hbA : ¬ aN z b := fun h => absurd hbl (Nat.not_lt.mpr h)
  refine v_aload_n C dL_law_120 rfl 1 rfl ?_
  refine v_aload_n C dL_law_121 rfl 0 rfl ?_
  refine v_iload_n C dL_law_122 rfl 3 rfl ?_
  refine v_iconst C 1 (by decide) dL_law_123 ?_
  refine v_iadd C dL_law_124 ?_
  refine v_ei (y := nI (i + 1)) (nI_add i 1) ?_
  refine v_sld C hX hbl hbA hL.2.2.2.2.2 (i + 1) rfl (by omega) (by omega) dL_law_125 ?_
  refine l_callWi C (ci := 0) (vC := (RX1, TX1, 29)) (As := [.int (xs (i + 1))]) (rest := []) (b := g.1) (wf := kW E g) (metX1_put (zl z) (xs (i + 1)) hp.1.1.2.2.2.2.2.1 hp.1.2.1) (lw_V q128 q129 q130 q17 q131) DX1_put (hR.lower (by decide)) (by decide) hL rfl rfl rfl (Nat.le_of_ble_eq_true rfl) rfl dL_law_126 (fun r1 u H locs p1 hL => ?_)
  refine v_aload_n C dL_law_129 rfl 2 rfl ?_
  refine v_aload_n C dL_law_130 rfl 0 rfl ?_
  refine v_iload_n C dL_law_131 rfl 3 rfl ?_
  refine v_iconst C 1 (by decide) dL_law_132 ?_
  refine v_iadd C dL_law_133 ?_
  refine v_ei (y := nI (i + 1)) (nI_add i 1) ?_
  refine v_sld C hX hbl hbA hL.2.2.2.2.2 (i + 1) rfl (by omega) (by omega) dL_law_134 ?_
  refine l_callWi C (ci := 1) (vC := (RX2, TX2, 20)) (As := [.int (xs (i + 1))]) (rest := [.int r1]) (b := g2.1) (wf := mW E g2) (metX2_put (zl z) (xs (i + 1)) hp.2.1.1.2.2.1 hp.2.1.2.1) (lw_V q301 q302 q303 q19 q304) DX2_put (hR.lower (by decide)) (by decide) hL.swap rfl rfl rfl (Nat.le_of_ble_eq_true rfl) rfl dL_law_135 (fun r2 v H locs p2 hL => ?_)
  have hL := hL.swap
  refine v_icmp_eq C 493 dL_law_138 (by decide) (fun c0 => ?_) (fun c0 => ?_)
  · exact kk u v H locs (hp.put p1 p2).2 hL
  · exact absurd (hp.put p1 p2).1 c0
theorem law_add {z : ZZ} {cs : Nat × Nat} {H : Heap} {locs : List Loc} {Q : State → Prop} {E : EE} {g g2 : GG} {x y : DS} {b L i n : Nat} {xs : Nat → Int32} (C : kC R_law code 4 ret E z) (hR : rmOK 4 cs z) (hX : va_X b L xs (zs z) (zs z).heap) (hbl : b < (zs z).heap.size) (hLL : L ≤ 3585) (hi : i + 7 ≤ L) (hn : n ≤ 511) (hRel : Rel x y n) (hL : wL E (kW E g x) (mW E g2 y) z H locs) (kk : ∀ (x y : DS) (H : Heap) (locs : List Loc), Rel x y (n + 1) → wL E (kW E g x) (mW E g2 y) z H locs → V z cs H locs Q 493 [(0, .ref b), (1, .ref g.1), (2, .ref g2.1), (3, .int (nI i))] []) : V z cs H locs Q 143 [(0, .ref b), (1, .ref g.1), (2, .ref g2.1), (3, .int (nI i))] [] := by
  obtain ⟨D, dr, bt, N, rm, R, K, t, pk, hp⟩ := hRel
  have hbA : ¬ aN z b := fun h => absurd hbl (Nat.not_lt.mpr h)
  refine v_aload_n C dL_law_143 rfl 1 rfl ?_
  refine l_callWi C (ci := 0) (vC := (RX1, TX1, 29)) (As := []) (rest := []) (b := g.1) (wf := kW E g) (metX1_add (zl z) hp.1.1 hp.1.2.1) (lw_V q132 q133 q134 q17 q135) DX1_add (hR.lower (by decide)) (by decide) hL rfl rfl rfl (Nat.le_of_ble_eq_true rfl) rfl dL_law_144 (fun r1 u H locs p1 hL => ?_)
  refine v_aload_n C dL_law_147 rfl 2 rfl ?_
  refine l_callWi C (ci := 1) (vC := (RX2, TX2, 20)) (As := []) (rest := [.int r1]) (b := g2.1) (wf := mW E g2) (metX2_add (zl z) hp.2.1.1 hp.2.1.2.1) (lw_V q305 q306 q307 q19 q308) DX2_add (hR.lower (by decide)) (by decide) hL.swap rfl rfl rfl (Nat.le_of_ble_eq_true rfl) rfl dL_law_148 (fun r2 v H locs p2 hL => ?_)
  have hL := hL.swap
  refine v_icmp_eq C 493 dL_law_151 (by decide) (fun c0 => ?_) (fun c0 => ?_)
  · exact kk u v H locs (hp.add p1 p2).2 hL
  · exact absurd (hp.add p1 p2).1 c0
theorem law_build {z : ZZ} {cs : Nat × Nat} {H : Heap} {locs : List Loc} {Q : State → Prop} {E : EE} {g g2 : GG} {x y : DS} {b L i n : Nat} {xs : Nat → Int32} (C : kC R_law code 4 ret E z) (hR : rmOK 4 cs z) (hX : va_X b L xs (zs z) (zs z).heap) (hbl : b < (zs z).heap.size) (hLL : L ≤ 3585) (hi : i + 7 ≤ L) (hn : n ≤ 511) (hRel : Rel x y n) (hL : wL E (kW E g x) (mW E g2 y) z H locs) (kk : ∀ (x y : DS) (H : Heap) (locs : List Loc), Rel x y (n + 1) → wL E (kW E g x) (mW E g2 y) z H locs → V z cs H locs Q 493 [(0, .ref b), (1, .ref g.1), (2, .ref g2.1), (3, .int (nI i))] []) : V z cs H locs Q 156 [(0, .ref b), (1, .ref g.1), (2, .ref g2.1), (3, .int (nI i))] [] := by
  obtain ⟨D, dr, bt, N, rm, R, K, t, pk, hp⟩ := hRel
  have hbA : ¬ aN z b := fun h => absurd hbl (Nat.not_lt.mpr h)
  refine v_aload_n C dL_law_156 rfl 1 rfl ?_
  refine l_callWi C (ci := 0) (vC := (RX1, TX1, 29)) (As := []) (rest := []) (b := g.1) (wf := kW E g) (metX1_build (zl z) hp.1.1) (lw_V q140 q141 q142 q17 q143) DX1_build (hR.lower (by decide)) (by decide) hL rfl rfl rfl (Nat.le_of_ble_eq_true rfl) rfl dL_law_157 (fun r1 u H locs p1 hL => ?_)
  refine v_aload_n C dL_law_160 rfl 2 rfl ?_
  refine l_callWi C (ci := 1) (vC := (RX2, TX2, 20)) (As := []) (rest := [.int r1]) (b := g2.1) (wf := mW E g2) (metX2_build (zl z) (N := N) hp.2.1.1.2.2.1 hp.2.1.1.2.2.2.1) (lw_V q309 q310 q311 q19 q312) DX2_build (hR.lower (by decide)) (by decide) hL.swap rfl rfl rfl (Nat.le_of_ble_eq_true rfl) rfl dL_law_161 (fun r2 v H locs p2 hL => ?_)
  have hL := hL.swap
  refine v_icmp_eq C 493 dL_law_164 (by decide) (fun c0 => ?_) (fun c0 => ?_)
  · exact kk u v H locs (hp.build p1 p2).2 hL
  · exact absurd (hp.build p1 p2).1 c0
theorem law_text {z : ZZ} {cs : Nat × Nat} {H : Heap} {locs : List Loc} {Q : State → Prop} {E : EE} {g g2 : GG} {x y : DS} {b L i n : Nat} {xs : Nat → Int32} (C : kC R_law code 4 ret E z) (hR : rmOK 4 cs z) (hX : va_X b L xs (zs z) (zs z).heap) (hbl : b < (zs z).heap.size) (hLL : L ≤ 3585) (hi : i + 7 ≤ L) (hn : n ≤ 511) (hRel : Rel x y n) (hL : wL E (kW E g x) (mW E g2 y) z H locs) (kk : ∀ (x y : DS) (H : Heap) (locs : List Loc), Rel x y (n + 1) → wL E (kW E g x) (mW E g2 y) z H locs → V z cs H locs Q 493 [(0, .ref b), (1, .ref g.1), (2, .ref g2.1), (3, .int (nI i))] []) : V z cs H locs Q 169 [(0, .ref b), (1, .ref g.1), (2, .ref g2.1), (3, .int (nI i))] [] := by
  obtain ⟨D, dr, bt, N, rm, R, K, t, pk, hp⟩ := hRel
  have hbA : ¬ aN z b := fun h => absurd hbl (Nat.not_lt.mpr h)
  refine v_aload_n C dL_law_169 rfl 1 rfl ?_
  refine v_aload_n C dL_law_170 rfl 0 rfl ?_
  refine v_iload_n C dL_law_171 rfl 3 rfl ?_
  refine v_iconst C 1 (by decide) dL_law_172 ?_
  refine v_iadd C dL_law_173 ?_
  refine v_ei (y := nI (i + 1)) (nI_add i 1) ?_
  refine v_sld C hX hbl hbA hL.2.2.2.2.2 (i + 1) rfl (by omega) (by omega) dL_law_174 ?_
  refine v_aload_n C dL_law_175 rfl 0 rfl ?_
  refine v_iload_n C dL_law_176 rfl 3 rfl ?_
  refine v_iconst C 2 (by decide) dL_law_177 ?_
  refine v_iadd C dL_law_178 ?_
  refine v_ei (y := nI (i + 2)) (nI_add i 2) ?_
  refine v_sld C hX hbl hbA hL.2.2.2.2.2 (i + 2) rfl (by omega) (by omega) dL_law_179 ?_
  refine v_aload_n C dL_law_180 rfl 0 rfl ?_
  refine v_iload_n C dL_law_181 rfl 3 rfl ?_
  refine v_iconst C 3 (by decide) dL_law_182 ?_
  refine v_iadd C dL_law_183 ?_
  refine v_ei (y := nI (i + 3)) (nI_add i 3) ?_
  refine v_sld C hX hbl hbA hL.2.2.2.2.2 (i + 3) rfl (by omega) (by omega) dL_law_184 ?_
  refine v_aload_n C dL_law_185 rfl 0 rfl ?_
  refine v_iload_n C dL_law_186 rfl 3 rfl ?_
  refine v_iconst C 4 (by decide) dL_law_187 ?_
  refine v_iadd C dL_law_188 ?_
  refine v_ei (y := nI (i + 4)) (nI_add i 4) ?_
  refine v_sld C hX hbl hbA hL.2.2.2.2.2 (i + 4) rfl (by omega) (by omega) dL_law_189 ?_
  refine v_aload_n C dL_law_190 rfl 0 rfl ?_
  refine v_iload_n C dL_law_191 rfl 3 rfl ?_
  refine v_iconst C 5 (by decide) dL_law_192 ?_
  refine v_iadd C dL_law_193 ?_
  refine v_ei (y := nI (i + 5)) (nI_add i 5) ?_
  refine v_sld C hX hbl hbA hL.2.2.2.2.2 (i + 5) rfl (by omega) (by omega) dL_law_194 ?_
  refine v_aload_n C dL_law_195 rfl 0 rfl ?_
  refine v_iload_n C dL_law_196 rfl 3 rfl ?_
  refine v_bipush C 6 (by decide) dL_law_197 ?_
  refine v_iadd C dL_law_199 ?_
  refine v_ei (y := nI (i + 6)) (nI_add i 6) ?_
  refine v_sld C hX hbl hbA hL.2.2.2.2.2 (i + 6) rfl (by omega) (by omega) dL_law_200 ?_
  refine l_callWi C (ci := 0) (vC := (RX1, TX1, 29)) (As := [.int (xs (i + 1)), .int (xs (i + 2)), .int (xs (i + 3)), .int (xs (i + 4)), .int (xs (i + 5)), .int (xs (i + 6))]) (rest := []) (b := g.1) (wf := kW E g) (metX1_text (zl z) (xs (i + 1)) (xs (i + 2)) (xs (i + 3)) (xs (i + 4)) (xs (i + 5)) (xs (i + 6)) hp.1.1 hp.1.2.2.1 hp.1.2.2.2 hp.2.2.1 (by have := hp.2.2.2.2; omega)) (lw_V q148 q149 q150 q17 q151) DX1_text (hR.lower (by decide)) (by decide) hL rfl rfl rfl (Nat.le_of_ble_eq_true rfl) rfl dL_law_201 (fun r1 u H locs p1 hL => ?_)
  refine v_aload_n C dL_law_204 rfl 2 rfl ?_
  refine v_aload_n C dL_law_205 rfl 0 rfl ?_
  refine v_iload_n C dL_law_206 rfl 3 rfl ?_
  refine v_iconst C 1 (by decide) dL_law_207 ?_
  refine v_iadd C dL_law_208 ?_
  refine v_ei (y := nI (i + 1)) (nI_add i 1) ?_
  refine v_sld C hX hbl hbA hL.2.2.2.2.2 (i + 1) rfl (by omega) (by omega) dL_law_209 ?_
  refine v_aload_n C dL_law_210 rfl 0 rfl ?_
  refine v_iload_n C dL_law_211 rfl 3 rfl ?_
  refine v_iconst C 2 (by decide) dL_law_212 ?_
  refine v_iadd C dL_law_213 ?_
  refine v_ei (y := nI (i + 2)) (nI_add i 2) ?_
  refine v_sld C hX hbl hbA hL.2.2.2.2.2 (i + 2) rfl (by omega) (by omega) dL_law_214 ?_
  refine v_aload_n C dL_law_215 rfl 0 rfl ?_
  refine v_iload_n C dL_law_216 rfl 3 rfl ?_
  refine v_iconst C 3 (by decide) dL_law_217 ?_
  refine v_iadd C dL_law_218 ?_
  refine v_ei (y := nI (i + 3)) (nI_add i 3) ?_
  refine v_sld C hX hbl hbA hL.2.2.2.2.2 (i + 3) rfl (by omega) (by omega) dL_law_219 ?_
  refine v_aload_n C dL_law_220 rfl 0 rfl ?_
  refine v_iload_n C dL_law_221 rfl 3 rfl ?_
  refine v_iconst C 4 (by decide) dL_law_222 ?_
  refine v_iadd C dL_law_223 ?_
  refine v_ei (y := nI (i + 4)) (nI_add i 4) ?_
  refine v_sld C hX hbl hbA hL.2.2.2.2.2 (i + 4) rfl (by omega) (by omega) dL_law_224 ?_
  refine v_aload_n C dL_law_225 rfl 0 rfl ?_
  refine v_iload_n C dL_law_226 rfl 3 rfl ?_
  refine v_iconst C 5 (by decide) dL_law_227 ?_
  refine v_iadd C dL_law_228 ?_
  refine v_ei (y := nI (i + 5)) (nI_add i 5) ?_
  refine v_sld C hX hbl hbA hL.2.2.2.2.2 (i + 5) rfl (by omega) (by omega) dL_law_229 ?_
  refine v_aload_n C dL_law_230 rfl 0 rfl ?_
  refine v_iload_n C dL_law_231 rfl 3 rfl ?_
  refine v_bipush C 6 (by decide) dL_law_232 ?_
  refine v_iadd C dL_law_234 ?_
  refine v_ei (y := nI (i + 6)) (nI_add i 6) ?_
  refine v_sld C hX hbl hbA hL.2.2.2.2.2 (i + 6) rfl (by omega) (by omega) dL_law_235 ?_
  refine l_callWi C (ci := 1) (vC := (RX2, TX2, 20)) (As := [.int (xs (i + 1)), .int (xs (i + 2)), .int (xs (i + 3)), .int (xs (i + 4)), .int (xs (i + 5)), .int (xs (i + 6))]) (rest := [.int r1]) (b := g2.1) (wf := mW E g2) (metX2_text (zl z) (xs (i + 1)) (xs (i + 2)) (xs (i + 3)) (xs (i + 4)) (xs (i + 5)) (xs (i + 6)) hp.2.1.1 hp.2.1.2.2.1 hp.2.1.2.2.2 hp.2.2.1 (by have := hp.2.2.2.2; omega)) (lw_V q313 q314 q315 q19 q316) DX2_text (hR.lower (by decide)) (by decide) hL.swap rfl rfl rfl (Nat.le_of_ble_eq_true rfl) rfl dL_law_236 (fun r2 v H locs p2 hL => ?_)
  have hL := hL.swap
  refine v_icmp_eq C 493 dL_law_239 (by decide) (fun c0 => ?_) (fun c0 => ?_)
  · exact kk u v H locs (hp.text hn p1 p2).2 hL
  · exact absurd (hp.text hn p1 p2).1 c0
theorem law_skip {z : ZZ} {cs : Nat × Nat} {H : Heap} {locs : List Loc} {Q : State → Prop} {E : EE} {g g2 : GG} {x y : DS} {b L i n : Nat} {xs : Nat → Int32} (C : kC R_law code 4 ret E z) (hR : rmOK 4 cs z) (hX : va_X b L xs (zs z) (zs z).heap) (hbl : b < (zs z).heap.size) (hLL : L ≤ 3585) (hi : i + 7 ≤ L) (hn : n ≤ 511) (hRel : Rel x y n) (hL : wL E (kW E g x) (mW E g2 y) z H locs) (kk : ∀ (x y : DS) (H : Heap) (locs : List Loc), Rel x y (n + 1) → wL E (kW E g x) (mW E g2 y) z H locs → V z cs H locs Q 493 [(0, .ref b), (1, .ref g.1), (2, .ref g2.1), (3, .int (nI i))] []) : V z cs H locs Q 244 [(0, .ref b), (1, .ref g.1), (2, .ref g2.1), (3, .int (nI i))] [] := by
  obtain ⟨D, dr, bt, N, rm, R, K, t, pk, hp⟩ := hRel
  have hbA : ¬ aN z b := fun h => absurd hbl (Nat.not_lt.mpr h)
  refine v_aload_n C dL_law_244 rfl 1 rfl ?_
  refine v_aload_n C dL_law_245 rfl 0 rfl ?_
  refine v_iload_n C dL_law_246 rfl 3 rfl ?_
  refine v_iconst C 1 (by decide) dL_law_247 ?_
  refine v_iadd C dL_law_248 ?_
  refine v_ei (y := nI (i + 1)) (nI_add i 1) ?_
  refine v_sld C hX hbl hbA hL.2.2.2.2.2 (i + 1) rfl (by omega) (by omega) dL_law_249 ?_
  refine v_i2l C dL_law_250 ?_
  refine v_bipush C 32 (by decide) dL_law_251 ?_
  refine v_lshl C dL_law_253 ?_
  refine v_aload_n C dL_law_254 rfl 0 rfl ?_
  refine v_iload_n C dL_law_255 rfl 3 rfl ?_
  refine v_iconst C 2 (by decide) dL_law_256 ?_
  refine v_iadd C dL_law_257 ?_
  refine v_ei (y := nI (i + 2)) (nI_add i 2) ?_
  refine v_sld C hX hbl hbA hL.2.2.2.2.2 (i + 2) rfl (by omega) (by omega) dL_law_258 ?_
  refine v_i2l C dL_law_259 ?_
  refine v_ldc2 C q391 dL_law_260 ?_
  refine v_land C dL_law_263 ?_
  refine v_lor C dL_law_264 ?_
  refine l_callWi C (ci := 0) (vC := (RX1, TX1, 29)) (As := [.long (((Int32.toInt64 (xs (i + 1))) <<< ((32 : Int32).toInt64 &&& 63)) ||| ((Int32.toInt64 (xs (i + 2))) &&& 4294967295))]) (rest := []) (b := g.1) (wf := kW E g) (metX1_skip (zl z) ((Int32.toInt64 (xs (i + 1)) <<< ((32 : Int32).toInt64 &&& 63)) ||| (Int32.toInt64 (xs (i + 2)) &&& 4294967295)) hp.1.1.2.2.2.2.2.1 hp.1.2.2.1.1.2.1) (lw_V q164 q165 q166 q17 q167) DX1_skip (hR.lower (by decide)) (by decide) hL rfl rfl rfl (Nat.le_of_ble_eq_true rfl) rfl dL_law_265 (fun r1 u H locs p1 hL => ?_)
  refine v_aload_n C dL_law_268 rfl 2 rfl ?_
  refine v_aload_n C dL_law_269 rfl 0 rfl ?_
  refine v_iload_n C dL_law_270 rfl 3 rfl ?_
  refine v_iconst C 1 (by decide) dL_law_271 ?_
  refine v_iadd C dL_law_272 ?_
  refine v_ei (y := nI (i + 1)) (nI_add i 1) ?_
  refine v_sld C hX hbl hbA hL.2.2.2.2.2 (i + 1) rfl (by omega) (by omega) dL_law_273 ?_
  refine v_i2l C dL_law_274 ?_
  refine v_bipush C 32 (by decide) dL_law_275 ?_
  refine v_lshl C dL_law_277 ?_
  refine v_aload_n C dL_law_278 rfl 0 rfl ?_
  refine v_iload_n C dL_law_279 rfl 3 rfl ?_
  refine v_iconst C 2 (by decide) dL_law_280 ?_
  refine v_iadd C dL_law_281 ?_
  refine v_ei (y := nI (i + 2)) (nI_add i 2) ?_
  refine v_sld C hX hbl hbA hL.2.2.2.2.2 (i + 2) rfl (by omega) (by omega) dL_law_282 ?_
  refine v_i2l C dL_law_283 ?_
  refine v_ldc2 C q391 dL_law_284 ?_
  refine v_land C dL_law_287 ?_
  refine v_lor C dL_law_288 ?_
  refine l_callWi C (ci := 1) (vC := (RX2, TX2, 20)) (As := [.long (((Int32.toInt64 (xs (i + 1))) <<< ((32 : Int32).toInt64 &&& 63)) ||| ((Int32.toInt64 (xs (i + 2))) &&& 4294967295))]) (rest := [.int r1]) (b := g2.1) (wf := mW E g2) (metX2_skip (zl z) ((Int32.toInt64 (xs (i + 1)) <<< ((32 : Int32).toInt64 &&& 63)) ||| (Int32.toInt64 (xs (i + 2)) &&& 4294967295)) hp.2.1.1.2.2.1 hp.2.1.2.2.1.1.2.2.2.1) (lw_V q333 q334 q335 q19 q336) DX2_skip (hR.lower (by decide)) (by decide) hL.swap rfl rfl rfl (Nat.le_of_ble_eq_true rfl) rfl dL_law_289 (fun r2 v H locs p2 hL => ?_)
  have hL := hL.swap
  refine v_icmp_eq C 493 dL_law_292 (by decide) (fun c0 => ?_) (fun c0 => ?_)
  · exact kk u v H locs (hp.skip hn p1 p2).2 hL
  · exact absurd (hp.skip hn p1 p2).1 c0
theorem law_place {z : ZZ} {cs : Nat × Nat} {H : Heap} {locs : List Loc} {Q : State → Prop} {E : EE} {g g2 : GG} {x y : DS} {b L i n : Nat} {xs : Nat → Int32} (C : kC R_law code 4 ret E z) (hR : rmOK 4 cs z) (hX : va_X b L xs (zs z) (zs z).heap) (hbl : b < (zs z).heap.size) (hLL : L ≤ 3585) (hi : i + 7 ≤ L) (hn : n ≤ 511) (hRel : Rel x y n) (hL : wL E (kW E g x) (mW E g2 y) z H locs) (kk : ∀ (x y : DS) (H : Heap) (locs : List Loc), Rel x y (n + 1) → wL E (kW E g x) (mW E g2 y) z H locs → V z cs H locs Q 493 [(0, .ref b), (1, .ref g.1), (2, .ref g2.1), (3, .int (nI i))] []) : V z cs H locs Q 297 [(0, .ref b), (1, .ref g.1), (2, .ref g2.1), (3, .int (nI i))] [] := by
  obtain ⟨D, dr, bt, N, rm, R, K, t, pk, hp⟩ := hRel
  have hbA : ¬ aN z b := fun h => absurd hbl (Nat.not_lt.mpr h)
  refine v_aload_n C dL_law_297 rfl 1 rfl ?_
  refine v_callRl C (ci := 0) (vC := (RX1, TX1, 29)) (As := []) (rest := []) (b := g.1) (metX1_place (zl z)) (lw_V q169 q170 q171 q17 q172) DX1_place (hR.lower (by decide)) (by decide) hL.1 rfl rfl rfl (Nat.le_of_ble_eq_true rfl) rfl dL_law_298 (fun r1 p1 => ?_)
  refine v_aload_n C dL_law_301 rfl 2 rfl ?_
  refine v_callRl C (ci := 1) (vC := (RX2, TX2, 20)) (As := []) (rest := [.long r1]) (b := g2.1) (metX2_place (zl z)) (lw_V q338 q339 q340 q19 q341) DX2_place (hR.lower (by decide)) (by decide) hL.2.1 rfl rfl rfl (Nat.le_of_ble_eq_true rfl) rfl dL_law_302 (fun r2 p2 => ?_)
  refine v_lcmp C dL_law_305 ?_
  refine v_ifl_eq C 493 dL_law_306 (by decide) (fun c0 => ?_) (fun c0 => ?_)
  · exact kk x y H locs hp.next hL
  · exact absurd (p1.trans (hp.1.2.2.1.1.2.1.trans (p2.trans hp.2.1.2.2.1.1.2.2.2.1).symm)) c0
theorem law_found {z : ZZ} {cs : Nat × Nat} {H : Heap} {locs : List Loc} {Q : State → Prop} {E : EE} {g g2 : GG} {x y : DS} {b L i n : Nat} {xs : Nat → Int32} (C : kC R_law code 4 ret E z) (hR : rmOK 4 cs z) (hX : va_X b L xs (zs z) (zs z).heap) (hbl : b < (zs z).heap.size) (hLL : L ≤ 3585) (hi : i + 7 ≤ L) (hn : n ≤ 511) (hRel : Rel x y n) (hL : wL E (kW E g x) (mW E g2 y) z H locs) (kk : ∀ (x y : DS) (H : Heap) (locs : List Loc), Rel x y (n + 1) → wL E (kW E g x) (mW E g2 y) z H locs → V z cs H locs Q 493 [(0, .ref b), (1, .ref g.1), (2, .ref g2.1), (3, .int (nI i))] []) : V z cs H locs Q 311 [(0, .ref b), (1, .ref g.1), (2, .ref g2.1), (3, .int (nI i))] [] := by
  obtain ⟨D, dr, bt, N, rm, R, K, t, pk, hp⟩ := hRel
  have hbA : ¬ aN z b := fun h => absurd hbl (Nat.not_lt.mpr h)
  refine v_aload_n C dL_law_311 rfl 1 rfl ?_
  refine v_callRi C (ci := 0) (vC := (RX1, TX1, 29)) (As := []) (rest := []) (b := g.1) (metX1_found (zl z)) (lw_V q173 q174 q175 q17 q176) DX1_found (hR.lower (by decide)) (by decide) hL.1 rfl rfl rfl (Nat.le_of_ble_eq_true rfl) rfl dL_law_312 (fun r1 p1 => ?_)
  refine v_aload_n C dL_law_315 rfl 2 rfl ?_
  refine v_callRi C (ci := 1) (vC := (RX2, TX2, 20)) (As := []) (rest := [.int r1]) (b := g2.1) (metX2_found (zl z)) (lw_V q342 q343 q344 q19 q345) DX2_found (hR.lower (by decide)) (by decide) hL.2.1 rfl rfl rfl (Nat.le_of_ble_eq_true rfl) rfl dL_law_316 (fun r2 p2 => ?_)
  refine v_icmp_eq C 493 dL_law_319 (by decide) (fun c0 => ?_) (fun c0 => ?_)
  · exact kk x y H locs hp.next hL
  · exact absurd (p1.trans (hp.1.2.2.1.2.1.trans (p2.trans hp.2.1.2.2.1.2.1).symm)) c0
theorem law_word {z : ZZ} {cs : Nat × Nat} {H : Heap} {locs : List Loc} {Q : State → Prop} {E : EE} {g g2 : GG} {x y : DS} {b L i n : Nat} {xs : Nat → Int32} (C : kC R_law code 4 ret E z) (hR : rmOK 4 cs z) (hX : va_X b L xs (zs z) (zs z).heap) (hbl : b < (zs z).heap.size) (hLL : L ≤ 3585) (hi : i + 7 ≤ L) (hn : n ≤ 511) (hRel : Rel x y n) (hL : wL E (kW E g x) (mW E g2 y) z H locs) (kk : ∀ (x y : DS) (H : Heap) (locs : List Loc), Rel x y (n + 1) → wL E (kW E g x) (mW E g2 y) z H locs → V z cs H locs Q 493 [(0, .ref b), (1, .ref g.1), (2, .ref g2.1), (3, .int (nI i))] []) : V z cs H locs Q 324 [(0, .ref b), (1, .ref g.1), (2, .ref g2.1), (3, .int (nI i))] [] := by
  obtain ⟨D, dr, bt, N, rm, R, K, t, pk, hp⟩ := hRel
  have hbA : ¬ aN z b := fun h => absurd hbl (Nat.not_lt.mpr h)
  refine v_aload_n C dL_law_324 rfl 1 rfl ?_
  refine v_aload_n C dL_law_325 rfl 0 rfl ?_
  refine v_iload_n C dL_law_326 rfl 3 rfl ?_
  refine v_iconst C 1 (by decide) dL_law_327 ?_
  refine v_iadd C dL_law_328 ?_
  refine v_ei (y := nI (i + 1)) (nI_add i 1) ?_
  refine v_sld C hX hbl hbA hL.2.2.2.2.2 (i + 1) rfl (by omega) (by omega) dL_law_329 ?_
  refine v_callRi C (ci := 0) (vC := (RX1, TX1, 29)) (As := [.int (xs (i + 1))]) (rest := []) (b := g.1) (metX1_word (zl z) (F := t.2.2.2.2) (xs (i + 1)) hp.1.2.2.1.2) (lw_V q177 q178 q179 q17 q180) DX1_word (hR.lower (by decide)) (by decide) hL.1 rfl rfl rfl (Nat.le_of_ble_eq_true rfl) rfl dL_law_330 (fun r1 p1 => ?_)
  refine v_aload_n C dL_law_333 rfl 2 rfl ?_
  refine v_aload_n C dL_law_334 rfl 0 rfl ?_
  refine v_iload_n C dL_law_335 rfl 3 rfl ?_
  refine v_iconst C 1 (by decide) dL_law_336 ?_
  refine v_iadd C dL_law_337 ?_
  refine v_ei (y := nI (i + 1)) (nI_add i 1) ?_
  refine v_sld C hX hbl hbA hL.2.2.2.2.2 (i + 1) rfl (by omega) (by omega) dL_law_338 ?_
  refine v_callRi C (ci := 1) (vC := (RX2, TX2, 20)) (As := [.int (xs (i + 1))]) (rest := [.int r1]) (b := g2.1) (metX2_word (zl z) (F := t.2.2.2.2) (xs (i + 1)) hp.2.1.2.2.1.2) (lw_V q346 q347 q348 q19 q349) DX2_word (hR.lower (by decide)) (by decide) hL.2.1 rfl rfl rfl (Nat.le_of_ble_eq_true rfl) rfl dL_law_339 (fun r2 p2 => ?_)
  refine v_icmp_eq C 493 dL_law_342 (by decide) (fun c0 => ?_) (fun c0 => ?_)
  · exact kk x y H locs hp.next hL
  · exact absurd (rd_u (by have := hp.1.2.2.1.2.2.1; omega) p1 p2) c0
theorem law_end {z : ZZ} {cs : Nat × Nat} {H : Heap} {locs : List Loc} {Q : State → Prop} {E : EE} {g g2 : GG} {x y : DS} {b L i n : Nat} {xs : Nat → Int32} (C : kC R_law code 4 ret E z) (hR : rmOK 4 cs z) (hX : va_X b L xs (zs z) (zs z).heap) (hbl : b < (zs z).heap.size) (hLL : L ≤ 3585) (hi : i + 7 ≤ L) (hn : n ≤ 511) (hRel : Rel x y n) (hL : wL E (kW E g x) (mW E g2 y) z H locs) (kk : ∀ (x y : DS) (H : Heap) (locs : List Loc), Rel x y (n + 1) → wL E (kW E g x) (mW E g2 y) z H locs → V z cs H locs Q 493 [(0, .ref b), (1, .ref g.1), (2, .ref g2.1), (3, .int (nI i))] []) : V z cs H locs Q 347 [(0, .ref b), (1, .ref g.1), (2, .ref g2.1), (3, .int (nI i))] [] := by
  obtain ⟨D, dr, bt, N, rm, R, K, t, pk, hp⟩ := hRel
  have hbA : ¬ aN z b := fun h => absurd hbl (Nat.not_lt.mpr h)
  refine v_aload_n C dL_law_347 rfl 1 rfl ?_
  refine v_aload_n C dL_law_348 rfl 0 rfl ?_
  refine v_iload_n C dL_law_349 rfl 3 rfl ?_
  refine v_iconst C 1 (by decide) dL_law_350 ?_
  refine v_iadd C dL_law_351 ?_
  refine v_ei (y := nI (i + 1)) (nI_add i 1) ?_
  refine v_sld C hX hbl hbA hL.2.2.2.2.2 (i + 1) rfl (by omega) (by omega) dL_law_352 ?_
  refine v_callRl C (ci := 0) (vC := (RX1, TX1, 29)) (As := [.int (xs (i + 1))]) (rest := []) (b := g.1) (metX1_end (zl z) (F := t.2.2.2.2) (xs (i + 1)) hp.1.2.2.1.2) (lw_V q185 q186 q187 q17 q188) DX1_end (hR.lower (by decide)) (by decide) hL.1 rfl rfl rfl (Nat.le_of_ble_eq_true rfl) rfl dL_law_353 (fun r1 p1 => ?_)
  refine v_aload_n C dL_law_356 rfl 2 rfl ?_
  refine v_aload_n C dL_law_357 rfl 0 rfl ?_
  refine v_iload_n C dL_law_358 rfl 3 rfl ?_
  refine v_iconst C 1 (by decide) dL_law_359 ?_
  refine v_iadd C dL_law_360 ?_
  refine v_ei (y := nI (i + 1)) (nI_add i 1) ?_
  refine v_sld C hX hbl hbA hL.2.2.2.2.2 (i + 1) rfl (by omega) (by omega) dL_law_361 ?_
  refine v_callRl C (ci := 1) (vC := (RX2, TX2, 20)) (As := [.int (xs (i + 1))]) (rest := [.long r1]) (b := g2.1) (metX2_end (zl z) (F := t.2.2.2.2) (xs (i + 1)) hp.2.1.2.2.1.2) (lw_V q354 q355 q356 q19 q357) DX2_end (hR.lower (by decide)) (by decide) hL.2.1 rfl rfl rfl (Nat.le_of_ble_eq_true rfl) rfl dL_law_362 (fun r2 p2 => ?_)
  refine v_lcmp C dL_law_365 ?_
  refine v_ifl_eq C 493 dL_law_366 (by decide) (fun c0 => ?_) (fun c0 => ?_)
  · exact kk x y H locs hp.next hL
  · exact absurd (rdL_u (by have := hp.1.2.2.1.2.2.1; omega) p1 p2) c0
theorem law_count {z : ZZ} {cs : Nat × Nat} {H : Heap} {locs : List Loc} {Q : State → Prop} {E : EE} {g g2 : GG} {x y : DS} {b L i n : Nat} {xs : Nat → Int32} (C : kC R_law code 4 ret E z) (hR : rmOK 4 cs z) (hX : va_X b L xs (zs z) (zs z).heap) (hbl : b < (zs z).heap.size) (hLL : L ≤ 3585) (hi : i + 7 ≤ L) (hn : n ≤ 511) (hRel : Rel x y n) (hL : wL E (kW E g x) (mW E g2 y) z H locs) (kk : ∀ (x y : DS) (H : Heap) (locs : List Loc), Rel x y (n + 1) → wL E (kW E g x) (mW E g2 y) z H locs → V z cs H locs Q 493 [(0, .ref b), (1, .ref g.1), (2, .ref g2.1), (3, .int (nI i))] []) : V z cs H locs Q 371 [(0, .ref b), (1, .ref g.1), (2, .ref g2.1), (3, .int (nI i))] [] := by
  obtain ⟨D, dr, bt, N, rm, R, K, t, pk, hp⟩ := hRel
  have hbA : ¬ aN z b := fun h => absurd hbl (Nat.not_lt.mpr h)
  refine v_aload_n C dL_law_371 rfl 1 rfl ?_
  refine v_aload_n C dL_law_372 rfl 0 rfl ?_
  refine v_iload_n C dL_law_373 rfl 3 rfl ?_
  refine v_iconst C 1 (by decide) dL_law_374 ?_
  refine v_iadd C dL_law_375 ?_
  refine v_ei (y := nI (i + 1)) (nI_add i 1) ?_
  refine v_sld C hX hbl hbA hL.2.2.2.2.2 (i + 1) rfl (by omega) (by omega) dL_law_376 ?_
  refine v_callRi C (ci := 0) (vC := (RX1, TX1, 29)) (As := [.int (xs (i + 1))]) (rest := []) (b := g.1) (metX1_count (zl z) (D := D) (F := t.2.2.2.2) (xs (i + 1)) hp.1.1.2.2.1.1 hp.1.1.2.2.2.2.2.2.1 hp.1.2.2.1.2) (lw_V q190 q191 q192 q17 q193) DX1_count (hR.lower (by decide)) (by decide) hL.1 rfl rfl rfl (Nat.le_of_ble_eq_true rfl) rfl dL_law_377 (fun r1 p1 => ?_)
  refine v_aload_n C dL_law_380 rfl 2 rfl ?_
  refine v_aload_n C dL_law_381 rfl 0 rfl ?_
  refine v_iload_n C dL_law_382 rfl 3 rfl ?_
  refine v_iconst C 1 (by decide) dL_law_383 ?_
  refine v_iadd C dL_law_384 ?_
  refine v_ei (y := nI (i + 1)) (nI_add i 1) ?_
  refine v_sld C hX hbl hbA hL.2.2.2.2.2 (i + 1) rfl (by omega) (by omega) dL_law_385 ?_
  refine v_callRi C (ci := 1) (vC := (RX2, TX2, 20)) (As := [.int (xs (i + 1))]) (rest := [.int r1]) (b := g2.1) (metX2_count (zl z) (D := D) (F := t.2.2.2.2) (xs (i + 1)) hp.1.1.2.2.1.1 hp.2.1.1.2.2.2.2.1 hp.2.1.2.2.1.2 (fun k hk => (hp.2.2.1.2.1.1 k hk).1)) (lw_V q359 q360 q361 q19 q362) DX2_count (hR.lower (by decide)) (by decide) hL.2.1 rfl rfl rfl (Nat.le_of_ble_eq_true rfl) rfl dL_law_386 (fun r2 p2 => ?_)
  refine v_icmp_eq C 493 dL_law_389 (by decide) (fun c0 => ?_) (fun c0 => ?_)
  · exact kk x y H locs hp.next hL
  · exact absurd (rd_u (by have := hp.1.1.2.2.1.1; omega) p1 p2) c0
theorem law_lines {z : ZZ} {cs : Nat × Nat} {H : Heap} {locs : List Loc} {Q : State → Prop} {E : EE} {g g2 : GG} {x y : DS} {b L i n : Nat} {xs : Nat → Int32} (C : kC R_law code 4 ret E z) (hR : rmOK 4 cs z) (hX : va_X b L xs (zs z) (zs z).heap) (hbl : b < (zs z).heap.size) (hLL : L ≤ 3585) (hi : i + 7 ≤ L) (hn : n ≤ 511) (hRel : Rel x y n) (hL : wL E (kW E g x) (mW E g2 y) z H locs) (kk : ∀ (x y : DS) (H : Heap) (locs : List Loc), Rel x y (n + 1) → wL E (kW E g x) (mW E g2 y) z H locs → V z cs H locs Q 493 [(0, .ref b), (1, .ref g.1), (2, .ref g2.1), (3, .int (nI i))] []) : V z cs H locs Q 394 [(0, .ref b), (1, .ref g.1), (2, .ref g2.1), (3, .int (nI i))] [] := by
  obtain ⟨D, dr, bt, N, rm, R, K, t, pk, hp⟩ := hRel
  have hbA : ¬ aN z b := fun h => absurd hbl (Nat.not_lt.mpr h)
  refine v_aload_n C dL_law_394 rfl 1 rfl ?_
  refine v_callRi C (ci := 0) (vC := (RX1, TX1, 29)) (As := []) (rest := []) (b := g.1) (metX1_lines (zl z)) (lw_V q194 q195 q196 q17 q197) DX1_lines (hR.lower (by decide)) (by decide) hL.1 rfl rfl rfl (Nat.le_of_ble_eq_true rfl) rfl dL_law_395 (fun r1 p1 => ?_)
  refine v_aload_n C dL_law_398 rfl 2 rfl ?_
  refine v_callRi C (ci := 1) (vC := (RX2, TX2, 20)) (As := []) (rest := [.int r1]) (b := g2.1) (metX2_lines (zl z) (F := t.2.2.2.2) hp.ml) (lw_V q363 q364 q365 q19 q366) DX2_lines (hR.lower (by decide)) (by decide) hL.2.1 rfl rfl rfl (Nat.le_of_ble_eq_true rfl) rfl dL_law_399 (fun r2 p2 => ?_)
  refine v_icmp_eq C 493 dL_law_402 (by decide) (fun c0 => ?_) (fun c0 => ?_)
  · exact kk x y H locs hp.next hL
  · exact absurd (p1.trans (hp.1.2.2.1.2.2.2.2.2.1.trans p2.symm)) c0
theorem law_line {z : ZZ} {cs : Nat × Nat} {H : Heap} {locs : List Loc} {Q : State → Prop} {E : EE} {g g2 : GG} {x y : DS} {b L i n : Nat} {xs : Nat → Int32} (C : kC R_law code 4 ret E z) (hR : rmOK 4 cs z) (hX : va_X b L xs (zs z) (zs z).heap) (hbl : b < (zs z).heap.size) (hLL : L ≤ 3585) (hi : i + 7 ≤ L) (hn : n ≤ 511) (hRel : Rel x y n) (hL : wL E (kW E g x) (mW E g2 y) z H locs) (kk : ∀ (x y : DS) (H : Heap) (locs : List Loc), Rel x y (n + 1) → wL E (kW E g x) (mW E g2 y) z H locs → V z cs H locs Q 493 [(0, .ref b), (1, .ref g.1), (2, .ref g2.1), (3, .int (nI i))] []) : V z cs H locs Q 407 [(0, .ref b), (1, .ref g.1), (2, .ref g2.1), (3, .int (nI i))] [] := by
  obtain ⟨D, dr, bt, N, rm, R, K, t, pk, hp⟩ := hRel
  have hbA : ¬ aN z b := fun h => absurd hbl (Nat.not_lt.mpr h)
  refine v_aload_n C dL_law_407 rfl 1 rfl ?_
  refine v_aload_n C dL_law_408 rfl 0 rfl ?_
  refine v_iload_n C dL_law_409 rfl 3 rfl ?_
  refine v_iconst C 1 (by decide) dL_law_410 ?_
  refine v_iadd C dL_law_411 ?_
  refine v_ei (y := nI (i + 1)) (nI_add i 1) ?_
  refine v_sld C hX hbl hbA hL.2.2.2.2.2 (i + 1) rfl (by omega) (by omega) dL_law_412 ?_
  refine v_callRi C (ci := 0) (vC := (RX1, TX1, 29)) (As := [.int (xs (i + 1))]) (rest := []) (b := g.1) (metX1_line (zl z) (F := t.2.2.2.2) (xs (i + 1)) hp.1.2.2.1.2) (lw_V q198 q199 q200 q17 q201) DX1_line (hR.lower (by decide)) (by decide) hL.1 rfl rfl rfl (Nat.le_of_ble_eq_true rfl) rfl dL_law_413 (fun r1 p1 => ?_)
  refine v_aload_n C dL_law_416 rfl 2 rfl ?_
  refine v_aload_n C dL_law_417 rfl 0 rfl ?_
  refine v_iload_n C dL_law_418 rfl 3 rfl ?_
  refine v_iconst C 1 (by decide) dL_law_419 ?_
  refine v_iadd C dL_law_420 ?_
  refine v_ei (y := nI (i + 1)) (nI_add i 1) ?_
  refine v_sld C hX hbl hbA hL.2.2.2.2.2 (i + 1) rfl (by omega) (by omega) dL_law_421 ?_
  refine v_callRi C (ci := 1) (vC := (RX2, TX2, 20)) (As := [.int (xs (i + 1))]) (rest := [.int r1]) (b := g2.1) (metX2_line (zl z) (F := t.2.2.2.2) (xs (i + 1)) hp.ml) (lw_V q367 q368 q369 q19 q370) DX2_line (hR.lower (by decide)) (by decide) hL.2.1 rfl rfl rfl (Nat.le_of_ble_eq_true rfl) rfl dL_law_422 (fun r2 p2 => ?_)
  refine v_icmp_eq C 493 dL_law_425 (by decide) (fun c0 => ?_) (fun c0 => ?_)
  · exact kk x y H locs hp.next hL
  · exact absurd (spL_u hp.1.2.2.1.2.2.1 p1 p2) c0
theorem law_steps {z : ZZ} {cs : Nat × Nat} {H : Heap} {locs : List Loc} {Q : State → Prop} {E : EE} {g g2 : GG} {x y : DS} {b L i n : Nat} {xs : Nat → Int32} (C : kC R_law code 4 ret E z) (hR : rmOK 4 cs z) (hX : va_X b L xs (zs z) (zs z).heap) (hbl : b < (zs z).heap.size) (hLL : L ≤ 3585) (hi : i + 7 ≤ L) (hn : n ≤ 511) (hRel : Rel x y n) (hL : wL E (kW E g x) (mW E g2 y) z H locs) (kk : ∀ (x y : DS) (H : Heap) (locs : List Loc), Rel x y (n + 1) → wL E (kW E g x) (mW E g2 y) z H locs → V z cs H locs Q 493 [(0, .ref b), (1, .ref g.1), (2, .ref g2.1), (3, .int (nI i))] []) : V z cs H locs Q 430 [(0, .ref b), (1, .ref g.1), (2, .ref g2.1), (3, .int (nI i))] [] := by
  obtain ⟨D, dr, bt, N, rm, R, K, t, pk, hp⟩ := hRel
  have hbA : ¬ aN z b := fun h => absurd hbl (Nat.not_lt.mpr h)
  refine v_aload_n C dL_law_430 rfl 1 rfl ?_
  refine v_callRl C (ci := 0) (vC := (RX1, TX1, 29)) (As := []) (rest := []) (b := g.1) (metX1_steps (zl z)) (lw_V q202 q203 q204 q17 q205) DX1_steps (hR.lower (by decide)) (by decide) hL.1 rfl rfl rfl (Nat.le_of_ble_eq_true rfl) rfl dL_law_431 (fun r1 p1 => ?_)
  refine v_aload_n C dL_law_434 rfl 2 rfl ?_
  refine v_callRl C (ci := 1) (vC := (RX2, TX2, 20)) (As := []) (rest := [.long r1]) (b := g2.1) (metX2_steps (zl z)) (lw_V q371 q372 q373 q19 q374) DX2_steps (hR.lower (by decide)) (by decide) hL.2.1 rfl rfl rfl (Nat.le_of_ble_eq_true rfl) rfl dL_law_435 (fun r2 p2 => ?_)
  refine v_lcmp C dL_law_438 ?_
  refine v_ifl_eq C 493 dL_law_439 (by decide) (fun c0 => ?_) (fun c0 => ?_)
  · exact kk x y H locs hp.next hL
  · exact absurd (p1.trans (hp.1.2.2.1.1.2.2.1.trans (p2.trans hp.2.1.2.2.1.1.2.2.1).symm)) c0
theorem law_state {z : ZZ} {cs : Nat × Nat} {H : Heap} {locs : List Loc} {Q : State → Prop} {E : EE} {g g2 : GG} {x y : DS} {b L i n : Nat} {xs : Nat → Int32} (C : kC R_law code 4 ret E z) (hR : rmOK 4 cs z) (hX : va_X b L xs (zs z) (zs z).heap) (hbl : b < (zs z).heap.size) (hLL : L ≤ 3585) (hi : i + 7 ≤ L) (hn : n ≤ 511) (hRel : Rel x y n) (hL : wL E (kW E g x) (mW E g2 y) z H locs) (kk : ∀ (x y : DS) (H : Heap) (locs : List Loc), Rel x y (n + 1) → wL E (kW E g x) (mW E g2 y) z H locs → V z cs H locs Q 493 [(0, .ref b), (1, .ref g.1), (2, .ref g2.1), (3, .int (nI i))] []) : V z cs H locs Q 444 [(0, .ref b), (1, .ref g.1), (2, .ref g2.1), (3, .int (nI i))] [] := by
  obtain ⟨D, dr, bt, N, rm, R, K, t, pk, hp⟩ := hRel
  have hbA : ¬ aN z b := fun h => absurd hbl (Nat.not_lt.mpr h)
  refine v_aload_n C dL_law_444 rfl 1 rfl ?_
  refine v_callRi C (ci := 0) (vC := (RX1, TX1, 29)) (As := []) (rest := []) (b := g.1) (metX1_state (zl z) hp.1.1.1 hp.1.2.2.1.1) (lw_V q206 q207 q208 q17 q209) DX1_state (hR.lower (by decide)) (by decide) hL.1 rfl rfl rfl (Nat.le_of_ble_eq_true rfl) rfl dL_law_445 (fun r1 p1 => ?_)
  refine v_aload_n C dL_law_448 rfl 2 rfl ?_
  refine v_callRi C (ci := 1) (vC := (RX2, TX2, 20)) (As := []) (rest := [.int r1]) (b := g2.1) (metX2_state (zl z)) (lw_V q375 q376 q377 q19 q378) DX2_state (hR.lower (by decide)) (by decide) hL.2.1 rfl rfl rfl (Nat.le_of_ble_eq_true rfl) rfl dL_law_449 (fun r2 p2 => ?_)
  refine v_icmp_eq C 493 dL_law_452 (by decide) (fun c0 => ?_) (fun c0 => ?_)
  · exact kk x y H locs hp.next hL
  · exact absurd (p1.trans (p2.trans hp.2.1.2.2.1.1.1).symm) c0
theorem law_pick {z : ZZ} {cs : Nat × Nat} {H : Heap} {locs : List Loc} {Q : State → Prop} {E : EE} {g g2 : GG} {x y : DS} {b L i n : Nat} {xs : Nat → Int32} (C : kC R_law code 4 ret E z) (hR : rmOK 4 cs z) (hX : va_X b L xs (zs z) (zs z).heap) (hbl : b < (zs z).heap.size) (hLL : L ≤ 3585) (hi : i + 7 ≤ L) (hn : n ≤ 511) (hRel : Rel x y n) (hL : wL E (kW E g x) (mW E g2 y) z H locs) (kk : ∀ (x y : DS) (H : Heap) (locs : List Loc), Rel x y (n + 1) → wL E (kW E g x) (mW E g2 y) z H locs → V z cs H locs Q 493 [(0, .ref b), (1, .ref g.1), (2, .ref g2.1), (3, .int (nI i))] []) : V z cs H locs Q 457 [(0, .ref b), (1, .ref g.1), (2, .ref g2.1), (3, .int (nI i))] [] := by
  obtain ⟨D, dr, bt, N, rm, R, K, t, pk, hp⟩ := hRel
  have hbA : ¬ aN z b := fun h => absurd hbl (Nat.not_lt.mpr h)
  refine v_aload_n C dL_law_457 rfl 1 rfl ?_
  refine l_callWi C (ci := 0) (vC := (RX1, TX1, 29)) (As := []) (rest := []) (b := g.1) (wf := kW E g) (metX1_pick (zl z) (hp.kk hn)) (lw_V q210 q211 q212 q17 q213) DX1_pick (hR.lower (by decide)) (by decide) hL rfl rfl rfl (Nat.le_of_ble_eq_true rfl) rfl dL_law_458 (fun r1 u H locs p1 hL => ?_)
  refine v_aload_n C dL_law_461 rfl 2 rfl ?_
  refine l_callWi C (ci := 1) (vC := (RX2, TX2, 20)) (As := []) (rest := [.int r1]) (b := g2.1) (wf := mW E g2) (metX2_pick (zl z) (hp.mk hn)) (lw_V q379 q380 q381 q19 q382) DX2_pick (hR.lower (by decide)) (by decide) hL.swap rfl rfl rfl (Nat.le_of_ble_eq_true rfl) rfl dL_law_462 (fun r2 v H locs p2 hL => ?_)
  have hL := hL.swap
  refine v_icmp_eq C 493 dL_law_465 (by decide) (fun c0 => ?_) (fun c0 => ?_)
  · exact kk u v H locs (hp.pick p1 p2).2 hL
  · exact absurd (hp.pick p1 p2).1 c0
theorem law_picked {z : ZZ} {cs : Nat × Nat} {H : Heap} {locs : List Loc} {Q : State → Prop} {E : EE} {g g2 : GG} {x y : DS} {b L i n : Nat} {xs : Nat → Int32} (C : kC R_law code 4 ret E z) (hR : rmOK 4 cs z) (hX : va_X b L xs (zs z) (zs z).heap) (hbl : b < (zs z).heap.size) (hLL : L ≤ 3585) (hi : i + 7 ≤ L) (hn : n ≤ 511) (hRel : Rel x y n) (hL : wL E (kW E g x) (mW E g2 y) z H locs) (kk : ∀ (x y : DS) (H : Heap) (locs : List Loc), Rel x y (n + 1) → wL E (kW E g x) (mW E g2 y) z H locs → V z cs H locs Q 493 [(0, .ref b), (1, .ref g.1), (2, .ref g2.1), (3, .int (nI i))] []) : V z cs H locs Q 470 [(0, .ref b), (1, .ref g.1), (2, .ref g2.1), (3, .int (nI i))] [] := by
  obtain ⟨D, dr, bt, N, rm, R, K, t, pk, hp⟩ := hRel
  have hbA : ¬ aN z b := fun h => absurd hbl (Nat.not_lt.mpr h)
  refine v_aload_n C dL_law_470 rfl 1 rfl ?_
  refine v_aload_n C dL_law_471 rfl 0 rfl ?_
  refine v_iload_n C dL_law_472 rfl 3 rfl ?_
  refine v_iconst C 1 (by decide) dL_law_473 ?_
  refine v_iadd C dL_law_474 ?_
  refine v_ei (y := nI (i + 1)) (nI_add i 1) ?_
  refine v_sld C hX hbl hbA hL.2.2.2.2.2 (i + 1) rfl (by omega) (by omega) dL_law_475 ?_
  refine v_callRi C (ci := 0) (vC := (RX1, TX1, 29)) (As := [.int (xs (i + 1))]) (rest := []) (b := g.1) (metX1_picked (zl z) (xs (i + 1)) hp.1.2.2.2) (lw_V q227 q228 q229 q17 q230) DX1_picked (hR.lower (by decide)) (by decide) hL.1 rfl rfl rfl (Nat.le_of_ble_eq_true rfl) rfl dL_law_476 (fun r1 p1 => ?_)
  refine v_aload_n C dL_law_479 rfl 2 rfl ?_
  refine v_aload_n C dL_law_480 rfl 0 rfl ?_
  refine v_iload_n C dL_law_481 rfl 3 rfl ?_
  refine v_iconst C 1 (by decide) dL_law_482 ?_
  refine v_iadd C dL_law_483 ?_
  refine v_ei (y := nI (i + 1)) (nI_add i 1) ?_
  refine v_sld C hX hbl hbA hL.2.2.2.2.2 (i + 1) rfl (by omega) (by omega) dL_law_484 ?_
  refine v_callRi C (ci := 1) (vC := (RX2, TX2, 20)) (As := [.int (xs (i + 1))]) (rest := [.int r1]) (b := g2.1) (metX2_picked (zl z) (xs (i + 1)) hp.2.1.2.2.2) (lw_V q387 q388 q389 q19 q390) DX2_picked (hR.lower (by decide)) (by decide) hL.2.1 rfl rfl rfl (Nat.le_of_ble_eq_true rfl) rfl dL_law_485 (fun r2 p2 => ?_)
  refine v_icmp_eq C 493 dL_law_488 (by decide) (fun c0 => ?_) (fun c0 => ?_)
  · exact kk x y H locs hp.next hL
  · exact absurd (rd_u (by have := hp.1.2.2.2.2.1; omega) p1 p2) c0
end
section
theorem law_fin {p : Program} {l : Launch} {e : Env} {s : State} {m : MethodId} {below : List Frame} {meth : Method} {c : Code} {b : Nat} {cs : Nat × Nat} {H : Heap} {locs : List Loc} {lv : List (Nat × Value)} {E : EE} (z : ZZ) (hz : z = (p, l, e, room_1, s, m, #[Value.ref b], below, meth, c)) (C : kC R_law code 4 ret E z) (hc1 : cs.1 ≤ 600000) (hc2 : cs.2 ≤ 7290000) (hS : va_S (aN z) (zs z).heap H locs) : V z cs H locs (lw_Z below #[Value.ref b] s) 499 lv [] := by
  refine v_iconst C 1 (by decide) dL_law_499 ?_
  intro ls hl
  subst hz
  refine va_forget (fun q hq => hS.2.2 q hq) ?_
  refine W.widen (k := 600000) (n := 7290000) hc1 hc2 ?_
  exact lw_ret C.1.1 C.1.2.1 C.2.2.1 C.2.2.2 dL_law_500
theorem law_cond {i L : Nat} (hi : i < 10000) (hL : L ≤ 3585) : nI L - 7 < nI i ↔ ¬ i + 7 ≤ L := by
  have h1 : (nI L - nI 7).toInt = (L : Int) - (7 : Nat) := pk_sub_toInt (by omega) (by decide)
  have h2 : (nI i).toInt = (i : Int) := nI_toInt (by omega)
  rw [show nI L - 7 = nI L - nI 7 from rfl, Int32.lt_iff_toInt_lt, h1, h2]
  omega
theorem law_loop {p : Program} {l : Launch} {e : Env} {s : State} {m : MethodId} {below : List Frame} {meth : Method} {c : Code} {b L : Nat} {xs : Nat → Int32} {E : EE} {g g2 : GG} {cs : Nat × Nat} (z : ZZ) (hz : z = (p, l, e, room_1, s, m, #[Value.ref b], below, meth, c)) (C : kC R_law code 4 ret E z) (hR : rmOK 4 cs z) (hc1 : cs.1 ≤ 600000) (hc2 : cs.2 ≤ 7290000) (hX : va_X b L xs (zs z) (zs z).heap) (hbl : b < (zs z).heap.size) (hLL : L ≤ 3585) : ∀ (j k : Nat) (x y : DS) (H : Heap) (locs : List Loc), L ≤ 7 * k + j → k ≤ 512 → Rel x y k → wL E (kW E g x) (mW E g2 y) z H locs → V z cs H locs (lw_Z below #[Value.ref b] s) 28 [(0, .ref b), (1, .ref g.1), (2, .ref g2.1), (3, .int (nI (1 + 7 * k)))] [] := by
  have hbA : ¬ aN z b := fun h => absurd hbl (Nat.not_lt.mpr h)
  intro j
  induction j with
  | zero =>
    intro k x y H locs hj hk hRel hL
    refine v_iload_n C dL_law_28 rfl 3 rfl ?_
    refine v_aload_n C dL_law_29 rfl 0 rfl ?_
    refine v_slen C hX hbl hbA hL.2.2.2.2.2 dL_law_30 ?_
    refine v_bipush C 7 (by decide) dL_law_31 ?_
    refine v_isub C dL_law_33 ?_
    refine v_icmp_gt C 499 dL_law_34 (by decide) (fun c0 => ?_) (fun c0 => ?_)
    · exact law_fin z hz C hc1 hc2 hL.2.2.2.2.2
    · exact absurd ((law_cond (by omega) hLL).mpr (by omega)) c0
  | succ j ih =>
    intro k x y H locs hj hk hRel hL
    refine v_iload_n C dL_law_28 rfl 3 rfl ?_
    refine v_aload_n C dL_law_29 rfl 0 rfl ?_
    refine v_slen C hX hbl hbA hL.2.2.2.2.2 dL_law_30 ?_
    refine v_bipush C 7 (by decide) dL_law_31 ?_
    refine v_isub C dL_law_33 ?_
    refine v_icmp_gt C 499 dL_law_34 (by decide) (fun c0 => ?_) (fun c0 => ?_)
    · exact law_fin z hz C hc1 hc2 hL.2.2.2.2.2
    · have hi : 1 + 7 * k + 7 ≤ L := Classical.byContradiction (fun h => c0 ((law_cond (by omega) hLL).mpr h))
      have hn : k ≤ 511 := by omega
      have kk : ∀ (x y : DS) (H : Heap) (locs : List Loc), Rel x y (k + 1) → wL E (kW E g x) (mW E g2 y) z H locs → V z cs H locs (lw_Z below #[Value.ref b] s) 493 [(0, .ref b), (1, .ref g.1), (2, .ref g2.1), (3, .int (nI (1 + 7 * k)))] [] := by
        intro x y H locs hRel hL
        refine v_iinc C (k := 3) (nI (1 + 7 * (k + 1))) [1, 2, 3, 0] [(0, .ref b), (1, .ref g.1), (2, .ref g2.1), (3, .int (nI (1 + 7 * (k + 1))))] dL_law_493 rfl ((inc7 _).trans (by rw [show 1 + 7 * k + 7 = 1 + 7 * (k + 1) by omega])) (by decide) rfl ?_
        refine v_goto C 28 dL_law_496 (by decide) ?_
        exact ih (k + 1) x y H locs (by omega) (by omega) hRel hL
      refine v_aload_n C dL_law_37 rfl 0 rfl ?_
      refine v_iload_n C dL_law_38 rfl 3 rfl ?_
      refine v_sld C hX hbl hbA hL.2.2.2.2.2 (1 + 7 * k) rfl (by omega) (by omega) dL_law_39 ?_
      refine v_bipush C 15 (by decide) dL_law_40 ?_
      refine v_iand C dL_law_42 ?_
      obtain ⟨o, ho, hoe⟩ := pk_andE (xs (1 + 7 * k)) (m := 15) 4 (by decide)
      rw [hoe]
      have h16 : o = 0 ∨ o = 1 ∨ o = 2 ∨ o = 3 ∨ o = 4 ∨ o = 5 ∨ o = 6 ∨ o = 7 ∨ o = 8 ∨ o = 9 ∨ o = 10 ∨ o = 11 ∨ o = 12 ∨ o = 13 ∨ o = 14 ∨ o = 15 := by omega
      rcases h16 with rfl | rfl | rfl | rfl | rfl | rfl | rfl | rfl | rfl | rfl | rfl | rfl | rfl | rfl | rfl | rfl
      · exact v_tabIn C 120 dL_law_43 (by decide) (by decide) rfl (by decide) (law_put C hR hX hbl hLL hi hn hRel hL kk)
      · exact v_tabIn C 143 dL_law_43 (by decide) (by decide) rfl (by decide) (law_add C hR hX hbl hLL hi hn hRel hL kk)
      · exact v_tabIn C 156 dL_law_43 (by decide) (by decide) rfl (by decide) (law_build C hR hX hbl hLL hi hn hRel hL kk)
      · exact v_tabIn C 169 dL_law_43 (by decide) (by decide) rfl (by decide) (law_text C hR hX hbl hLL hi hn hRel hL kk)
      · exact v_tabIn C 244 dL_law_43 (by decide) (by decide) rfl (by decide) (law_skip C hR hX hbl hLL hi hn hRel hL kk)
      · exact v_tabIn C 297 dL_law_43 (by decide) (by decide) rfl (by decide) (law_place C hR hX hbl hLL hi hn hRel hL kk)
      · exact v_tabIn C 311 dL_law_43 (by decide) (by decide) rfl (by decide) (law_found C hR hX hbl hLL hi hn hRel hL kk)
      · exact v_tabIn C 324 dL_law_43 (by decide) (by decide) rfl (by decide) (law_word C hR hX hbl hLL hi hn hRel hL kk)
      · exact v_tabIn C 347 dL_law_43 (by decide) (by decide) rfl (by decide) (law_end C hR hX hbl hLL hi hn hRel hL kk)
      · exact v_tabIn C 371 dL_law_43 (by decide) (by decide) rfl (by decide) (law_count C hR hX hbl hLL hi hn hRel hL kk)
      · exact v_tabIn C 394 dL_law_43 (by decide) (by decide) rfl (by decide) (law_lines C hR hX hbl hLL hi hn hRel hL kk)
      · exact v_tabIn C 407 dL_law_43 (by decide) (by decide) rfl (by decide) (law_line C hR hX hbl hLL hi hn hRel hL kk)
      · exact v_tabIn C 430 dL_law_43 (by decide) (by decide) rfl (by decide) (law_steps C hR hX hbl hLL hi hn hRel hL kk)
      · exact v_tabIn C 444 dL_law_43 (by decide) (by decide) rfl (by decide) (law_state C hR hX hbl hLL hi hn hRel hL kk)
      · exact v_tabIn C 457 dL_law_43 (by decide) (by decide) rfl (by decide) (law_pick C hR hX hbl hLL hi hn hRel hL kk)
      · exact v_tabIn C 470 dL_law_43 (by decide) (by decide) rfl (by decide) (law_picked C hR hX hbl hLL hi hn hRel hL kk)
/-- from the entry, for every script of at most 3585 ints, the law comes to its end with true -/
theorem whole_start {p : Program} {e : Env} {s : State} {m : MethodId} {below : List Frame} {meth : Method} {c : Code} (l : Launch) {b L : Nat} {xs : Nat → Int32} (hL : L ≤ 3585) (C0 : lw_At p s m meth c b L xs) : W p l e room_1 s m #[Value.ref b] below meth c s.heap [] 0 0 (lw_Z below #[Value.ref b] s) (entryFrame m ([Value.ref b] : List Value).toArray 4) := by
  obtain ⟨hx, hb, hr, hml, hown, hts0, hX, hbl, hlocks, hgv⟩ := C0
  have hts : ∀ w ∈ lw_all, w.before #[Value.ref b] s = true := fun w h => hts0 w (lw_all_tbl h)
  obtain ⟨cA, kA, compA, a1, a2, a3⟩ := Cond.arrayClass_spec (hts _ q126)
  obtain ⟨cL, kL, compL, b1, b2, b3⟩ := Cond.arrayClass_spec (hts _ q127)
  obtain ⟨c0_, iS0, hKn0⟩ := u_known (C := RX1) (T := TX1) (N := 29) (n := 29) hts0 (fun w h => lw_all_tbl (in_X1 w h)) (hts _ q21)
  obtain ⟨c1_, iS1, hKn1⟩ := u_known (C := RX2) (T := TX2) (N := 20) (n := 20) hts0 (fun w h => lw_all_tbl (in_X2 w h)) (hts _ q235)
  obtain ⟨E, hE⟩ : ∃ E : EE, E = (cA, cL, (fun k => if k = 0 then c0_ else c1_, fun k => if k = 0 then iS0 else iS1)) := ⟨_, rfl⟩
  have hK : va_K E.2.2 vwCl (tys2 E) s := by
    rw [hE]
    refine ⟨fun k q hq => ?_, fun k q hq => ?_⟩
    · match k, hq with
      | 0, hq => cases hq; exact hKn0
      | 1, hq => cases hq; exact hKn1
      | k + 2, hq => simp at hq
    · match k, hq with
      | 0, hq => cases hq; exact ⟨fun n z => ⟨fun k h => (by cases h), kA, a2, compA, a3⟩, a1⟩
      | 1, hq => cases hq; exact ⟨fun n z => ⟨fun k h => (by cases h), kL, b2, compL, b3⟩, b1⟩
      | k + 2, hq => simp at hq
  have hl := lv_entry ([.ref b] : List Value) (n := 4) (Nat.le_of_ble_eq_true rfl)
  rw [lg_entry_eq]
  obtain ⟨z, hz⟩ : ∃ z : ZZ, z = (p, l, e, room_1, s, m, #[Value.ref b], below, meth, c) := ⟨_, rfl⟩
  have C : kC R_law code 4 ret E z := by rw [hz]; exact ⟨⟨hx, hb, hml, hown, hts⟩, hK, hr, hlocks⟩
  have hRm : ∀ a d : Nat, a ≤ 600000 → d ≤ 7290000 → rmOK 4 (a, d) z := fun a d h1 h2 => by rw [hz]; exact ⟨by show 4 ≤ room_1.frames; decide, by show 40 * 4 ≤ room_1.locals; decide, h1, h2⟩
  have hcl : ∀ a d : Nat, a ≤ 600000 → d ≤ 7290000 → a ≤ (zR z).cells ∧ d ≤ (zR z).slots := fun a d h1 h2 => by rw [hz]; exact ⟨h1, h2⟩
  have hX : va_X b L xs (zs z) (zs z).heap := by rw [hz]; exact hX
  have hbl : b < (zs z).heap.size := by rw [hz]; exact hbl
  have hS : va_S (aN z) (zs z).heap (zs z).heap [] := va_S.rf
  have main : V z (0, 0) (zs z).heap [] (lw_Z below #[Value.ref b] s) 0 [(0, .ref b)] [] := by
    refine l_newK C (w := []) (1, 29) (fun k q h => by simp at h) ⟨fun i j p q h => by simp at h, fun k q h => by simp at h⟩ hS rfl (hcl _ _ (by decide) (by decide)) dL_law_0 (fun q1_ H hw => ?_)
    refine v_dup C rfl dL_law_3 ?_
    refine v_aload_n C dL_law_4 rfl 0 rfl ?_
    refine v_iconst C 0 (by decide) dL_law_5 ?_
    refine l_cell C ((hRm _ _ (by decide) (by decide)).lower (by decide)) hX hbl (by omega) hw.2.2.2.2.2 (Nat.le_of_ble_eq_true rfl) dL_law_6 ?_
    refine l_callI C (n := 1) (As := [.int (cell0 L xs)]) (rest := [.ref q1_]) (wf := fun u : DS × GG => kW E u.2 u.1) (17, 33053) (metX1_init (zl z) q1_ (cell0 L xs)) q24 q17 q22 q23 rfl (by decide +kernel) ((hRm _ _ (by decide) (by decide)).lower (by decide)) rfl (by decide) hw rfl (Nat.le_of_ble_eq_true rfl) rfl dL_law_9 (fun u H locs hu hw2 => ?_)
    obtain ⟨x, g⟩ := u
    obtain ⟨hg1, hx1⟩ := hu
    have hg1 : g.1 = q1_ := hg1
    subst hg1
    refine v_astore_n C [1, 0] [(0, .ref b), (1, .ref g.1)] dL_law_12 rfl (by decide) rfl ?_
    refine l_newM C (w := kW E g x) (18, 33073) hw2.1 hw2.2.2.1 hw2.2.2.2.2.2 rfl (hcl _ _ (by decide) (by decide)) dL_law_13 (fun q2_ H hw3 => ?_)
    refine v_dup C rfl dL_law_16 ?_
    refine v_aload_n C dL_law_17 rfl 0 rfl ?_
    refine v_iconst C 0 (by decide) dL_law_18 ?_
    refine l_cell C ((hRm _ _ (by decide) (by decide)).lower (by decide)) hX hbl (by omega) hw3.2.2.2.2.2 (Nat.le_of_ble_eq_true rfl) dL_law_19 ?_
    refine l_callI C (n := 1) (As := [.int (cell0 L xs)]) (rest := [.ref q2_]) (wf := fun u : DS × GG => mW E u.2 u.1) (26, 53237) (metX2_init (zl z) q2_ (cell0 L xs)) q238 q19 q236 q237 rfl (by decide +kernel) ((hRm _ _ (by decide) (by decide)).lower (by decide)) rfl (by decide) hw3 rfl (Nat.le_of_ble_eq_true rfl) rfl dL_law_22 (fun u H locs hu hw4 => ?_)
    obtain ⟨y, g2⟩ := u
    obtain ⟨hg2, hy1⟩ := hu
    have hg2 : g2.1 = q2_ := hg2
    subst hg2
    refine v_astore_n C [1, 2, 0] [(0, .ref b), (1, .ref g.1), (2, .ref g2.1)] dL_law_25 rfl (by decide) rfl ?_
    refine v_iconst C 1 (by decide) dL_law_26 ?_
    refine v_istore_n C [1, 2, 3, 0] [(0, .ref b), (1, .ref g.1), (2, .ref g2.1), (3, .int 1)] dL_law_27 rfl (by decide) rfl ?_
    exact law_loop z hz C (hRm _ _ (by decide) (by decide)) (by decide) (by decide) hX hbl hL L 0 x y H locs (by omega) (by omega) (RelP.new hx1 hy1) hw4.swap
  subst hz
  exact main _ (by show lv_has _ c.maxLocals _; rw [hml]; exact hl)
end
section
set_option maxHeartbeats 4000000 in
theorem lw_walk (l : Launch) (b : Addr) (xs : List Int32) : MetFree l x (headSpec (Jvm.Cond.code x code maxLocals ret :: tables_1) room_1) (lw_P b xs) (fun _ _ _ _ _ => True) lw_Q := by
  refine MetFree.of_bodyS (code := code) (maxLocals := maxLocals) (ret := ret) (by decide) ?_ ?_
  · intro args s m h hn
    obtain ⟨meth, c, h1, h2, h3, h4, h5, h6, -, -⟩ := Cond.code_spec hn (atoms_spec (ws := Jvm.Cond.code x code maxLocals ret :: tables_1) h _ List.mem_cons_self)
    exact ⟨meth, c, h1, h2, h3, h4, h5, h6⟩
  · intro p e s m args below meth c s₁ B hml0 hP _
    obtain ⟨rfl, hx, hbd, hgv⟩ := hP
    obtain ⟨scr, harrAt, hlist, hof, hsmall⟩ := hx
    obtain ⟨hcb, hkn, -, -⟩ := State.arrayAt?_spec harrAt
    have hown : s.vm.findClass R_law = some m.cls := findClass_of_methodNamed B.named
    have hts0 : ∀ c ∈ (Jvm.Cond.code x code maxLocals ret :: tables_1), c.before #[Value.ref b] s = true := atoms_spec (ws := Jvm.Cond.code x code maxLocals ret :: tables_1) B.pre
    have hts : ∀ w ∈ lw_tbl, w.before #[Value.ref b] s = true := k2_hts_sels lw_privs (fun w hw => hts0 w (List.mem_cons_of_mem _ hw)) lw_privs_ok
    have hml : c.maxLocals = 4 := B.maxLocals_eq (hts0 _ List.mem_cons_self)
    have X₀ : Stand p l e room_1 s m #[Value.ref b] below meth c s₁ [] 0 0 := Stand.of_body B
    have hh0 : s₁.heap = s.heap := by rw [B.state]; rfl
    have hsz : scr.slots.size = xs.length := by rw [← Array.length_toList, hlist, List.length_map]
    have hval : ∀ j : Nat, j < xs.length → scr.slots[j]? = some (.int (xs.getD j 0)) := fun j hj => by
      rw [← Array.getElem?_toList, hlist]
      simp [hj]
    have hbl : b < s.heap.size := (Array.getElem?_eq_some_iff.mp hcb).1
    have hX : va_X b xs.length (fun j => xs.getD j 0) s s.heap := ⟨scr, hcb, hof, hkn, hsz, hval⟩
    have K : W p l e room_1 s m #[Value.ref b] below meth c s₁.heap [] 0 0 (lw_Z below #[Value.ref b] s) (entryFrame m ([Value.ref b] : List Value).toArray 4) := by
      rw [hh0]
      exact whole_start l hbd ⟨B.exec, B.bytes, B.returns, hml, hown, hts, hX, hbl, B.notSynchronized, hgv⟩
    obtain ⟨t, a1, o, b1, b2, b3⟩ := K s₁ rfl X₀
    exact ⟨t, o, a1, b1, b2, b3⟩
theorem lw_pre_spec {args : Array Value} {s : State} (h : (Jvm.Cond.and given_1 narrow_1).before args s = true) (hr : rest_1_c.before args s = true) : ∃ (b : Addr) (xs : List Int32), lw_P b xs args s := by
  have hs := flat_of_before _ h
  have hq := flat_of_before _ hr
  have hc : (Cond.count 1).before args s = true := hs _ (by decide +kernel)
  have harr : (Cond.arrayOf (.arg 0) .int).before args s = true := hs _ (by decide +kernel)
  have hle : (Cond.le (.length (.arg 0)) (.int 3585)).before args s = true := hs _ (by decide +kernel)
  have hlen : (Cond.isInt (.length (.arg 0))).before args s = true := hq _ (by decide +kernel)
  have hall : (Cond.all (.arg 0) (.isInt (.elem (.arg 0) (.index 0)))).before args s = true := hq _ (by decide +kernel)
  obtain ⟨b, xs, hb, hx⟩ := State.ints_of_pre rfl harr hlen hall
  have hsm : xs.length < 2 ^ 31 := hx.choose_spec.2.2.2
  have hev : (Term.length (.arg 0)).eval args s none [] s = some (.int xs.length.toInt32) := hx.length_eval hb
  have hv := Cond.le_ints hev (show (Term.int 3585).eval args s none [] s = some (.int 3585) from rfl)
  have hd : xs.length.toInt32 ≤ 3585 := by
    simpa [Cond.before, Cond.holds, hv] using hle
  have hN : xs.length ≤ 3585 := (Int32.ofNat_le_ofNat hsm (by decide)).mp (show Int32.ofNat xs.length ≤ Int32.ofNat 3585 from hd)
  exact ⟨b, xs, Cond.one_arg hc (show args[0]? = some (.ref b) from hb), hx, hN, h⟩
theorem lw_comes (l : Launch) : Comes l x (Jvm.Cond.code x code maxLocals ret :: tables_1) room_1 (fun tb e args s => Calls_1 tb e args s ∧ rest_1 tb e args s ∧ Pre_1 tb e args s)
    (fun _ _ args s o t => lw_Q args s o t) := by
  intro p e ha hc hk s m args below hf hfit hheap happ hpre
  obtain ⟨b, xs, hP⟩ := lw_pre_spec hpre.2.2 hpre.2.1
  obtain ⟨k, o, h1, h2, h3, hQ⟩ := lw_walk l b xs p e ha hc hk s m args below hf ((Spec.applies_iff_loose hf).mp happ).1 hP trivial
  exact ⟨k, o, h1, h2, h3, hQ⟩
theorem lw_frame {s t : State} {o : Outcome} {args : Array Value} (h : Framed s o t [] 600000 7290000) :
    Framed s o t (fieldLocs frame_1_writes args s ++ arrayLocs frame_1_arrays args s ++ staticLocs frame_1_statics s) 600000 7290000 := h
theorem lw_limb (L : Cond) (hL : ∀ (args : Array Value) (s t : State), L.after args s (.returned (some (.int 1))) t = true) :
    ArmFor flags0 classFile x code maxLocals ret World_1 tables_1 room_1 Calls_1 rest_1 Pre_1
      (fun tb e a s o t => postC L tb e a s o t ∧ Framed s o t (fieldLocs frame_1_writes a s ++ arrayLocs frame_1_arrays a s ++ staticLocs frame_1_statics s) 600000 7290000) := by
  intro l _ _ _ p e ha hc hk s m args below hf hfit hheap happ hpre
  obtain ⟨k, o, h1, h2, h3, rfl, hF⟩ := lw_comes l p e ha hc hk s m args below hf hfit hheap happ hpre
  exact ⟨k, _, h1, h2, h3, hL args s _, lw_frame hF⟩
theorem i_vc : Claimed_1_1 ∧ Claimed_1_2 := ⟨lw_limb limb_1_1 (fun args s t => by simp [limb_1_1, Cond.after, Cond.holds, Cond.value]), lw_limb limb_1_2 (fun args s t => Cond.after_iff.mpr (by
  first | (rw [show limb_1_2 = Cond.eq .result (.int 1) from rfl, Cond.eq_ints (x := 1) (y := 1) rfl rfl]; simp; done) | (simp [limb_1_2, Cond.value, Term.eval]; done)))⟩
end
