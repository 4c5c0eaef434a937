section
-- ===== PART A: goes FIRST, ahead of the names: the tables' words, and 'selects' of the private methods out of them =====
/-- a private method of a class that the tables say can be made, by its rows of tables_1 -/
def lw_okq (q : MethodName × Nat) : Prop := (q.1.cls ≠ "java/lang/invoke/MethodHandle" ∧ q.1.cls ≠ "java/lang/invoke/VarHandle") ∧ Cond.instantiable q.1.cls q.2 ∈ tables_1 ∧ Cond.privateMethod q.1 ∈ tables_1 ∧ Cond.instanceMethod q.1 ∈ tables_1
set_option maxRecDepth 100000
theorem lw_t1 {w : Cond} (h : w ∈ tables_1_1) : w ∈ tables_1 := List.mem_append_left _ h
theorem lw_t2 {w : Cond} (h : w ∈ tables_1_2) : w ∈ tables_1 := List.mem_append_right _ h
theorem lw_p0 : lw_okq (⟨"ChainUndo", "isBlock", "(I)Z"⟩, 13) := ⟨⟨by decide +kernel, by decide +kernel⟩, lw_t1 (List.mem_of_getElem? (i := 4) rfl), lw_t1 (List.mem_of_getElem? (i := 59) rfl), lw_t1 (List.mem_of_getElem? (i := 60) rfl)⟩
theorem lw_p1 : lw_okq (⟨"ChainUndo", "addBlock", "(IIIII)I"⟩, 13) := ⟨⟨by decide +kernel, by decide +kernel⟩, lw_t1 (List.mem_of_getElem? (i := 4) rfl), lw_t1 (List.mem_of_getElem? (i := 63) rfl), lw_t1 (List.mem_of_getElem? (i := 64) rfl)⟩
theorem lw_p2 : lw_okq (⟨"ChainUndo", "moveTo", "(I)I"⟩, 13) := ⟨⟨by decide +kernel, by decide +kernel⟩, lw_t1 (List.mem_of_getElem? (i := 4) rfl), lw_t1 (List.mem_of_getElem? (i := 67) rfl), lw_t1 (List.mem_of_getElem? (i := 68) rfl)⟩
theorem lw_p3 : lw_okq (⟨"ChainUndo", "partingOf", "(II)I"⟩, 13) := ⟨⟨by decide +kernel, by decide +kernel⟩, lw_t1 (List.mem_of_getElem? (i := 4) rfl), lw_t1 (List.mem_of_getElem? (i := 71) rfl), lw_t1 (List.mem_of_getElem? (i := 72) rfl)⟩
theorem lw_p4 : lw_okq (⟨"ChainUndo", "undo", "(I)V"⟩, 13) := ⟨⟨by decide +kernel, by decide +kernel⟩, lw_t1 (List.mem_of_getElem? (i := 4) rfl), lw_t1 (List.mem_of_getElem? (i := 75) rfl), lw_t1 (List.mem_of_getElem? (i := 76) rfl)⟩
theorem lw_p5 : lw_okq (⟨"ChainUndo", "takeCoin", "(I)V"⟩, 13) := ⟨⟨by decide +kernel, by decide +kernel⟩, lw_t1 (List.mem_of_getElem? (i := 4) rfl), lw_t1 (List.mem_of_getElem? (i := 79) rfl), lw_t1 (List.mem_of_getElem? (i := 80) rfl)⟩
theorem lw_p6 : lw_okq (⟨"ChainUndo", "giveCoin", "(I)V"⟩, 13) := ⟨⟨by decide +kernel, by decide +kernel⟩, lw_t1 (List.mem_of_getElem? (i := 4) rfl), lw_t1 (List.mem_of_getElem? (i := 83) rfl), lw_t1 (List.mem_of_getElem? (i := 84) rfl)⟩
theorem lw_p7 : lw_okq (⟨"ChainUndo", "apply", "(I)V"⟩, 13) := ⟨⟨by decide +kernel, by decide +kernel⟩, lw_t1 (List.mem_of_getElem? (i := 4) rfl), lw_t1 (List.mem_of_getElem? (i := 87) rfl), lw_t1 (List.mem_of_getElem? (i := 88) rfl)⟩
theorem lw_p8 : lw_okq (⟨"ChainUndo", "isThere", "(I)Z"⟩, 13) := ⟨⟨by decide +kernel, by decide +kernel⟩, lw_t1 (List.mem_of_getElem? (i := 4) rfl), lw_t1 (List.mem_of_getElem? (i := 95) rfl), lw_t1 (List.mem_of_getElem? (i := 96) rfl)⟩
theorem lw_p9 : lw_okq (⟨"ChainUndo", "largestOf", "(II)I"⟩, 13) := ⟨⟨by decide +kernel, by decide +kernel⟩, lw_t1 (List.mem_of_getElem? (i := 4) rfl), lw_t1 (List.mem_of_getElem? (i := 139) rfl), lw_t1 (List.mem_of_getElem? (i := 140) rfl)⟩
theorem lw_p10 : lw_okq (⟨"ChainUndoModel", "isBlock", "(I)Z"⟩, 9) := ⟨⟨by decide +kernel, by decide +kernel⟩, lw_t1 (List.mem_of_getElem? (i := 147) rfl), lw_t1 (List.mem_of_getElem? (i := 186) rfl), lw_t1 (List.mem_of_getElem? (i := 187) rfl)⟩
theorem lw_p11 : lw_okq (⟨"ChainUndoModel", "addBlock", "(IIIII)I"⟩, 9) := ⟨⟨by decide +kernel, by decide +kernel⟩, lw_t1 (List.mem_of_getElem? (i := 147) rfl), lw_t1 (List.mem_of_getElem? (i := 190) rfl), lw_t1 (List.mem_of_getElem? (i := 191) rfl)⟩
theorem lw_p12 : lw_okq (⟨"ChainUndoModel", "heightOf", "(I)I"⟩, 9) := ⟨⟨by decide +kernel, by decide +kernel⟩, lw_t1 (List.mem_of_getElem? (i := 147) rfl), lw_t1 (List.mem_of_getElem? (i := 194) rfl), lw_t1 (List.mem_of_getElem? (i := 195) rfl)⟩
theorem lw_p13 : lw_okq (⟨"ChainUndoModel", "meet", "(II)I"⟩, 9) := ⟨⟨by decide +kernel, by decide +kernel⟩, lw_t1 (List.mem_of_getElem? (i := 147) rfl), lw_t1 (List.mem_of_getElem? (i := 198) rfl), lw_t1 (List.mem_of_getElem? (i := 199) rfl)⟩
theorem lw_p14 : lw_okq (⟨"ChainUndoModel", "inBranch", "(II)Z"⟩, 9) := ⟨⟨by decide +kernel, by decide +kernel⟩, lw_t1 (List.mem_of_getElem? (i := 147) rfl), lw_t1 (List.mem_of_getElem? (i := 202) rfl), lw_t1 (List.mem_of_getElem? (i := 203) rfl)⟩
theorem lw_p15 : lw_okq (⟨"ChainUndoModel", "free", "(II)Z"⟩, 9) := ⟨⟨by decide +kernel, by decide +kernel⟩, lw_t1 (List.mem_of_getElem? (i := 147) rfl), lw_t1 (List.mem_of_getElem? (i := 210) rfl), lw_t1 (List.mem_of_getElem? (i := 211) rfl)⟩
def lw_privs_1 : List (MethodName × Nat) := [(⟨"ChainUndo", "isBlock", "(I)Z"⟩, 13), (⟨"ChainUndo", "addBlock", "(IIIII)I"⟩, 13), (⟨"ChainUndo", "moveTo", "(I)I"⟩, 13), (⟨"ChainUndo", "partingOf", "(II)I"⟩, 13), (⟨"ChainUndo", "undo", "(I)V"⟩, 13), (⟨"ChainUndo", "takeCoin", "(I)V"⟩, 13), (⟨"ChainUndo", "giveCoin", "(I)V"⟩, 13), (⟨"ChainUndo", "apply", "(I)V"⟩, 13), (⟨"ChainUndo", "isThere", "(I)Z"⟩, 13), (⟨"ChainUndo", "largestOf", "(II)I"⟩, 13), (⟨"ChainUndoModel", "isBlock", "(I)Z"⟩, 9), (⟨"ChainUndoModel", "addBlock", "(IIIII)I"⟩, 9), (⟨"ChainUndoModel", "heightOf", "(I)I"⟩, 9), (⟨"ChainUndoModel", "meet", "(II)I"⟩, 9), (⟨"ChainUndoModel", "inBranch", "(II)Z"⟩, 9), (⟨"ChainUndoModel", "free", "(II)Z"⟩, 9)]
theorem lw_r1 : ∀ q ∈ lw_privs_1, lw_okq q := List.forall_mem_cons.mpr ⟨lw_p0, List.forall_mem_cons.mpr ⟨lw_p1, List.forall_mem_cons.mpr ⟨lw_p2, List.forall_mem_cons.mpr ⟨lw_p3, List.forall_mem_cons.mpr ⟨lw_p4, List.forall_mem_cons.mpr ⟨lw_p5, List.forall_mem_cons.mpr ⟨lw_p6, List.forall_mem_cons.mpr ⟨lw_p7, List.forall_mem_cons.mpr ⟨lw_p8, List.forall_mem_cons.mpr ⟨lw_p9, List.forall_mem_cons.mpr ⟨lw_p10, List.forall_mem_cons.mpr ⟨lw_p11, List.forall_mem_cons.mpr ⟨lw_p12, List.forall_mem_cons.mpr ⟨lw_p13, List.forall_mem_cons.mpr ⟨lw_p14, List.forall_mem_cons.mpr ⟨lw_p15, fun _ h => absurd h List.not_mem_nil⟩⟩⟩⟩⟩⟩⟩⟩⟩⟩⟩⟩⟩⟩⟩⟩
theorem lw_p16 : lw_okq (⟨"ChainUndoModel", "greatest", "(I)I"⟩, 9) := ⟨⟨by decide +kernel, by decide +kernel⟩, lw_t1 (List.mem_of_getElem? (i := 147) rfl), lw_t2 (List.mem_of_getElem? (i := 14) rfl), lw_t2 (List.mem_of_getElem? (i := 15) rfl)⟩
def lw_privs_2 : List (MethodName × Nat) := [(⟨"ChainUndoModel", "greatest", "(I)I"⟩, 9)]
theorem lw_r2 : ∀ q ∈ lw_privs_2, lw_okq q := List.forall_mem_cons.mpr ⟨lw_p16, fun _ h => absurd h List.not_mem_nil⟩
def lw_privs : List (MethodName × Nat) := lw_privs_1 ++ (lw_privs_2)
def lw_tbl : List Cond := k2_sels lw_privs ++ tables_1
theorem lw_privs_ok : ∀ q ∈ lw_privs, lw_okq q := by
  show ∀ q ∈ lw_privs_1 ++ (lw_privs_2), lw_okq q
  exact List.forall_mem_append.mpr ⟨lw_r1, lw_r2⟩
-- ===== ONE list of words for every method: the tables' words that hold all through a run =====
def lw_all : List Cond := lw_tbl.filter goodWord
/-- a word of the tables by its place: claim/WORDS.tsv -/
theorem lw_w {w : Cond} (i : Nat) (h : lw_tbl[i]? = some w) (g : goodWord w = true) : w ∈ lw_all := List.mem_filter.mpr ⟨List.mem_of_getElem? h, g⟩
theorem lw_all_tbl {w : Cond} (h : w ∈ lw_all) : w ∈ lw_tbl := (List.mem_filter.mp h).1
theorem lw_self : GoodIn lw_all lw_all := fun w h => ⟨h, good_of_word (List.mem_filter.mp h).2⟩
/-- a class's field words, by their places -/
theorem lw_in (ws : List Cond) (ps : List Nat) (hp : ws = ps.filterMap (fun i => lw_tbl[i]?)) (hg : ws.all goodWord = true) : ∀ w ∈ ws, w ∈ lw_all := by
  intro w h
  have h1 := List.all_eq_true.mp hg w h
  rw [hp] at h
  obtain ⟨i, -, hi⟩ := List.mem_filterMap.mp h
  exact lw_w i hi h1
/-- the words of a contract for the method y with code b, L locals, answer r -/
abbrev ws_ (y : MethodName) (b : ByteArray) (L : Nat) (r : Option FieldType) : List Cond := Cond.code y b L r :: lw_all
theorem lw_meth {y : MethodName} {b : ByteArray} {L : Nat} {r : Option FieldType} (h : Cond.code y b L r ∈ lw_all) : GoodIn lw_all (ws_ y b L r) := by
  intro w hw
  rcases List.mem_cons.mp hw with e | e
  · rw [e]
    exact lw_self _ h
  · exact lw_self _ e
theorem lw_app {a c : List Cond} (ha : ∀ w ∈ a, w ∈ lw_all) (hc : GoodIn lw_all c) : GoodIn lw_all (a ++ c) := by
  intro w hw
  rcases List.mem_append.mp hw with e | e
  · exact lw_self w (ha w e)
  · exact hc w e
/-- what a call through an object asks: cwV n hts (lw_V ..) -/
theorem lw_V {own : String} {idx : Nat} {C : String} {y : MethodName} {b : ByteArray} {L : Nat} {r : Option FieldType} (h1 : Cond.methodLink own idx y ∈ lw_all) (h2 : Cond.instanceMethod y ∈ lw_all) (h3 : Cond.selects C y y ∈ lw_all) (h4 : Cond.initialized C ∈ lw_all) (h5 : Cond.code y b L r ∈ lw_all) : GoodIn lw_all (wsV own idx C y (ws_ y b L r)) := by
  refine lw_app ?_ (lw_meth h5)
  intro w hw
  simp only [List.mem_cons, List.not_mem_nil, or_false] at hw
  rcases hw with e | e | e | e
  · rw [e]; exact h1
  · rw [e]; exact h2
  · rw [e]; exact h3
  · rw [e]; exact h4
/-- what a static call asks: va_cwS n hts (lw_S ..) -/
theorem lw_S {own : String} {idx : Nat} {y : MethodName} {b : ByteArray} {L : Nat} {r : Option FieldType} (h1 : Cond.methodLink own idx y ∈ lw_all) (h2 : Cond.static y ∈ lw_all) (h3 : Cond.initialized y.cls ∈ lw_all) (h4 : Cond.code y b L r ∈ lw_all) : GoodIn lw_all (va_wsS own idx y (ws_ y b L r)) := by
  refine lw_app ?_ (lw_meth h4)
  intro w hw
  simp only [List.mem_cons, List.not_mem_nil, or_false] at hw
  rcases hw with e | e | e
  · rw [e]; exact h1
  · rw [e]; exact h2
  · rw [e]; exact h3
/-- the words of a contract for a method WITH HANDLERS (hh: its table) -/
abbrev wsW_ (y : MethodName) (b : ByteArray) (L : Nat) (r : Option FieldType) (hh : List (Nat × Nat × Nat × Nat)) : List Cond := Cond.codeWith y b L r hh :: lw_all
theorem lw_methW {y : MethodName} {b : ByteArray} {L : Nat} {r : Option FieldType} {hh : List (Nat × Nat × Nat × Nat)} (h : Cond.codeWith y b L r hh ∈ lw_all) : GoodIn lw_all (wsW_ y b L r hh) := by
  intro w hw
  rcases List.mem_cons.mp hw with e | e
  · rw [e]
    exact lw_self _ h
  · exact lw_self _ e
/-- any list of words by their places (lw_in), good -/
theorem lw_good {ws : List Cond} (h : ∀ w ∈ ws, w ∈ lw_all) : GoodIn lw_all ws := fun w hw => lw_self w (h w hw)
/-- what a call of a method with handlers asks: vx_cwVW n hts (lw_VW ..), vx_cwSW n hts (lw_SW ..) -/
theorem lw_VW {own : String} {idx : Nat} {C : String} {y : MethodName} {b : ByteArray} {L : Nat} {r : Option FieldType} {hh : List (Nat × Nat × Nat × Nat)} (h1 : Cond.methodLink own idx y ∈ lw_all) (h2 : Cond.instanceMethod y ∈ lw_all) (h3 : Cond.selects C y y ∈ lw_all) (h4 : Cond.initialized C ∈ lw_all) (h5 : Cond.codeWith y b L r hh ∈ lw_all) : GoodIn lw_all (wsV own idx C y (wsW_ y b L r hh)) := by
  refine lw_app ?_ (lw_methW h5)
  intro w hw
  simp only [List.mem_cons, List.not_mem_nil, or_false] at hw
  rcases hw with e | e | e | e
  · rw [e]; exact h1
  · rw [e]; exact h2
  · rw [e]; exact h3
  · rw [e]; exact h4
theorem lw_SW {own : String} {idx : Nat} {y : MethodName} {b : ByteArray} {L : Nat} {r : Option FieldType} {hh : List (Nat × Nat × Nat × Nat)} (h1 : Cond.methodLink own idx y ∈ lw_all) (h2 : Cond.static y ∈ lw_all) (h3 : Cond.initialized y.cls ∈ lw_all) (h4 : Cond.codeWith y b L r hh ∈ lw_all) : GoodIn lw_all (va_wsS own idx y (wsW_ y b L r hh)) := by
  refine lw_app ?_ (lw_methW h4)
  intro w hw
  simp only [List.mem_cons, List.not_mem_nil, or_false] at hw
  rcases hw with e | e | e
  · rw [e]; exact h1
  · rw [e]; exact h2
  · rw [e]; exact h3
/-- a word by its place in its run of the tables -/
theorem lw_at {r : List Cond} (hr : ∀ w ∈ r, w ∈ lw_tbl) {w : Cond} (i : Nat) (h : r[i]? = some w) : w ∈ lw_tbl := hr w (List.mem_of_getElem? h)
theorem lw_g {w : Cond} (h : w ∈ lw_tbl) (g : goodWord w = true) : w ∈ lw_all := List.mem_filter.mpr ⟨h, g⟩
theorem lw_ms : ∀ w ∈ k2_sels lw_privs, w ∈ lw_tbl := fun w h => show w ∈ k2_sels lw_privs ++ tables_1 from List.mem_append_left _ h
theorem lw_m1 : ∀ w ∈ tables_1_1, w ∈ lw_tbl := fun w h => show w ∈ k2_sels lw_privs ++ tables_1 from List.mem_append_right (k2_sels lw_privs) (show w ∈ tables_1 from List.mem_append_left _ h)
theorem lw_m2 : ∀ w ∈ tables_1_2, w ∈ lw_tbl := fun w h => show w ∈ k2_sels lw_privs ++ tables_1 from List.mem_append_right (k2_sels lw_privs) (show w ∈ tables_1 from List.mem_append_right _ h)
theorem qs0 : (Cond.selects "ChainUndo" ⟨"ChainUndo", "isBlock", "(I)Z"⟩ ⟨"ChainUndo", "isBlock", "(I)Z"⟩) ∈ lw_all := lw_g (lw_at lw_ms 0 rfl) rfl
theorem qs1 : (Cond.selects "ChainUndo" ⟨"ChainUndo", "addBlock", "(IIIII)I"⟩ ⟨"ChainUndo", "addBlock", "(IIIII)I"⟩) ∈ lw_all := lw_g (lw_at lw_ms 1 rfl) rfl
theorem qs2 : (Cond.selects "ChainUndo" ⟨"ChainUndo", "moveTo", "(I)I"⟩ ⟨"ChainUndo", "moveTo", "(I)I"⟩) ∈ lw_all := lw_g (lw_at lw_ms 2 rfl) rfl
theorem qs3 : (Cond.selects "ChainUndo" ⟨"ChainUndo", "partingOf", "(II)I"⟩ ⟨"ChainUndo", "partingOf", "(II)I"⟩) ∈ lw_all := lw_g (lw_at lw_ms 3 rfl) rfl
theorem qs4 : (Cond.selects "ChainUndo" ⟨"ChainUndo", "undo", "(I)V"⟩ ⟨"ChainUndo", "undo", "(I)V"⟩) ∈ lw_all := lw_g (lw_at lw_ms 4 rfl) rfl
theorem qs5 : (Cond.selects "ChainUndo" ⟨"ChainUndo", "takeCoin", "(I)V"⟩ ⟨"ChainUndo", "takeCoin", "(I)V"⟩) ∈ lw_all := lw_g (lw_at lw_ms 5 rfl) rfl
theorem qs6 : (Cond.selects "ChainUndo" ⟨"ChainUndo", "giveCoin", "(I)V"⟩ ⟨"ChainUndo", "giveCoin", "(I)V"⟩) ∈ lw_all := lw_g (lw_at lw_ms 6 rfl) rfl
theorem qs7 : (Cond.selects "ChainUndo" ⟨"ChainUndo", "apply", "(I)V"⟩ ⟨"ChainUndo", "apply", "(I)V"⟩) ∈ lw_all := lw_g (lw_at lw_ms 7 rfl) rfl
theorem qs8 : (Cond.selects "ChainUndo" ⟨"ChainUndo", "isThere", "(I)Z"⟩ ⟨"ChainUndo", "isThere", "(I)Z"⟩) ∈ lw_all := lw_g (lw_at lw_ms 8 rfl) rfl
theorem qs9 : (Cond.selects "ChainUndo" ⟨"ChainUndo", "largestOf", "(II)I"⟩ ⟨"ChainUndo", "largestOf", "(II)I"⟩) ∈ lw_all := lw_g (lw_at lw_ms 9 rfl) rfl
theorem qs10 : (Cond.selects "ChainUndoModel" ⟨"ChainUndoModel", "isBlock", "(I)Z"⟩ ⟨"ChainUndoModel", "isBlock", "(I)Z"⟩) ∈ lw_all := lw_g (lw_at lw_ms 10 rfl) rfl
theorem qs11 : (Cond.selects "ChainUndoModel" ⟨"ChainUndoModel", "addBlock", "(IIIII)I"⟩ ⟨"ChainUndoModel", "addBlock", "(IIIII)I"⟩) ∈ lw_all := lw_g (lw_at lw_ms 11 rfl) rfl
theorem qs12 : (Cond.selects "ChainUndoModel" ⟨"ChainUndoModel", "heightOf", "(I)I"⟩ ⟨"ChainUndoModel", "heightOf", "(I)I"⟩) ∈ lw_all := lw_g (lw_at lw_ms 12 rfl) rfl
theorem qs13 : (Cond.selects "ChainUndoModel" ⟨"ChainUndoModel", "meet", "(II)I"⟩ ⟨"ChainUndoModel", "meet", "(II)I"⟩) ∈ lw_all := lw_g (lw_at lw_ms 13 rfl) rfl
theorem qs14 : (Cond.selects "ChainUndoModel" ⟨"ChainUndoModel", "inBranch", "(II)Z"⟩ ⟨"ChainUndoModel", "inBranch", "(II)Z"⟩) ∈ lw_all := lw_g (lw_at lw_ms 14 rfl) rfl
theorem qs15 : (Cond.selects "ChainUndoModel" ⟨"ChainUndoModel", "free", "(II)Z"⟩ ⟨"ChainUndoModel", "free", "(II)Z"⟩) ∈ lw_all := lw_g (lw_at lw_ms 15 rfl) rfl
theorem qs16 : (Cond.selects "ChainUndoModel" ⟨"ChainUndoModel", "greatest", "(I)I"⟩ ⟨"ChainUndoModel", "greatest", "(I)I"⟩) ∈ lw_all := lw_g (lw_at lw_ms 16 rfl) rfl
end
section
/-! ChainUndo -/
set_option maxRecDepth 100000
def RX0 : String := "ChainUndo"
def TX0 : u_T := fun k => match k with
  | 0 => ("ChainUndo", "blockCount", "I", false)
  | 1 => ("ChainUndo", "parent", "[B", true)
  | 2 => ("ChainUndo", "level", "[B", true)
  | 3 => ("ChainUndo", "ownerOf", "[B", true)
  | 4 => ("ChainUndo", "amountOf", "[I", true)
  | 5 => ("ChainUndo", "spentFirst", "[B", true)
  | 6 => ("ChainUndo", "spentSecond", "[B", true)
  | 7 => ("ChainUndo", "at", "I", false)
  | 8 => ("ChainUndo", "ledger", "I", false)
  | 9 => ("ChainUndo", "wealth", "[J", true)
  | 10 => ("ChainUndo", "wayUp", "[B", true)
  | 11 => ("ChainUndo", "tipBlock", "I", false)
  | _ => ("ChainUndo", "undoneCount", "I", false)
def tyX0 : Nat → FieldType := fun k => match k with
  | 0 => .int
  | 1 => .array .byte
  | 2 => .array .byte
  | 3 => .array .byte
  | 4 => .array .int
  | 5 => .array .byte
  | 6 => .array .byte
  | 7 => .int
  | 8 => .int
  | 9 => .array .long
  | 10 => .array .byte
  | 11 => .int
  | _ => .int
abbrev wsX00 : List Cond := u_ws RX0 TX0 13
set_option maxRecDepth 100000 in
theorem nmX0 : ∀ a, a < 13 → ∀ b, b < 13 → a ≠ b → (TX0 a).2.1 ≠ (TX0 b).2.1 := by decide +kernel
set_option maxRecDepth 100000 in
theorem tyX0_ok : ∀ k, k < 13 → parseFieldDescriptor (TX0 k).2.2.1 = some (tyX0 k) := by decide +kernel
abbrev cX0_init : ByteArray := prog_1_method_1_code
def yX0_init : MethodName := ⟨RX0, "<init>", "()V"⟩
theorem dX0_init_0 : decode cX0_init 0 = .ok (.aload_n 0, 1) := by decide +kernel
theorem dX0_init_1 : decode cX0_init 1 = .ok (.invokespecial 1, 3) := by decide +kernel
theorem dX0_init_4 : decode cX0_init 4 = .ok (.aload_n 0, 1) := by decide +kernel
theorem dX0_init_5 : decode cX0_init 5 = .ok (.bipush 20, 2) := by decide +kernel
theorem dX0_init_7 : decode cX0_init 7 = .ok (.newarray .byte, 2) := by decide +kernel
theorem dX0_init_9 : decode cX0_init 9 = .ok (.putfield 7, 3) := by decide +kernel
theorem dX0_init_12 : decode cX0_init 12 = .ok (.aload_n 0, 1) := by decide +kernel
theorem dX0_init_13 : decode cX0_init 13 = .ok (.bipush 20, 2) := by decide +kernel
theorem dX0_init_15 : decode cX0_init 15 = .ok (.newarray .byte, 2) := by decide +kernel
theorem dX0_init_17 : decode cX0_init 17 = .ok (.putfield 13, 3) := by decide +kernel
theorem dX0_init_20 : decode cX0_init 20 = .ok (.aload_n 0, 1) := by decide +kernel
theorem dX0_init_21 : decode cX0_init 21 = .ok (.bipush 20, 2) := by decide +kernel
theorem dX0_init_23 : decode cX0_init 23 = .ok (.newarray .byte, 2) := by decide +kernel
theorem dX0_init_25 : decode cX0_init 25 = .ok (.putfield 16, 3) := by decide +kernel
theorem dX0_init_28 : decode cX0_init 28 = .ok (.aload_n 0, 1) := by decide +kernel
theorem dX0_init_29 : decode cX0_init 29 = .ok (.bipush 20, 2) := by decide +kernel
theorem dX0_init_31 : decode cX0_init 31 = .ok (.newarray .int, 2) := by decide +kernel
theorem dX0_init_33 : decode cX0_init 33 = .ok (.putfield 19, 3) := by decide +kernel
theorem dX0_init_36 : decode cX0_init 36 = .ok (.aload_n 0, 1) := by decide +kernel
theorem dX0_init_37 : decode cX0_init 37 = .ok (.bipush 20, 2) := by decide +kernel
theorem dX0_init_39 : decode cX0_init 39 = .ok (.newarray .byte, 2) := by decide +kernel
theorem dX0_init_41 : decode cX0_init 41 = .ok (.putfield 23, 3) := by decide +kernel
theorem dX0_init_44 : decode cX0_init 44 = .ok (.aload_n 0, 1) := by decide +kernel
theorem dX0_init_45 : decode cX0_init 45 = .ok (.bipush 20, 2) := by decide +kernel
theorem dX0_init_47 : decode cX0_init 47 = .ok (.newarray .byte, 2) := by decide +kernel
theorem dX0_init_49 : decode cX0_init 49 = .ok (.putfield 26, 3) := by decide +kernel
theorem dX0_init_52 : decode cX0_init 52 = .ok (.aload_n 0, 1) := by decide +kernel
theorem dX0_init_53 : decode cX0_init 53 = .ok (.iconst 4, 1) := by decide +kernel
theorem dX0_init_54 : decode cX0_init 54 = .ok (.newarray .long, 2) := by decide +kernel
theorem dX0_init_56 : decode cX0_init 56 = .ok (.putfield 29, 3) := by decide +kernel
theorem dX0_init_59 : decode cX0_init 59 = .ok (.aload_n 0, 1) := by decide +kernel
theorem dX0_init_60 : decode cX0_init 60 = .ok (.bipush 20, 2) := by decide +kernel
theorem dX0_init_62 : decode cX0_init 62 = .ok (.newarray .byte, 2) := by decide +kernel
theorem dX0_init_64 : decode cX0_init 64 = .ok (.putfield 33, 3) := by decide +kernel
theorem dX0_init_67 : decode cX0_init 67 = .ok (.aload_n 0, 1) := by decide +kernel
theorem dX0_init_68 : decode cX0_init 68 = .ok (.iconst 1, 1) := by decide +kernel
theorem dX0_init_69 : decode cX0_init 69 = .ok (.putfield 36, 3) := by decide +kernel
theorem dX0_init_72 : decode cX0_init 72 = .ok (.aload_n 0, 1) := by decide +kernel
theorem dX0_init_73 : decode cX0_init 73 = .ok (.getfield 23, 3) := by decide +kernel
theorem dX0_init_76 : decode cX0_init 76 = .ok (.iconst 0, 1) := by decide +kernel
theorem dX0_init_77 : decode cX0_init 77 = .ok (.iconst (-1), 1) := by decide +kernel
theorem dX0_init_78 : decode cX0_init 78 = .ok (.bastore, 1) := by decide +kernel
theorem dX0_init_79 : decode cX0_init 79 = .ok (.aload_n 0, 1) := by decide +kernel
theorem dX0_init_80 : decode cX0_init 80 = .ok (.getfield 26, 3) := by decide +kernel
theorem dX0_init_83 : decode cX0_init 83 = .ok (.iconst 0, 1) := by decide +kernel
theorem dX0_init_84 : decode cX0_init 84 = .ok (.iconst (-1), 1) := by decide +kernel
theorem dX0_init_85 : decode cX0_init 85 = .ok (.bastore, 1) := by decide +kernel
theorem dX0_init_86 : decode cX0_init 86 = .ok (.return_, 1) := by decide +kernel
abbrev cX0_mint : ByteArray := prog_1_method_2_code
def yX0_mint : MethodName := ⟨RX0, "mint", "(III)I"⟩
theorem dX0_mint_0 : decode cX0_mint 0 = .ok (.aload_n 0, 1) := by decide +kernel
theorem dX0_mint_1 : decode cX0_mint 1 = .ok (.getfield 36, 3) := by decide +kernel
theorem dX0_mint_4 : decode cX0_mint 4 = .ok (.bipush 20, 2) := by decide +kernel
theorem dX0_mint_6 : decode cX0_mint 6 = .ok (.if_icmp .lt 6, 3) := by decide +kernel
theorem dX0_mint_9 : decode cX0_mint 9 = .ok (.bipush (-2), 2) := by decide +kernel
theorem dX0_mint_11 : decode cX0_mint 11 = .ok (.ireturn, 1) := by decide +kernel
theorem dX0_mint_12 : decode cX0_mint 12 = .ok (.aload_n 0, 1) := by decide +kernel
theorem dX0_mint_13 : decode cX0_mint 13 = .ok (.iload_n 1, 1) := by decide +kernel
theorem dX0_mint_14 : decode cX0_mint 14 = .ok (.invokevirtual 40, 3) := by decide +kernel
theorem dX0_mint_17 : decode cX0_mint 17 = .ok (.ifCond .eq 23, 3) := by decide +kernel
theorem dX0_mint_20 : decode cX0_mint 20 = .ok (.iload_n 2, 1) := by decide +kernel
theorem dX0_mint_21 : decode cX0_mint 21 = .ok (.ifCond .lt 19, 3) := by decide +kernel
theorem dX0_mint_24 : decode cX0_mint 24 = .ok (.iload_n 2, 1) := by decide +kernel
theorem dX0_mint_25 : decode cX0_mint 25 = .ok (.iconst 3, 1) := by decide +kernel
theorem dX0_mint_26 : decode cX0_mint 26 = .ok (.if_icmp .gt 14, 3) := by decide +kernel
theorem dX0_mint_29 : decode cX0_mint 29 = .ok (.iload_n 3, 1) := by decide +kernel
theorem dX0_mint_30 : decode cX0_mint 30 = .ok (.iconst 1, 1) := by decide +kernel
theorem dX0_mint_31 : decode cX0_mint 31 = .ok (.if_icmp .lt 9, 3) := by decide +kernel
theorem dX0_mint_34 : decode cX0_mint 34 = .ok (.iload_n 3, 1) := by decide +kernel
theorem dX0_mint_35 : decode cX0_mint 35 = .ok (.bipush 100, 2) := by decide +kernel
theorem dX0_mint_37 : decode cX0_mint 37 = .ok (.if_icmp .le 5, 3) := by decide +kernel
theorem dX0_mint_40 : decode cX0_mint 40 = .ok (.iconst (-1), 1) := by decide +kernel
theorem dX0_mint_41 : decode cX0_mint 41 = .ok (.ireturn, 1) := by decide +kernel
theorem dX0_mint_42 : decode cX0_mint 42 = .ok (.aload_n 0, 1) := by decide +kernel
theorem dX0_mint_43 : decode cX0_mint 43 = .ok (.iload_n 1, 1) := by decide +kernel
theorem dX0_mint_44 : decode cX0_mint 44 = .ok (.iload_n 2, 1) := by decide +kernel
theorem dX0_mint_45 : decode cX0_mint 45 = .ok (.iload_n 3, 1) := by decide +kernel
theorem dX0_mint_46 : decode cX0_mint 46 = .ok (.iconst (-1), 1) := by decide +kernel
theorem dX0_mint_47 : decode cX0_mint 47 = .ok (.iconst (-1), 1) := by decide +kernel
theorem dX0_mint_48 : decode cX0_mint 48 = .ok (.invokevirtual 44, 3) := by decide +kernel
theorem dX0_mint_51 : decode cX0_mint 51 = .ok (.ireturn, 1) := by decide +kernel
abbrev cX0_isBlock : ByteArray := prog_1_method_8_code
def yX0_isBlock : MethodName := ⟨RX0, "isBlock", "(I)Z"⟩
theorem dX0_isBlock_0 : decode cX0_isBlock 0 = .ok (.iload_n 1, 1) := by decide +kernel
theorem dX0_isBlock_1 : decode cX0_isBlock 1 = .ok (.ifCond .lt 15, 3) := by decide +kernel
theorem dX0_isBlock_4 : decode cX0_isBlock 4 = .ok (.iload_n 1, 1) := by decide +kernel
theorem dX0_isBlock_5 : decode cX0_isBlock 5 = .ok (.aload_n 0, 1) := by decide +kernel
theorem dX0_isBlock_6 : decode cX0_isBlock 6 = .ok (.getfield 36, 3) := by decide +kernel
theorem dX0_isBlock_9 : decode cX0_isBlock 9 = .ok (.if_icmp .ge 7, 3) := by decide +kernel
theorem dX0_isBlock_12 : decode cX0_isBlock 12 = .ok (.iconst 1, 1) := by decide +kernel
theorem dX0_isBlock_13 : decode cX0_isBlock 13 = .ok (.goto 4, 3) := by decide +kernel
theorem dX0_isBlock_16 : decode cX0_isBlock 16 = .ok (.iconst 0, 1) := by decide +kernel
theorem dX0_isBlock_17 : decode cX0_isBlock 17 = .ok (.ireturn, 1) := by decide +kernel
abbrev cX0_addBlock : ByteArray := prog_1_method_4_code
def yX0_addBlock : MethodName := ⟨RX0, "addBlock", "(IIIII)I"⟩
theorem dX0_addBlock_0 : decode cX0_addBlock 0 = .ok (.aload_n 0, 1) := by decide +kernel
theorem dX0_addBlock_1 : decode cX0_addBlock 1 = .ok (.getfield 36, 3) := by decide +kernel
theorem dX0_addBlock_4 : decode cX0_addBlock 4 = .ok (.istore 6, 2) := by decide +kernel
theorem dX0_addBlock_6 : decode cX0_addBlock 6 = .ok (.aload_n 0, 1) := by decide +kernel
theorem dX0_addBlock_7 : decode cX0_addBlock 7 = .ok (.dup, 1) := by decide +kernel
theorem dX0_addBlock_8 : decode cX0_addBlock 8 = .ok (.getfield 36, 3) := by decide +kernel
theorem dX0_addBlock_11 : decode cX0_addBlock 11 = .ok (.iconst 1, 1) := by decide +kernel
theorem dX0_addBlock_12 : decode cX0_addBlock 12 = .ok (.iadd, 1) := by decide +kernel
theorem dX0_addBlock_13 : decode cX0_addBlock 13 = .ok (.putfield 36, 3) := by decide +kernel
theorem dX0_addBlock_16 : decode cX0_addBlock 16 = .ok (.aload_n 0, 1) := by decide +kernel
theorem dX0_addBlock_17 : decode cX0_addBlock 17 = .ok (.getfield 7, 3) := by decide +kernel
theorem dX0_addBlock_20 : decode cX0_addBlock 20 = .ok (.iload 6, 2) := by decide +kernel
theorem dX0_addBlock_22 : decode cX0_addBlock 22 = .ok (.iload_n 1, 1) := by decide +kernel
theorem dX0_addBlock_23 : decode cX0_addBlock 23 = .ok (.i2b, 1) := by decide +kernel
theorem dX0_addBlock_24 : decode cX0_addBlock 24 = .ok (.bastore, 1) := by decide +kernel
theorem dX0_addBlock_25 : decode cX0_addBlock 25 = .ok (.aload_n 0, 1) := by decide +kernel
theorem dX0_addBlock_26 : decode cX0_addBlock 26 = .ok (.getfield 13, 3) := by decide +kernel
theorem dX0_addBlock_29 : decode cX0_addBlock 29 = .ok (.iload 6, 2) := by decide +kernel
theorem dX0_addBlock_31 : decode cX0_addBlock 31 = .ok (.aload_n 0, 1) := by decide +kernel
theorem dX0_addBlock_32 : decode cX0_addBlock 32 = .ok (.getfield 13, 3) := by decide +kernel
theorem dX0_addBlock_35 : decode cX0_addBlock 35 = .ok (.iload_n 1, 1) := by decide +kernel
theorem dX0_addBlock_36 : decode cX0_addBlock 36 = .ok (.baload, 1) := by decide +kernel
theorem dX0_addBlock_37 : decode cX0_addBlock 37 = .ok (.iconst 1, 1) := by decide +kernel
theorem dX0_addBlock_38 : decode cX0_addBlock 38 = .ok (.iadd, 1) := by decide +kernel
theorem dX0_addBlock_39 : decode cX0_addBlock 39 = .ok (.i2b, 1) := by decide +kernel
theorem dX0_addBlock_40 : decode cX0_addBlock 40 = .ok (.bastore, 1) := by decide +kernel
theorem dX0_addBlock_41 : decode cX0_addBlock 41 = .ok (.aload_n 0, 1) := by decide +kernel
theorem dX0_addBlock_42 : decode cX0_addBlock 42 = .ok (.getfield 16, 3) := by decide +kernel
theorem dX0_addBlock_45 : decode cX0_addBlock 45 = .ok (.iload 6, 2) := by decide +kernel
theorem dX0_addBlock_47 : decode cX0_addBlock 47 = .ok (.iload_n 2, 1) := by decide +kernel
theorem dX0_addBlock_48 : decode cX0_addBlock 48 = .ok (.i2b, 1) := by decide +kernel
theorem dX0_addBlock_49 : decode cX0_addBlock 49 = .ok (.bastore, 1) := by decide +kernel
theorem dX0_addBlock_50 : decode cX0_addBlock 50 = .ok (.aload_n 0, 1) := by decide +kernel
theorem dX0_addBlock_51 : decode cX0_addBlock 51 = .ok (.getfield 19, 3) := by decide +kernel
theorem dX0_addBlock_54 : decode cX0_addBlock 54 = .ok (.iload 6, 2) := by decide +kernel
theorem dX0_addBlock_56 : decode cX0_addBlock 56 = .ok (.iload_n 3, 1) := by decide +kernel
theorem dX0_addBlock_57 : decode cX0_addBlock 57 = .ok (.iastore, 1) := by decide +kernel
theorem dX0_addBlock_58 : decode cX0_addBlock 58 = .ok (.aload_n 0, 1) := by decide +kernel
theorem dX0_addBlock_59 : decode cX0_addBlock 59 = .ok (.getfield 23, 3) := by decide +kernel
theorem dX0_addBlock_62 : decode cX0_addBlock 62 = .ok (.iload 6, 2) := by decide +kernel
theorem dX0_addBlock_64 : decode cX0_addBlock 64 = .ok (.iload 4, 2) := by decide +kernel
theorem dX0_addBlock_66 : decode cX0_addBlock 66 = .ok (.i2b, 1) := by decide +kernel
theorem dX0_addBlock_67 : decode cX0_addBlock 67 = .ok (.bastore, 1) := by decide +kernel
theorem dX0_addBlock_68 : decode cX0_addBlock 68 = .ok (.aload_n 0, 1) := by decide +kernel
theorem dX0_addBlock_69 : decode cX0_addBlock 69 = .ok (.getfield 26, 3) := by decide +kernel
theorem dX0_addBlock_72 : decode cX0_addBlock 72 = .ok (.iload 6, 2) := by decide +kernel
theorem dX0_addBlock_74 : decode cX0_addBlock 74 = .ok (.iload 5, 2) := by decide +kernel
theorem dX0_addBlock_76 : decode cX0_addBlock 76 = .ok (.i2b, 1) := by decide +kernel
theorem dX0_addBlock_77 : decode cX0_addBlock 77 = .ok (.bastore, 1) := by decide +kernel
theorem dX0_addBlock_78 : decode cX0_addBlock 78 = .ok (.aload_n 0, 1) := by decide +kernel
theorem dX0_addBlock_79 : decode cX0_addBlock 79 = .ok (.getfield 13, 3) := by decide +kernel
theorem dX0_addBlock_82 : decode cX0_addBlock 82 = .ok (.iload 6, 2) := by decide +kernel
theorem dX0_addBlock_84 : decode cX0_addBlock 84 = .ok (.baload, 1) := by decide +kernel
theorem dX0_addBlock_85 : decode cX0_addBlock 85 = .ok (.aload_n 0, 1) := by decide +kernel
theorem dX0_addBlock_86 : decode cX0_addBlock 86 = .ok (.getfield 13, 3) := by decide +kernel
theorem dX0_addBlock_89 : decode cX0_addBlock 89 = .ok (.aload_n 0, 1) := by decide +kernel
theorem dX0_addBlock_90 : decode cX0_addBlock 90 = .ok (.getfield 55, 3) := by decide +kernel
theorem dX0_addBlock_93 : decode cX0_addBlock 93 = .ok (.baload, 1) := by decide +kernel
theorem dX0_addBlock_94 : decode cX0_addBlock 94 = .ok (.if_icmp .le 19, 3) := by decide +kernel
theorem dX0_addBlock_97 : decode cX0_addBlock 97 = .ok (.aload_n 0, 1) := by decide +kernel
theorem dX0_addBlock_98 : decode cX0_addBlock 98 = .ok (.aload_n 0, 1) := by decide +kernel
theorem dX0_addBlock_99 : decode cX0_addBlock 99 = .ok (.iload 6, 2) := by decide +kernel
theorem dX0_addBlock_101 : decode cX0_addBlock 101 = .ok (.invokevirtual 48, 3) := by decide +kernel
theorem dX0_addBlock_104 : decode cX0_addBlock 104 = .ok (.putfield 58, 3) := by decide +kernel
theorem dX0_addBlock_107 : decode cX0_addBlock 107 = .ok (.aload_n 0, 1) := by decide +kernel
theorem dX0_addBlock_108 : decode cX0_addBlock 108 = .ok (.iload 6, 2) := by decide +kernel
theorem dX0_addBlock_110 : decode cX0_addBlock 110 = .ok (.putfield 55, 3) := by decide +kernel
theorem dX0_addBlock_113 : decode cX0_addBlock 113 = .ok (.iload 6, 2) := by decide +kernel
theorem dX0_addBlock_115 : decode cX0_addBlock 115 = .ok (.ireturn, 1) := by decide +kernel
abbrev cX0_moveTo : ByteArray := prog_1_method_20_code
def yX0_moveTo : MethodName := ⟨RX0, "moveTo", "(I)I"⟩
theorem dX0_moveTo_0 : decode cX0_moveTo 0 = .ok (.aload_n 0, 1) := by decide +kernel
theorem dX0_moveTo_1 : decode cX0_moveTo 1 = .ok (.aload_n 0, 1) := by decide +kernel
theorem dX0_moveTo_2 : decode cX0_moveTo 2 = .ok (.getfield 71, 3) := by decide +kernel
theorem dX0_moveTo_5 : decode cX0_moveTo 5 = .ok (.iload_n 1, 1) := by decide +kernel
theorem dX0_moveTo_6 : decode cX0_moveTo 6 = .ok (.invokevirtual 64, 3) := by decide +kernel
theorem dX0_moveTo_9 : decode cX0_moveTo 9 = .ok (.istore_n 2, 1) := by decide +kernel
theorem dX0_moveTo_10 : decode cX0_moveTo 10 = .ok (.iconst 0, 1) := by decide +kernel
theorem dX0_moveTo_11 : decode cX0_moveTo 11 = .ok (.istore_n 3, 1) := by decide +kernel
theorem dX0_moveTo_12 : decode cX0_moveTo 12 = .ok (.aload_n 0, 1) := by decide +kernel
theorem dX0_moveTo_13 : decode cX0_moveTo 13 = .ok (.getfield 71, 3) := by decide +kernel
theorem dX0_moveTo_16 : decode cX0_moveTo 16 = .ok (.iload_n 2, 1) := by decide +kernel
theorem dX0_moveTo_17 : decode cX0_moveTo 17 = .ok (.if_icmp .eq 30, 3) := by decide +kernel
theorem dX0_moveTo_20 : decode cX0_moveTo 20 = .ok (.aload_n 0, 1) := by decide +kernel
theorem dX0_moveTo_21 : decode cX0_moveTo 21 = .ok (.aload_n 0, 1) := by decide +kernel
theorem dX0_moveTo_22 : decode cX0_moveTo 22 = .ok (.getfield 71, 3) := by decide +kernel
theorem dX0_moveTo_25 : decode cX0_moveTo 25 = .ok (.invokevirtual 74, 3) := by decide +kernel
theorem dX0_moveTo_28 : decode cX0_moveTo 28 = .ok (.aload_n 0, 1) := by decide +kernel
theorem dX0_moveTo_29 : decode cX0_moveTo 29 = .ok (.aload_n 0, 1) := by decide +kernel
theorem dX0_moveTo_30 : decode cX0_moveTo 30 = .ok (.getfield 7, 3) := by decide +kernel
theorem dX0_moveTo_33 : decode cX0_moveTo 33 = .ok (.aload_n 0, 1) := by decide +kernel
theorem dX0_moveTo_34 : decode cX0_moveTo 34 = .ok (.getfield 71, 3) := by decide +kernel
theorem dX0_moveTo_37 : decode cX0_moveTo 37 = .ok (.baload, 1) := by decide +kernel
theorem dX0_moveTo_38 : decode cX0_moveTo 38 = .ok (.putfield 71, 3) := by decide +kernel
theorem dX0_moveTo_41 : decode cX0_moveTo 41 = .ok (.iinc 3 1, 3) := by decide +kernel
theorem dX0_moveTo_44 : decode cX0_moveTo 44 = .ok (.goto (-32), 3) := by decide +kernel
theorem dX0_moveTo_47 : decode cX0_moveTo 47 = .ok (.iconst 0, 1) := by decide +kernel
theorem dX0_moveTo_48 : decode cX0_moveTo 48 = .ok (.istore 4, 2) := by decide +kernel
theorem dX0_moveTo_50 : decode cX0_moveTo 50 = .ok (.iload_n 1, 1) := by decide +kernel
theorem dX0_moveTo_51 : decode cX0_moveTo 51 = .ok (.istore 5, 2) := by decide +kernel
theorem dX0_moveTo_53 : decode cX0_moveTo 53 = .ok (.iload 5, 2) := by decide +kernel
theorem dX0_moveTo_55 : decode cX0_moveTo 55 = .ok (.iload_n 2, 1) := by decide +kernel
theorem dX0_moveTo_56 : decode cX0_moveTo 56 = .ok (.if_icmp .eq 28, 3) := by decide +kernel
theorem dX0_moveTo_59 : decode cX0_moveTo 59 = .ok (.aload_n 0, 1) := by decide +kernel
theorem dX0_moveTo_60 : decode cX0_moveTo 60 = .ok (.getfield 33, 3) := by decide +kernel
theorem dX0_moveTo_63 : decode cX0_moveTo 63 = .ok (.iload 4, 2) := by decide +kernel
theorem dX0_moveTo_65 : decode cX0_moveTo 65 = .ok (.iload 5, 2) := by decide +kernel
theorem dX0_moveTo_67 : decode cX0_moveTo 67 = .ok (.i2b, 1) := by decide +kernel
theorem dX0_moveTo_68 : decode cX0_moveTo 68 = .ok (.bastore, 1) := by decide +kernel
theorem dX0_moveTo_69 : decode cX0_moveTo 69 = .ok (.iinc 4 1, 3) := by decide +kernel
theorem dX0_moveTo_72 : decode cX0_moveTo 72 = .ok (.aload_n 0, 1) := by decide +kernel
theorem dX0_moveTo_73 : decode cX0_moveTo 73 = .ok (.getfield 7, 3) := by decide +kernel
theorem dX0_moveTo_76 : decode cX0_moveTo 76 = .ok (.iload 5, 2) := by decide +kernel
theorem dX0_moveTo_78 : decode cX0_moveTo 78 = .ok (.baload, 1) := by decide +kernel
theorem dX0_moveTo_79 : decode cX0_moveTo 79 = .ok (.istore 5, 2) := by decide +kernel
theorem dX0_moveTo_81 : decode cX0_moveTo 81 = .ok (.goto (-28), 3) := by decide +kernel
theorem dX0_moveTo_84 : decode cX0_moveTo 84 = .ok (.iload 4, 2) := by decide +kernel
theorem dX0_moveTo_86 : decode cX0_moveTo 86 = .ok (.iconst 1, 1) := by decide +kernel
theorem dX0_moveTo_87 : decode cX0_moveTo 87 = .ok (.isub, 1) := by decide +kernel
theorem dX0_moveTo_88 : decode cX0_moveTo 88 = .ok (.istore 6, 2) := by decide +kernel
theorem dX0_moveTo_90 : decode cX0_moveTo 90 = .ok (.iload 6, 2) := by decide +kernel
theorem dX0_moveTo_92 : decode cX0_moveTo 92 = .ok (.ifCond .lt 20, 3) := by decide +kernel
theorem dX0_moveTo_95 : decode cX0_moveTo 95 = .ok (.aload_n 0, 1) := by decide +kernel
theorem dX0_moveTo_96 : decode cX0_moveTo 96 = .ok (.aload_n 0, 1) := by decide +kernel
theorem dX0_moveTo_97 : decode cX0_moveTo 97 = .ok (.getfield 33, 3) := by decide +kernel
theorem dX0_moveTo_100 : decode cX0_moveTo 100 = .ok (.iload 6, 2) := by decide +kernel
theorem dX0_moveTo_102 : decode cX0_moveTo 102 = .ok (.baload, 1) := by decide +kernel
theorem dX0_moveTo_103 : decode cX0_moveTo 103 = .ok (.invokevirtual 78, 3) := by decide +kernel
theorem dX0_moveTo_106 : decode cX0_moveTo 106 = .ok (.iinc 6 (-1), 3) := by decide +kernel
theorem dX0_moveTo_109 : decode cX0_moveTo 109 = .ok (.goto (-19), 3) := by decide +kernel
theorem dX0_moveTo_112 : decode cX0_moveTo 112 = .ok (.aload_n 0, 1) := by decide +kernel
theorem dX0_moveTo_113 : decode cX0_moveTo 113 = .ok (.iload_n 1, 1) := by decide +kernel
theorem dX0_moveTo_114 : decode cX0_moveTo 114 = .ok (.putfield 71, 3) := by decide +kernel
theorem dX0_moveTo_117 : decode cX0_moveTo 117 = .ok (.iload_n 3, 1) := by decide +kernel
theorem dX0_moveTo_118 : decode cX0_moveTo 118 = .ok (.ireturn, 1) := by decide +kernel
abbrev cX0_partingOf : ByteArray := prog_1_method_19_code
def yX0_partingOf : MethodName := ⟨RX0, "partingOf", "(II)I"⟩
theorem dX0_partingOf_0 : decode cX0_partingOf 0 = .ok (.iload_n 1, 1) := by decide +kernel
theorem dX0_partingOf_1 : decode cX0_partingOf 1 = .ok (.istore_n 3, 1) := by decide +kernel
theorem dX0_partingOf_2 : decode cX0_partingOf 2 = .ok (.iload_n 2, 1) := by decide +kernel
theorem dX0_partingOf_3 : decode cX0_partingOf 3 = .ok (.istore 4, 2) := by decide +kernel
theorem dX0_partingOf_5 : decode cX0_partingOf 5 = .ok (.iload_n 3, 1) := by decide +kernel
theorem dX0_partingOf_6 : decode cX0_partingOf 6 = .ok (.iload 4, 2) := by decide +kernel
theorem dX0_partingOf_8 : decode cX0_partingOf 8 = .ok (.if_icmp .eq 41, 3) := by decide +kernel
theorem dX0_partingOf_11 : decode cX0_partingOf 11 = .ok (.aload_n 0, 1) := by decide +kernel
theorem dX0_partingOf_12 : decode cX0_partingOf 12 = .ok (.getfield 13, 3) := by decide +kernel
theorem dX0_partingOf_15 : decode cX0_partingOf 15 = .ok (.iload_n 3, 1) := by decide +kernel
theorem dX0_partingOf_16 : decode cX0_partingOf 16 = .ok (.baload, 1) := by decide +kernel
theorem dX0_partingOf_17 : decode cX0_partingOf 17 = .ok (.aload_n 0, 1) := by decide +kernel
theorem dX0_partingOf_18 : decode cX0_partingOf 18 = .ok (.getfield 13, 3) := by decide +kernel
theorem dX0_partingOf_21 : decode cX0_partingOf 21 = .ok (.iload 4, 2) := by decide +kernel
theorem dX0_partingOf_23 : decode cX0_partingOf 23 = .ok (.baload, 1) := by decide +kernel
theorem dX0_partingOf_24 : decode cX0_partingOf 24 = .ok (.if_icmp .lt 13, 3) := by decide +kernel
theorem dX0_partingOf_27 : decode cX0_partingOf 27 = .ok (.aload_n 0, 1) := by decide +kernel
theorem dX0_partingOf_28 : decode cX0_partingOf 28 = .ok (.getfield 7, 3) := by decide +kernel
theorem dX0_partingOf_31 : decode cX0_partingOf 31 = .ok (.iload_n 3, 1) := by decide +kernel
theorem dX0_partingOf_32 : decode cX0_partingOf 32 = .ok (.baload, 1) := by decide +kernel
theorem dX0_partingOf_33 : decode cX0_partingOf 33 = .ok (.istore_n 3, 1) := by decide +kernel
theorem dX0_partingOf_34 : decode cX0_partingOf 34 = .ok (.goto (-29), 3) := by decide +kernel
theorem dX0_partingOf_37 : decode cX0_partingOf 37 = .ok (.aload_n 0, 1) := by decide +kernel
theorem dX0_partingOf_38 : decode cX0_partingOf 38 = .ok (.getfield 7, 3) := by decide +kernel
theorem dX0_partingOf_41 : decode cX0_partingOf 41 = .ok (.iload 4, 2) := by decide +kernel
theorem dX0_partingOf_43 : decode cX0_partingOf 43 = .ok (.baload, 1) := by decide +kernel
theorem dX0_partingOf_44 : decode cX0_partingOf 44 = .ok (.istore 4, 2) := by decide +kernel
theorem dX0_partingOf_46 : decode cX0_partingOf 46 = .ok (.goto (-41), 3) := by decide +kernel
theorem dX0_partingOf_49 : decode cX0_partingOf 49 = .ok (.iload_n 3, 1) := by decide +kernel
theorem dX0_partingOf_50 : decode cX0_partingOf 50 = .ok (.ireturn, 1) := by decide +kernel
abbrev cX0_undo : ByteArray := prog_1_method_22_code
def yX0_undo : MethodName := ⟨RX0, "undo", "(I)V"⟩
theorem dX0_undo_0 : decode cX0_undo 0 = .ok (.aload_n 0, 1) := by decide +kernel
theorem dX0_undo_1 : decode cX0_undo 1 = .ok (.iload_n 1, 1) := by decide +kernel
theorem dX0_undo_2 : decode cX0_undo 2 = .ok (.invokevirtual 81, 3) := by decide +kernel
theorem dX0_undo_5 : decode cX0_undo 5 = .ok (.aload_n 0, 1) := by decide +kernel
theorem dX0_undo_6 : decode cX0_undo 6 = .ok (.getfield 23, 3) := by decide +kernel
theorem dX0_undo_9 : decode cX0_undo 9 = .ok (.iload_n 1, 1) := by decide +kernel
theorem dX0_undo_10 : decode cX0_undo 10 = .ok (.baload, 1) := by decide +kernel
theorem dX0_undo_11 : decode cX0_undo 11 = .ok (.ifCond .lt 13, 3) := by decide +kernel
theorem dX0_undo_14 : decode cX0_undo 14 = .ok (.aload_n 0, 1) := by decide +kernel
theorem dX0_undo_15 : decode cX0_undo 15 = .ok (.aload_n 0, 1) := by decide +kernel
theorem dX0_undo_16 : decode cX0_undo 16 = .ok (.getfield 23, 3) := by decide +kernel
theorem dX0_undo_19 : decode cX0_undo 19 = .ok (.iload_n 1, 1) := by decide +kernel
theorem dX0_undo_20 : decode cX0_undo 20 = .ok (.baload, 1) := by decide +kernel
theorem dX0_undo_21 : decode cX0_undo 21 = .ok (.invokevirtual 84, 3) := by decide +kernel
theorem dX0_undo_24 : decode cX0_undo 24 = .ok (.aload_n 0, 1) := by decide +kernel
theorem dX0_undo_25 : decode cX0_undo 25 = .ok (.getfield 26, 3) := by decide +kernel
theorem dX0_undo_28 : decode cX0_undo 28 = .ok (.iload_n 1, 1) := by decide +kernel
theorem dX0_undo_29 : decode cX0_undo 29 = .ok (.baload, 1) := by decide +kernel
theorem dX0_undo_30 : decode cX0_undo 30 = .ok (.ifCond .lt 13, 3) := by decide +kernel
theorem dX0_undo_33 : decode cX0_undo 33 = .ok (.aload_n 0, 1) := by decide +kernel
theorem dX0_undo_34 : decode cX0_undo 34 = .ok (.aload_n 0, 1) := by decide +kernel
theorem dX0_undo_35 : decode cX0_undo 35 = .ok (.getfield 26, 3) := by decide +kernel
theorem dX0_undo_38 : decode cX0_undo 38 = .ok (.iload_n 1, 1) := by decide +kernel
theorem dX0_undo_39 : decode cX0_undo 39 = .ok (.baload, 1) := by decide +kernel
theorem dX0_undo_40 : decode cX0_undo 40 = .ok (.invokevirtual 84, 3) := by decide +kernel
theorem dX0_undo_43 : decode cX0_undo 43 = .ok (.return_, 1) := by decide +kernel
abbrev cX0_takeCoin : ByteArray := prog_1_method_23_code
def yX0_takeCoin : MethodName := ⟨RX0, "takeCoin", "(I)V"⟩
theorem dX0_takeCoin_0 : decode cX0_takeCoin 0 = .ok (.aload_n 0, 1) := by decide +kernel
theorem dX0_takeCoin_1 : decode cX0_takeCoin 1 = .ok (.dup, 1) := by decide +kernel
theorem dX0_takeCoin_2 : decode cX0_takeCoin 2 = .ok (.getfield 61, 3) := by decide +kernel
theorem dX0_takeCoin_5 : decode cX0_takeCoin 5 = .ok (.iconst 1, 1) := by decide +kernel
theorem dX0_takeCoin_6 : decode cX0_takeCoin 6 = .ok (.iload_n 1, 1) := by decide +kernel
theorem dX0_takeCoin_7 : decode cX0_takeCoin 7 = .ok (.ishl, 1) := by decide +kernel
theorem dX0_takeCoin_8 : decode cX0_takeCoin 8 = .ok (.iconst (-1), 1) := by decide +kernel
theorem dX0_takeCoin_9 : decode cX0_takeCoin 9 = .ok (.ixor, 1) := by decide +kernel
theorem dX0_takeCoin_10 : decode cX0_takeCoin 10 = .ok (.iand, 1) := by decide +kernel
theorem dX0_takeCoin_11 : decode cX0_takeCoin 11 = .ok (.putfield 61, 3) := by decide +kernel
theorem dX0_takeCoin_14 : decode cX0_takeCoin 14 = .ok (.aload_n 0, 1) := by decide +kernel
theorem dX0_takeCoin_15 : decode cX0_takeCoin 15 = .ok (.getfield 29, 3) := by decide +kernel
theorem dX0_takeCoin_18 : decode cX0_takeCoin 18 = .ok (.aload_n 0, 1) := by decide +kernel
theorem dX0_takeCoin_19 : decode cX0_takeCoin 19 = .ok (.getfield 16, 3) := by decide +kernel
theorem dX0_takeCoin_22 : decode cX0_takeCoin 22 = .ok (.iload_n 1, 1) := by decide +kernel
theorem dX0_takeCoin_23 : decode cX0_takeCoin 23 = .ok (.baload, 1) := by decide +kernel
theorem dX0_takeCoin_24 : decode cX0_takeCoin 24 = .ok (.dup2, 1) := by decide +kernel
theorem dX0_takeCoin_25 : decode cX0_takeCoin 25 = .ok (.laload, 1) := by decide +kernel
theorem dX0_takeCoin_26 : decode cX0_takeCoin 26 = .ok (.aload_n 0, 1) := by decide +kernel
theorem dX0_takeCoin_27 : decode cX0_takeCoin 27 = .ok (.getfield 19, 3) := by decide +kernel
theorem dX0_takeCoin_30 : decode cX0_takeCoin 30 = .ok (.iload_n 1, 1) := by decide +kernel
theorem dX0_takeCoin_31 : decode cX0_takeCoin 31 = .ok (.iaload, 1) := by decide +kernel
theorem dX0_takeCoin_32 : decode cX0_takeCoin 32 = .ok (.i2l, 1) := by decide +kernel
theorem dX0_takeCoin_33 : decode cX0_takeCoin 33 = .ok (.lsub, 1) := by decide +kernel
theorem dX0_takeCoin_34 : decode cX0_takeCoin 34 = .ok (.lastore, 1) := by decide +kernel
theorem dX0_takeCoin_35 : decode cX0_takeCoin 35 = .ok (.return_, 1) := by decide +kernel
abbrev cX0_giveCoin : ByteArray := prog_1_method_24_code
def yX0_giveCoin : MethodName := ⟨RX0, "giveCoin", "(I)V"⟩
theorem dX0_giveCoin_0 : decode cX0_giveCoin 0 = .ok (.aload_n 0, 1) := by decide +kernel
theorem dX0_giveCoin_1 : decode cX0_giveCoin 1 = .ok (.dup, 1) := by decide +kernel
theorem dX0_giveCoin_2 : decode cX0_giveCoin 2 = .ok (.getfield 61, 3) := by decide +kernel
theorem dX0_giveCoin_5 : decode cX0_giveCoin 5 = .ok (.iconst 1, 1) := by decide +kernel
theorem dX0_giveCoin_6 : decode cX0_giveCoin 6 = .ok (.iload_n 1, 1) := by decide +kernel
theorem dX0_giveCoin_7 : decode cX0_giveCoin 7 = .ok (.ishl, 1) := by decide +kernel
theorem dX0_giveCoin_8 : decode cX0_giveCoin 8 = .ok (.ior, 1) := by decide +kernel
theorem dX0_giveCoin_9 : decode cX0_giveCoin 9 = .ok (.putfield 61, 3) := by decide +kernel
theorem dX0_giveCoin_12 : decode cX0_giveCoin 12 = .ok (.aload_n 0, 1) := by decide +kernel
theorem dX0_giveCoin_13 : decode cX0_giveCoin 13 = .ok (.getfield 29, 3) := by decide +kernel
theorem dX0_giveCoin_16 : decode cX0_giveCoin 16 = .ok (.aload_n 0, 1) := by decide +kernel
theorem dX0_giveCoin_17 : decode cX0_giveCoin 17 = .ok (.getfield 16, 3) := by decide +kernel
theorem dX0_giveCoin_20 : decode cX0_giveCoin 20 = .ok (.iload_n 1, 1) := by decide +kernel
theorem dX0_giveCoin_21 : decode cX0_giveCoin 21 = .ok (.baload, 1) := by decide +kernel
theorem dX0_giveCoin_22 : decode cX0_giveCoin 22 = .ok (.dup2, 1) := by decide +kernel
theorem dX0_giveCoin_23 : decode cX0_giveCoin 23 = .ok (.laload, 1) := by decide +kernel
theorem dX0_giveCoin_24 : decode cX0_giveCoin 24 = .ok (.aload_n 0, 1) := by decide +kernel
theorem dX0_giveCoin_25 : decode cX0_giveCoin 25 = .ok (.getfield 19, 3) := by decide +kernel
theorem dX0_giveCoin_28 : decode cX0_giveCoin 28 = .ok (.iload_n 1, 1) := by decide +kernel
theorem dX0_giveCoin_29 : decode cX0_giveCoin 29 = .ok (.iaload, 1) := by decide +kernel
theorem dX0_giveCoin_30 : decode cX0_giveCoin 30 = .ok (.i2l, 1) := by decide +kernel
theorem dX0_giveCoin_31 : decode cX0_giveCoin 31 = .ok (.ladd, 1) := by decide +kernel
theorem dX0_giveCoin_32 : decode cX0_giveCoin 32 = .ok (.lastore, 1) := by decide +kernel
theorem dX0_giveCoin_33 : decode cX0_giveCoin 33 = .ok (.return_, 1) := by decide +kernel
abbrev cX0_apply : ByteArray := prog_1_method_21_code
def yX0_apply : MethodName := ⟨RX0, "apply", "(I)V"⟩
theorem dX0_apply_0 : decode cX0_apply 0 = .ok (.aload_n 0, 1) := by decide +kernel
theorem dX0_apply_1 : decode cX0_apply 1 = .ok (.getfield 23, 3) := by decide +kernel
theorem dX0_apply_4 : decode cX0_apply 4 = .ok (.iload_n 1, 1) := by decide +kernel
theorem dX0_apply_5 : decode cX0_apply 5 = .ok (.baload, 1) := by decide +kernel
theorem dX0_apply_6 : decode cX0_apply 6 = .ok (.ifCond .lt 13, 3) := by decide +kernel
theorem dX0_apply_9 : decode cX0_apply 9 = .ok (.aload_n 0, 1) := by decide +kernel
theorem dX0_apply_10 : decode cX0_apply 10 = .ok (.aload_n 0, 1) := by decide +kernel
theorem dX0_apply_11 : decode cX0_apply 11 = .ok (.getfield 23, 3) := by decide +kernel
theorem dX0_apply_14 : decode cX0_apply 14 = .ok (.iload_n 1, 1) := by decide +kernel
theorem dX0_apply_15 : decode cX0_apply 15 = .ok (.baload, 1) := by decide +kernel
theorem dX0_apply_16 : decode cX0_apply 16 = .ok (.invokevirtual 81, 3) := by decide +kernel
theorem dX0_apply_19 : decode cX0_apply 19 = .ok (.aload_n 0, 1) := by decide +kernel
theorem dX0_apply_20 : decode cX0_apply 20 = .ok (.getfield 26, 3) := by decide +kernel
theorem dX0_apply_23 : decode cX0_apply 23 = .ok (.iload_n 1, 1) := by decide +kernel
theorem dX0_apply_24 : decode cX0_apply 24 = .ok (.baload, 1) := by decide +kernel
theorem dX0_apply_25 : decode cX0_apply 25 = .ok (.ifCond .lt 13, 3) := by decide +kernel
theorem dX0_apply_28 : decode cX0_apply 28 = .ok (.aload_n 0, 1) := by decide +kernel
theorem dX0_apply_29 : decode cX0_apply 29 = .ok (.aload_n 0, 1) := by decide +kernel
theorem dX0_apply_30 : decode cX0_apply 30 = .ok (.getfield 26, 3) := by decide +kernel
theorem dX0_apply_33 : decode cX0_apply 33 = .ok (.iload_n 1, 1) := by decide +kernel
theorem dX0_apply_34 : decode cX0_apply 34 = .ok (.baload, 1) := by decide +kernel
theorem dX0_apply_35 : decode cX0_apply 35 = .ok (.invokevirtual 81, 3) := by decide +kernel
theorem dX0_apply_38 : decode cX0_apply 38 = .ok (.aload_n 0, 1) := by decide +kernel
theorem dX0_apply_39 : decode cX0_apply 39 = .ok (.iload_n 1, 1) := by decide +kernel
theorem dX0_apply_40 : decode cX0_apply 40 = .ok (.invokevirtual 84, 3) := by decide +kernel
theorem dX0_apply_43 : decode cX0_apply 43 = .ok (.return_, 1) := by decide +kernel
abbrev cX0_pay : ByteArray := prog_1_method_3_code
def yX0_pay : MethodName := ⟨RX0, "pay", "(IIII)I"⟩
theorem dX0_pay_0 : decode cX0_pay 0 = .ok (.aload_n 0, 1) := by decide +kernel
theorem dX0_pay_1 : decode cX0_pay 1 = .ok (.getfield 36, 3) := by decide +kernel
theorem dX0_pay_4 : decode cX0_pay 4 = .ok (.bipush 20, 2) := by decide +kernel
theorem dX0_pay_6 : decode cX0_pay 6 = .ok (.if_icmp .lt 6, 3) := by decide +kernel
theorem dX0_pay_9 : decode cX0_pay 9 = .ok (.bipush (-2), 2) := by decide +kernel
theorem dX0_pay_11 : decode cX0_pay 11 = .ok (.ireturn, 1) := by decide +kernel
theorem dX0_pay_12 : decode cX0_pay 12 = .ok (.aload_n 0, 1) := by decide +kernel
theorem dX0_pay_13 : decode cX0_pay 13 = .ok (.iload_n 1, 1) := by decide +kernel
theorem dX0_pay_14 : decode cX0_pay 14 = .ok (.invokevirtual 40, 3) := by decide +kernel
theorem dX0_pay_17 : decode cX0_pay 17 = .ok (.ifCond .eq 12, 3) := by decide +kernel
theorem dX0_pay_20 : decode cX0_pay 20 = .ok (.iload_n 2, 1) := by decide +kernel
theorem dX0_pay_21 : decode cX0_pay 21 = .ok (.ifCond .lt 8, 3) := by decide +kernel
theorem dX0_pay_24 : decode cX0_pay 24 = .ok (.iload_n 2, 1) := by decide +kernel
theorem dX0_pay_25 : decode cX0_pay 25 = .ok (.iconst 3, 1) := by decide +kernel
theorem dX0_pay_26 : decode cX0_pay 26 = .ok (.if_icmp .le 5, 3) := by decide +kernel
theorem dX0_pay_29 : decode cX0_pay 29 = .ok (.iconst (-1), 1) := by decide +kernel
theorem dX0_pay_30 : decode cX0_pay 30 = .ok (.ireturn, 1) := by decide +kernel
theorem dX0_pay_31 : decode cX0_pay 31 = .ok (.aload_n 0, 1) := by decide +kernel
theorem dX0_pay_32 : decode cX0_pay 32 = .ok (.iload_n 1, 1) := by decide +kernel
theorem dX0_pay_33 : decode cX0_pay 33 = .ok (.invokevirtual 48, 3) := by decide +kernel
theorem dX0_pay_36 : decode cX0_pay 36 = .ok (.pop, 1) := by decide +kernel
theorem dX0_pay_37 : decode cX0_pay 37 = .ok (.aload_n 0, 1) := by decide +kernel
theorem dX0_pay_38 : decode cX0_pay 38 = .ok (.iload_n 3, 1) := by decide +kernel
theorem dX0_pay_39 : decode cX0_pay 39 = .ok (.invokevirtual 52, 3) := by decide +kernel
theorem dX0_pay_42 : decode cX0_pay 42 = .ok (.ifCond .eq 28, 3) := by decide +kernel
theorem dX0_pay_45 : decode cX0_pay 45 = .ok (.iload 4, 2) := by decide +kernel
theorem dX0_pay_47 : decode cX0_pay 47 = .ok (.iconst (-1), 1) := by decide +kernel
theorem dX0_pay_48 : decode cX0_pay 48 = .ok (.if_icmp .eq 18, 3) := by decide +kernel
theorem dX0_pay_51 : decode cX0_pay 51 = .ok (.aload_n 0, 1) := by decide +kernel
theorem dX0_pay_52 : decode cX0_pay 52 = .ok (.iload 4, 2) := by decide +kernel
theorem dX0_pay_54 : decode cX0_pay 54 = .ok (.invokevirtual 52, 3) := by decide +kernel
theorem dX0_pay_57 : decode cX0_pay 57 = .ok (.ifCond .eq 13, 3) := by decide +kernel
theorem dX0_pay_60 : decode cX0_pay 60 = .ok (.iload 4, 2) := by decide +kernel
theorem dX0_pay_62 : decode cX0_pay 62 = .ok (.iload_n 3, 1) := by decide +kernel
theorem dX0_pay_63 : decode cX0_pay 63 = .ok (.if_icmp .eq 7, 3) := by decide +kernel
theorem dX0_pay_66 : decode cX0_pay 66 = .ok (.iconst 1, 1) := by decide +kernel
theorem dX0_pay_67 : decode cX0_pay 67 = .ok (.goto 4, 3) := by decide +kernel
theorem dX0_pay_70 : decode cX0_pay 70 = .ok (.iconst 0, 1) := by decide +kernel
theorem dX0_pay_71 : decode cX0_pay 71 = .ok (.istore 5, 2) := by decide +kernel
theorem dX0_pay_73 : decode cX0_pay 73 = .ok (.aload_n 0, 1) := by decide +kernel
theorem dX0_pay_74 : decode cX0_pay 74 = .ok (.aload_n 0, 1) := by decide +kernel
theorem dX0_pay_75 : decode cX0_pay 75 = .ok (.getfield 55, 3) := by decide +kernel
theorem dX0_pay_78 : decode cX0_pay 78 = .ok (.invokevirtual 48, 3) := by decide +kernel
theorem dX0_pay_81 : decode cX0_pay 81 = .ok (.pop, 1) := by decide +kernel
theorem dX0_pay_82 : decode cX0_pay 82 = .ok (.iload 5, 2) := by decide +kernel
theorem dX0_pay_84 : decode cX0_pay 84 = .ok (.ifCond .ne 6, 3) := by decide +kernel
theorem dX0_pay_87 : decode cX0_pay 87 = .ok (.bipush (-3), 2) := by decide +kernel
theorem dX0_pay_89 : decode cX0_pay 89 = .ok (.ireturn, 1) := by decide +kernel
theorem dX0_pay_90 : decode cX0_pay 90 = .ok (.aload_n 0, 1) := by decide +kernel
theorem dX0_pay_91 : decode cX0_pay 91 = .ok (.getfield 19, 3) := by decide +kernel
theorem dX0_pay_94 : decode cX0_pay 94 = .ok (.iload_n 3, 1) := by decide +kernel
theorem dX0_pay_95 : decode cX0_pay 95 = .ok (.iaload, 1) := by decide +kernel
theorem dX0_pay_96 : decode cX0_pay 96 = .ok (.istore 6, 2) := by decide +kernel
theorem dX0_pay_98 : decode cX0_pay 98 = .ok (.iload 4, 2) := by decide +kernel
theorem dX0_pay_100 : decode cX0_pay 100 = .ok (.ifCond .lt 15, 3) := by decide +kernel
theorem dX0_pay_103 : decode cX0_pay 103 = .ok (.iload 6, 2) := by decide +kernel
theorem dX0_pay_105 : decode cX0_pay 105 = .ok (.aload_n 0, 1) := by decide +kernel
theorem dX0_pay_106 : decode cX0_pay 106 = .ok (.getfield 19, 3) := by decide +kernel
theorem dX0_pay_109 : decode cX0_pay 109 = .ok (.iload 4, 2) := by decide +kernel
theorem dX0_pay_111 : decode cX0_pay 111 = .ok (.iaload, 1) := by decide +kernel
theorem dX0_pay_112 : decode cX0_pay 112 = .ok (.iadd, 1) := by decide +kernel
theorem dX0_pay_113 : decode cX0_pay 113 = .ok (.istore 6, 2) := by decide +kernel
theorem dX0_pay_115 : decode cX0_pay 115 = .ok (.aload_n 0, 1) := by decide +kernel
theorem dX0_pay_116 : decode cX0_pay 116 = .ok (.iload_n 1, 1) := by decide +kernel
theorem dX0_pay_117 : decode cX0_pay 117 = .ok (.iload_n 2, 1) := by decide +kernel
theorem dX0_pay_118 : decode cX0_pay 118 = .ok (.iload 6, 2) := by decide +kernel
theorem dX0_pay_120 : decode cX0_pay 120 = .ok (.iload_n 3, 1) := by decide +kernel
theorem dX0_pay_121 : decode cX0_pay 121 = .ok (.iload 4, 2) := by decide +kernel
theorem dX0_pay_123 : decode cX0_pay 123 = .ok (.invokevirtual 44, 3) := by decide +kernel
theorem dX0_pay_126 : decode cX0_pay 126 = .ok (.ireturn, 1) := by decide +kernel
abbrev cX0_isThere : ByteArray := prog_1_method_9_code
def yX0_isThere : MethodName := ⟨RX0, "isThere", "(I)Z"⟩
theorem dX0_isThere_0 : decode cX0_isThere 0 = .ok (.iload_n 1, 1) := by decide +kernel
theorem dX0_isThere_1 : decode cX0_isThere 1 = .ok (.ifCond .le 26, 3) := by decide +kernel
theorem dX0_isThere_4 : decode cX0_isThere 4 = .ok (.iload_n 1, 1) := by decide +kernel
theorem dX0_isThere_5 : decode cX0_isThere 5 = .ok (.aload_n 0, 1) := by decide +kernel
theorem dX0_isThere_6 : decode cX0_isThere 6 = .ok (.getfield 36, 3) := by decide +kernel
theorem dX0_isThere_9 : decode cX0_isThere 9 = .ok (.if_icmp .ge 18, 3) := by decide +kernel
theorem dX0_isThere_12 : decode cX0_isThere 12 = .ok (.aload_n 0, 1) := by decide +kernel
theorem dX0_isThere_13 : decode cX0_isThere 13 = .ok (.getfield 61, 3) := by decide +kernel
theorem dX0_isThere_16 : decode cX0_isThere 16 = .ok (.iload_n 1, 1) := by decide +kernel
theorem dX0_isThere_17 : decode cX0_isThere 17 = .ok (.ishr, 1) := by decide +kernel
theorem dX0_isThere_18 : decode cX0_isThere 18 = .ok (.iconst 1, 1) := by decide +kernel
theorem dX0_isThere_19 : decode cX0_isThere 19 = .ok (.iand, 1) := by decide +kernel
theorem dX0_isThere_20 : decode cX0_isThere 20 = .ok (.ifCond .eq 7, 3) := by decide +kernel
theorem dX0_isThere_23 : decode cX0_isThere 23 = .ok (.iconst 1, 1) := by decide +kernel
theorem dX0_isThere_24 : decode cX0_isThere 24 = .ok (.goto 4, 3) := by decide +kernel
theorem dX0_isThere_27 : decode cX0_isThere 27 = .ok (.iconst 0, 1) := by decide +kernel
theorem dX0_isThere_28 : decode cX0_isThere 28 = .ok (.ireturn, 1) := by decide +kernel
abbrev cX0_blocks : ByteArray := prog_1_method_5_code
def yX0_blocks : MethodName := ⟨RX0, "blocks", "()I"⟩
theorem dX0_blocks_0 : decode cX0_blocks 0 = .ok (.aload_n 0, 1) := by decide +kernel
theorem dX0_blocks_1 : decode cX0_blocks 1 = .ok (.getfield 36, 3) := by decide +kernel
theorem dX0_blocks_4 : decode cX0_blocks 4 = .ok (.ireturn, 1) := by decide +kernel
abbrev cX0_tip : ByteArray := prog_1_method_6_code
def yX0_tip : MethodName := ⟨RX0, "tip", "()I"⟩
theorem dX0_tip_0 : decode cX0_tip 0 = .ok (.aload_n 0, 1) := by decide +kernel
theorem dX0_tip_1 : decode cX0_tip 1 = .ok (.getfield 55, 3) := by decide +kernel
theorem dX0_tip_4 : decode cX0_tip 4 = .ok (.ireturn, 1) := by decide +kernel
abbrev cX0_height : ByteArray := prog_1_method_7_code
def yX0_height : MethodName := ⟨RX0, "height", "(I)I"⟩
theorem dX0_height_0 : decode cX0_height 0 = .ok (.aload_n 0, 1) := by decide +kernel
theorem dX0_height_1 : decode cX0_height 1 = .ok (.iload_n 1, 1) := by decide +kernel
theorem dX0_height_2 : decode cX0_height 2 = .ok (.invokevirtual 40, 3) := by decide +kernel
theorem dX0_height_5 : decode cX0_height 5 = .ok (.ifCond .eq 12, 3) := by decide +kernel
theorem dX0_height_8 : decode cX0_height 8 = .ok (.aload_n 0, 1) := by decide +kernel
theorem dX0_height_9 : decode cX0_height 9 = .ok (.getfield 13, 3) := by decide +kernel
theorem dX0_height_12 : decode cX0_height 12 = .ok (.iload_n 1, 1) := by decide +kernel
theorem dX0_height_13 : decode cX0_height 13 = .ok (.baload, 1) := by decide +kernel
theorem dX0_height_14 : decode cX0_height 14 = .ok (.goto 4, 3) := by decide +kernel
theorem dX0_height_17 : decode cX0_height 17 = .ok (.iconst (-1), 1) := by decide +kernel
theorem dX0_height_18 : decode cX0_height 18 = .ok (.ireturn, 1) := by decide +kernel
abbrev cX0_unspent : ByteArray := prog_1_method_10_code
def yX0_unspent : MethodName := ⟨RX0, "unspent", "(I)Z"⟩
theorem dX0_unspent_0 : decode cX0_unspent 0 = .ok (.aload_n 0, 1) := by decide +kernel
theorem dX0_unspent_1 : decode cX0_unspent 1 = .ok (.iload_n 1, 1) := by decide +kernel
theorem dX0_unspent_2 : decode cX0_unspent 2 = .ok (.invokevirtual 52, 3) := by decide +kernel
theorem dX0_unspent_5 : decode cX0_unspent 5 = .ok (.ireturn, 1) := by decide +kernel
abbrev cX0_amount : ByteArray := prog_1_method_11_code
def yX0_amount : MethodName := ⟨RX0, "amount", "(I)I"⟩
theorem dX0_amount_0 : decode cX0_amount 0 = .ok (.aload_n 0, 1) := by decide +kernel
theorem dX0_amount_1 : decode cX0_amount 1 = .ok (.iload_n 1, 1) := by decide +kernel
theorem dX0_amount_2 : decode cX0_amount 2 = .ok (.invokevirtual 40, 3) := by decide +kernel
theorem dX0_amount_5 : decode cX0_amount 5 = .ok (.ifCond .eq 12, 3) := by decide +kernel
theorem dX0_amount_8 : decode cX0_amount 8 = .ok (.aload_n 0, 1) := by decide +kernel
theorem dX0_amount_9 : decode cX0_amount 9 = .ok (.getfield 19, 3) := by decide +kernel
theorem dX0_amount_12 : decode cX0_amount 12 = .ok (.iload_n 1, 1) := by decide +kernel
theorem dX0_amount_13 : decode cX0_amount 13 = .ok (.iaload, 1) := by decide +kernel
theorem dX0_amount_14 : decode cX0_amount 14 = .ok (.goto 4, 3) := by decide +kernel
theorem dX0_amount_17 : decode cX0_amount 17 = .ok (.iconst 0, 1) := by decide +kernel
theorem dX0_amount_18 : decode cX0_amount 18 = .ok (.ireturn, 1) := by decide +kernel
abbrev cX0_balance : ByteArray := prog_1_method_12_code
def yX0_balance : MethodName := ⟨RX0, "balance", "(I)J"⟩
theorem dX0_balance_0 : decode cX0_balance 0 = .ok (.iload_n 1, 1) := by decide +kernel
theorem dX0_balance_1 : decode cX0_balance 1 = .ok (.ifCond .lt 8, 3) := by decide +kernel
theorem dX0_balance_4 : decode cX0_balance 4 = .ok (.iload_n 1, 1) := by decide +kernel
theorem dX0_balance_5 : decode cX0_balance 5 = .ok (.iconst 3, 1) := by decide +kernel
theorem dX0_balance_6 : decode cX0_balance 6 = .ok (.if_icmp .le 7, 3) := by decide +kernel
theorem dX0_balance_9 : decode cX0_balance 9 = .ok (.lconst 0, 1) := by decide +kernel
theorem dX0_balance_10 : decode cX0_balance 10 = .ok (.goto 9, 3) := by decide +kernel
theorem dX0_balance_13 : decode cX0_balance 13 = .ok (.aload_n 0, 1) := by decide +kernel
theorem dX0_balance_14 : decode cX0_balance 14 = .ok (.getfield 29, 3) := by decide +kernel
theorem dX0_balance_17 : decode cX0_balance 17 = .ok (.iload_n 1, 1) := by decide +kernel
theorem dX0_balance_18 : decode cX0_balance 18 = .ok (.laload, 1) := by decide +kernel
theorem dX0_balance_19 : decode cX0_balance 19 = .ok (.lreturn, 1) := by decide +kernel
abbrev cX0_coins : ByteArray := prog_1_method_13_code
def yX0_coins : MethodName := ⟨RX0, "coins", "()I"⟩
theorem dX0_coins_0 : decode cX0_coins 0 = .ok (.iconst 0, 1) := by decide +kernel
theorem dX0_coins_1 : decode cX0_coins 1 = .ok (.istore_n 1, 1) := by decide +kernel
theorem dX0_coins_2 : decode cX0_coins 2 = .ok (.iconst 1, 1) := by decide +kernel
theorem dX0_coins_3 : decode cX0_coins 3 = .ok (.istore_n 2, 1) := by decide +kernel
theorem dX0_coins_4 : decode cX0_coins 4 = .ok (.iload_n 2, 1) := by decide +kernel
theorem dX0_coins_5 : decode cX0_coins 5 = .ok (.aload_n 0, 1) := by decide +kernel
theorem dX0_coins_6 : decode cX0_coins 6 = .ok (.getfield 36, 3) := by decide +kernel
theorem dX0_coins_9 : decode cX0_coins 9 = .ok (.if_icmp .ge 20, 3) := by decide +kernel
theorem dX0_coins_12 : decode cX0_coins 12 = .ok (.aload_n 0, 1) := by decide +kernel
theorem dX0_coins_13 : decode cX0_coins 13 = .ok (.iload_n 2, 1) := by decide +kernel
theorem dX0_coins_14 : decode cX0_coins 14 = .ok (.invokevirtual 52, 3) := by decide +kernel
theorem dX0_coins_17 : decode cX0_coins 17 = .ok (.ifCond .eq 6, 3) := by decide +kernel
theorem dX0_coins_20 : decode cX0_coins 20 = .ok (.iinc 1 1, 3) := by decide +kernel
theorem dX0_coins_23 : decode cX0_coins 23 = .ok (.iinc 2 1, 3) := by decide +kernel
theorem dX0_coins_26 : decode cX0_coins 26 = .ok (.goto (-22), 3) := by decide +kernel
theorem dX0_coins_29 : decode cX0_coins 29 = .ok (.iload_n 1, 1) := by decide +kernel
theorem dX0_coins_30 : decode cX0_coins 30 = .ok (.ireturn, 1) := by decide +kernel
abbrev cX0_meeting : ByteArray := prog_1_method_14_code
def yX0_meeting : MethodName := ⟨RX0, "meeting", "(II)I"⟩
theorem dX0_meeting_0 : decode cX0_meeting 0 = .ok (.aload_n 0, 1) := by decide +kernel
theorem dX0_meeting_1 : decode cX0_meeting 1 = .ok (.iload_n 1, 1) := by decide +kernel
theorem dX0_meeting_2 : decode cX0_meeting 2 = .ok (.invokevirtual 40, 3) := by decide +kernel
theorem dX0_meeting_5 : decode cX0_meeting 5 = .ok (.ifCond .eq 11, 3) := by decide +kernel
theorem dX0_meeting_8 : decode cX0_meeting 8 = .ok (.aload_n 0, 1) := by decide +kernel
theorem dX0_meeting_9 : decode cX0_meeting 9 = .ok (.iload_n 2, 1) := by decide +kernel
theorem dX0_meeting_10 : decode cX0_meeting 10 = .ok (.invokevirtual 40, 3) := by decide +kernel
theorem dX0_meeting_13 : decode cX0_meeting 13 = .ok (.ifCond .ne 5, 3) := by decide +kernel
theorem dX0_meeting_16 : decode cX0_meeting 16 = .ok (.iconst (-1), 1) := by decide +kernel
theorem dX0_meeting_17 : decode cX0_meeting 17 = .ok (.ireturn, 1) := by decide +kernel
theorem dX0_meeting_18 : decode cX0_meeting 18 = .ok (.aload_n 0, 1) := by decide +kernel
theorem dX0_meeting_19 : decode cX0_meeting 19 = .ok (.iload_n 1, 1) := by decide +kernel
theorem dX0_meeting_20 : decode cX0_meeting 20 = .ok (.iload_n 2, 1) := by decide +kernel
theorem dX0_meeting_21 : decode cX0_meeting 21 = .ok (.invokevirtual 64, 3) := by decide +kernel
theorem dX0_meeting_24 : decode cX0_meeting 24 = .ok (.ireturn, 1) := by decide +kernel
abbrev cX0_undone : ByteArray := prog_1_method_15_code
def yX0_undone : MethodName := ⟨RX0, "undone", "()I"⟩
theorem dX0_undone_0 : decode cX0_undone 0 = .ok (.aload_n 0, 1) := by decide +kernel
theorem dX0_undone_1 : decode cX0_undone 1 = .ok (.getfield 58, 3) := by decide +kernel
theorem dX0_undone_4 : decode cX0_undone 4 = .ok (.ireturn, 1) := by decide +kernel
abbrev cX0_fewestFor : ByteArray := prog_1_method_16_code
def yX0_fewestFor : MethodName := ⟨RX0, "fewestFor", "(II)I"⟩
theorem dX0_fewestFor_0 : decode cX0_fewestFor 0 = .ok (.iload_n 1, 1) := by decide +kernel
theorem dX0_fewestFor_1 : decode cX0_fewestFor 1 = .ok (.ifCond .lt 8, 3) := by decide +kernel
theorem dX0_fewestFor_4 : decode cX0_fewestFor 4 = .ok (.iload_n 1, 1) := by decide +kernel
theorem dX0_fewestFor_5 : decode cX0_fewestFor 5 = .ok (.iconst 3, 1) := by decide +kernel
theorem dX0_fewestFor_6 : decode cX0_fewestFor 6 = .ok (.if_icmp .le 5, 3) := by decide +kernel
theorem dX0_fewestFor_9 : decode cX0_fewestFor 9 = .ok (.iconst (-1), 1) := by decide +kernel
theorem dX0_fewestFor_10 : decode cX0_fewestFor 10 = .ok (.ireturn, 1) := by decide +kernel
theorem dX0_fewestFor_11 : decode cX0_fewestFor 11 = .ok (.iload_n 2, 1) := by decide +kernel
theorem dX0_fewestFor_12 : decode cX0_fewestFor 12 = .ok (.i2l, 1) := by decide +kernel
theorem dX0_fewestFor_13 : decode cX0_fewestFor 13 = .ok (.aload_n 0, 1) := by decide +kernel
theorem dX0_fewestFor_14 : decode cX0_fewestFor 14 = .ok (.getfield 29, 3) := by decide +kernel
theorem dX0_fewestFor_17 : decode cX0_fewestFor 17 = .ok (.iload_n 1, 1) := by decide +kernel
theorem dX0_fewestFor_18 : decode cX0_fewestFor 18 = .ok (.laload, 1) := by decide +kernel
theorem dX0_fewestFor_19 : decode cX0_fewestFor 19 = .ok (.lcmp, 1) := by decide +kernel
theorem dX0_fewestFor_20 : decode cX0_fewestFor 20 = .ok (.ifCond .le 6, 3) := by decide +kernel
theorem dX0_fewestFor_23 : decode cX0_fewestFor 23 = .ok (.bipush (-4), 2) := by decide +kernel
theorem dX0_fewestFor_25 : decode cX0_fewestFor 25 = .ok (.ireturn, 1) := by decide +kernel
theorem dX0_fewestFor_26 : decode cX0_fewestFor 26 = .ok (.lconst 0, 1) := by decide +kernel
theorem dX0_fewestFor_27 : decode cX0_fewestFor 27 = .ok (.lstore_n 3, 1) := by decide +kernel
theorem dX0_fewestFor_28 : decode cX0_fewestFor 28 = .ok (.iconst 0, 1) := by decide +kernel
theorem dX0_fewestFor_29 : decode cX0_fewestFor 29 = .ok (.istore 5, 2) := by decide +kernel
theorem dX0_fewestFor_31 : decode cX0_fewestFor 31 = .ok (.iconst 0, 1) := by decide +kernel
theorem dX0_fewestFor_32 : decode cX0_fewestFor 32 = .ok (.istore 6, 2) := by decide +kernel
theorem dX0_fewestFor_34 : decode cX0_fewestFor 34 = .ok (.lload_n 3, 1) := by decide +kernel
theorem dX0_fewestFor_35 : decode cX0_fewestFor 35 = .ok (.iload_n 2, 1) := by decide +kernel
theorem dX0_fewestFor_36 : decode cX0_fewestFor 36 = .ok (.i2l, 1) := by decide +kernel
theorem dX0_fewestFor_37 : decode cX0_fewestFor 37 = .ok (.lcmp, 1) := by decide +kernel
theorem dX0_fewestFor_38 : decode cX0_fewestFor 38 = .ok (.ifCond .ge 38, 3) := by decide +kernel
theorem dX0_fewestFor_41 : decode cX0_fewestFor 41 = .ok (.aload_n 0, 1) := by decide +kernel
theorem dX0_fewestFor_42 : decode cX0_fewestFor 42 = .ok (.iload_n 1, 1) := by decide +kernel
theorem dX0_fewestFor_43 : decode cX0_fewestFor 43 = .ok (.iload 6, 2) := by decide +kernel
theorem dX0_fewestFor_45 : decode cX0_fewestFor 45 = .ok (.invokevirtual 68, 3) := by decide +kernel
theorem dX0_fewestFor_48 : decode cX0_fewestFor 48 = .ok (.istore 7, 2) := by decide +kernel
theorem dX0_fewestFor_50 : decode cX0_fewestFor 50 = .ok (.iload 6, 2) := by decide +kernel
theorem dX0_fewestFor_52 : decode cX0_fewestFor 52 = .ok (.iconst 1, 1) := by decide +kernel
theorem dX0_fewestFor_53 : decode cX0_fewestFor 53 = .ok (.iload 7, 2) := by decide +kernel
theorem dX0_fewestFor_55 : decode cX0_fewestFor 55 = .ok (.ishl, 1) := by decide +kernel
theorem dX0_fewestFor_56 : decode cX0_fewestFor 56 = .ok (.ior, 1) := by decide +kernel
theorem dX0_fewestFor_57 : decode cX0_fewestFor 57 = .ok (.istore 6, 2) := by decide +kernel
theorem dX0_fewestFor_59 : decode cX0_fewestFor 59 = .ok (.lload_n 3, 1) := by decide +kernel
theorem dX0_fewestFor_60 : decode cX0_fewestFor 60 = .ok (.aload_n 0, 1) := by decide +kernel
theorem dX0_fewestFor_61 : decode cX0_fewestFor 61 = .ok (.getfield 19, 3) := by decide +kernel
theorem dX0_fewestFor_64 : decode cX0_fewestFor 64 = .ok (.iload 7, 2) := by decide +kernel
theorem dX0_fewestFor_66 : decode cX0_fewestFor 66 = .ok (.iaload, 1) := by decide +kernel
theorem dX0_fewestFor_67 : decode cX0_fewestFor 67 = .ok (.i2l, 1) := by decide +kernel
theorem dX0_fewestFor_68 : decode cX0_fewestFor 68 = .ok (.ladd, 1) := by decide +kernel
theorem dX0_fewestFor_69 : decode cX0_fewestFor 69 = .ok (.lstore_n 3, 1) := by decide +kernel
theorem dX0_fewestFor_70 : decode cX0_fewestFor 70 = .ok (.iinc 5 1, 3) := by decide +kernel
theorem dX0_fewestFor_73 : decode cX0_fewestFor 73 = .ok (.goto (-39), 3) := by decide +kernel
theorem dX0_fewestFor_76 : decode cX0_fewestFor 76 = .ok (.iload 5, 2) := by decide +kernel
theorem dX0_fewestFor_78 : decode cX0_fewestFor 78 = .ok (.ireturn, 1) := by decide +kernel
abbrev cX0_largestOf : ByteArray := prog_1_method_17_code
def yX0_largestOf : MethodName := ⟨RX0, "largestOf", "(II)I"⟩
theorem dX0_largestOf_0 : decode cX0_largestOf 0 = .ok (.iconst 0, 1) := by decide +kernel
theorem dX0_largestOf_1 : decode cX0_largestOf 1 = .ok (.istore_n 3, 1) := by decide +kernel
theorem dX0_largestOf_2 : decode cX0_largestOf 2 = .ok (.iconst 1, 1) := by decide +kernel
theorem dX0_largestOf_3 : decode cX0_largestOf 3 = .ok (.istore 4, 2) := by decide +kernel
theorem dX0_largestOf_5 : decode cX0_largestOf 5 = .ok (.iload 4, 2) := by decide +kernel
theorem dX0_largestOf_7 : decode cX0_largestOf 7 = .ok (.aload_n 0, 1) := by decide +kernel
theorem dX0_largestOf_8 : decode cX0_largestOf 8 = .ok (.getfield 36, 3) := by decide +kernel
theorem dX0_largestOf_11 : decode cX0_largestOf 11 = .ok (.if_icmp .ge 64, 3) := by decide +kernel
theorem dX0_largestOf_14 : decode cX0_largestOf 14 = .ok (.aload_n 0, 1) := by decide +kernel
theorem dX0_largestOf_15 : decode cX0_largestOf 15 = .ok (.iload 4, 2) := by decide +kernel
theorem dX0_largestOf_17 : decode cX0_largestOf 17 = .ok (.invokevirtual 52, 3) := by decide +kernel
theorem dX0_largestOf_20 : decode cX0_largestOf 20 = .ok (.ifCond .eq 49, 3) := by decide +kernel
theorem dX0_largestOf_23 : decode cX0_largestOf 23 = .ok (.aload_n 0, 1) := by decide +kernel
theorem dX0_largestOf_24 : decode cX0_largestOf 24 = .ok (.getfield 16, 3) := by decide +kernel
theorem dX0_largestOf_27 : decode cX0_largestOf 27 = .ok (.iload 4, 2) := by decide +kernel
theorem dX0_largestOf_29 : decode cX0_largestOf 29 = .ok (.baload, 1) := by decide +kernel
theorem dX0_largestOf_30 : decode cX0_largestOf 30 = .ok (.iload_n 1, 1) := by decide +kernel
theorem dX0_largestOf_31 : decode cX0_largestOf 31 = .ok (.if_icmp .ne 38, 3) := by decide +kernel
theorem dX0_largestOf_34 : decode cX0_largestOf 34 = .ok (.iload_n 2, 1) := by decide +kernel
theorem dX0_largestOf_35 : decode cX0_largestOf 35 = .ok (.iload 4, 2) := by decide +kernel
theorem dX0_largestOf_37 : decode cX0_largestOf 37 = .ok (.ishr, 1) := by decide +kernel
theorem dX0_largestOf_38 : decode cX0_largestOf 38 = .ok (.iconst 1, 1) := by decide +kernel
theorem dX0_largestOf_39 : decode cX0_largestOf 39 = .ok (.iand, 1) := by decide +kernel
theorem dX0_largestOf_40 : decode cX0_largestOf 40 = .ok (.ifCond .eq 6, 3) := by decide +kernel
theorem dX0_largestOf_43 : decode cX0_largestOf 43 = .ok (.goto 26, 3) := by decide +kernel
theorem dX0_largestOf_46 : decode cX0_largestOf 46 = .ok (.iload_n 3, 1) := by decide +kernel
theorem dX0_largestOf_47 : decode cX0_largestOf 47 = .ok (.ifCond .eq 19, 3) := by decide +kernel
theorem dX0_largestOf_50 : decode cX0_largestOf 50 = .ok (.aload_n 0, 1) := by decide +kernel
theorem dX0_largestOf_51 : decode cX0_largestOf 51 = .ok (.getfield 19, 3) := by decide +kernel
theorem dX0_largestOf_54 : decode cX0_largestOf 54 = .ok (.iload 4, 2) := by decide +kernel
theorem dX0_largestOf_56 : decode cX0_largestOf 56 = .ok (.iaload, 1) := by decide +kernel
theorem dX0_largestOf_57 : decode cX0_largestOf 57 = .ok (.aload_n 0, 1) := by decide +kernel
theorem dX0_largestOf_58 : decode cX0_largestOf 58 = .ok (.getfield 19, 3) := by decide +kernel
theorem dX0_largestOf_61 : decode cX0_largestOf 61 = .ok (.iload_n 3, 1) := by decide +kernel
theorem dX0_largestOf_62 : decode cX0_largestOf 62 = .ok (.iaload, 1) := by decide +kernel
theorem dX0_largestOf_63 : decode cX0_largestOf 63 = .ok (.if_icmp .le 6, 3) := by decide +kernel
theorem dX0_largestOf_66 : decode cX0_largestOf 66 = .ok (.iload 4, 2) := by decide +kernel
theorem dX0_largestOf_68 : decode cX0_largestOf 68 = .ok (.istore_n 3, 1) := by decide +kernel
theorem dX0_largestOf_69 : decode cX0_largestOf 69 = .ok (.iinc 4 1, 3) := by decide +kernel
theorem dX0_largestOf_72 : decode cX0_largestOf 72 = .ok (.goto (-67), 3) := by decide +kernel
theorem dX0_largestOf_75 : decode cX0_largestOf 75 = .ok (.iload_n 3, 1) := by decide +kernel
theorem dX0_largestOf_76 : decode cX0_largestOf 76 = .ok (.ireturn, 1) := by decide +kernel
abbrev cX0_forget : ByteArray := prog_1_method_18_code
def yX0_forget : MethodName := ⟨RX0, "forget", "(I)I"⟩
theorem dX0_forget_0 : decode cX0_forget 0 = .ok (.iload_n 1, 1) := by decide +kernel
theorem dX0_forget_1 : decode cX0_forget 1 = .ok (.ifCond .le 21, 3) := by decide +kernel
theorem dX0_forget_4 : decode cX0_forget 4 = .ok (.iload_n 1, 1) := by decide +kernel
theorem dX0_forget_5 : decode cX0_forget 5 = .ok (.aload_n 0, 1) := by decide +kernel
theorem dX0_forget_6 : decode cX0_forget 6 = .ok (.getfield 36, 3) := by decide +kernel
theorem dX0_forget_9 : decode cX0_forget 9 = .ok (.iconst 1, 1) := by decide +kernel
theorem dX0_forget_10 : decode cX0_forget 10 = .ok (.isub, 1) := by decide +kernel
theorem dX0_forget_11 : decode cX0_forget 11 = .ok (.if_icmp .ne 11, 3) := by decide +kernel
theorem dX0_forget_14 : decode cX0_forget 14 = .ok (.iload_n 1, 1) := by decide +kernel
theorem dX0_forget_15 : decode cX0_forget 15 = .ok (.aload_n 0, 1) := by decide +kernel
theorem dX0_forget_16 : decode cX0_forget 16 = .ok (.getfield 55, 3) := by decide +kernel
theorem dX0_forget_19 : decode cX0_forget 19 = .ok (.if_icmp .ne 6, 3) := by decide +kernel
theorem dX0_forget_22 : decode cX0_forget 22 = .ok (.bipush (-4), 2) := by decide +kernel
theorem dX0_forget_24 : decode cX0_forget 24 = .ok (.ireturn, 1) := by decide +kernel
theorem dX0_forget_25 : decode cX0_forget 25 = .ok (.aload_n 0, 1) := by decide +kernel
theorem dX0_forget_26 : decode cX0_forget 26 = .ok (.dup, 1) := by decide +kernel
theorem dX0_forget_27 : decode cX0_forget 27 = .ok (.getfield 36, 3) := by decide +kernel
theorem dX0_forget_30 : decode cX0_forget 30 = .ok (.iconst 1, 1) := by decide +kernel
theorem dX0_forget_31 : decode cX0_forget 31 = .ok (.isub, 1) := by decide +kernel
theorem dX0_forget_32 : decode cX0_forget 32 = .ok (.putfield 36, 3) := by decide +kernel
theorem dX0_forget_35 : decode cX0_forget 35 = .ok (.iload_n 1, 1) := by decide +kernel
theorem dX0_forget_36 : decode cX0_forget 36 = .ok (.ireturn, 1) := by decide +kernel
theorem q18 : (Jvm.Cond.initialized "ChainUndo") ∈ lw_all := lw_g (lw_at lw_m1 1 rfl) rfl
theorem q21 : (Jvm.Cond.instantiable "ChainUndo" (13 : Nat)) ∈ lw_all := lw_g (lw_at lw_m1 4 rfl) rfl
theorem q23 : (Jvm.Cond.instanceMethod ({ cls := "ChainUndo", name := "<init>", desc := "()V" } : Jvm.MethodName)) ∈ lw_all := lw_g (lw_at lw_m1 6 rfl) rfl
theorem q24 : (Jvm.Cond.code ({ cls := "ChainUndo", name := "<init>", desc := "()V" } : Jvm.MethodName) prog_1_method_1_code (1 : Nat) (Option.none : Option Jvm.ClassFile.FieldType)) ∈ lw_all := lw_g (lw_at lw_m1 7 rfl) rfl
theorem q25 : (Jvm.Cond.methodLink "ChainUndo" (1 : Nat) ({ cls := "java/lang/Object", name := "<init>", desc := "()V" } : Jvm.MethodName)) ∈ lw_all := lw_g (lw_at lw_m1 8 rfl) rfl
theorem q28 : (Jvm.Cond.fieldLink "ChainUndo" (36 : Nat) "ChainUndo" "blockCount" "I") ∈ lw_all := lw_g (lw_at lw_m1 11 rfl) rfl
theorem q29 : (Jvm.Cond.fieldLink "ChainUndo" (7 : Nat) "ChainUndo" "parent" "[B") ∈ lw_all := lw_g (lw_at lw_m1 12 rfl) rfl
theorem q30 : (Jvm.Cond.fieldLink "ChainUndo" (13 : Nat) "ChainUndo" "level" "[B") ∈ lw_all := lw_g (lw_at lw_m1 13 rfl) rfl
theorem q31 : (Jvm.Cond.fieldLink "ChainUndo" (16 : Nat) "ChainUndo" "ownerOf" "[B") ∈ lw_all := lw_g (lw_at lw_m1 14 rfl) rfl
theorem q32 : (Jvm.Cond.fieldLink "ChainUndo" (19 : Nat) "ChainUndo" "amountOf" "[I") ∈ lw_all := lw_g (lw_at lw_m1 15 rfl) rfl
theorem q33 : (Jvm.Cond.fieldLink "ChainUndo" (23 : Nat) "ChainUndo" "spentFirst" "[B") ∈ lw_all := lw_g (lw_at lw_m1 16 rfl) rfl
theorem q34 : (Jvm.Cond.fieldLink "ChainUndo" (26 : Nat) "ChainUndo" "spentSecond" "[B") ∈ lw_all := lw_g (lw_at lw_m1 17 rfl) rfl
theorem q35 : (Jvm.Cond.fieldLink "ChainUndo" (71 : Nat) "ChainUndo" "at" "I") ∈ lw_all := lw_g (lw_at lw_m1 18 rfl) rfl
theorem q36 : (Jvm.Cond.fieldLink "ChainUndo" (61 : Nat) "ChainUndo" "ledger" "I") ∈ lw_all := lw_g (lw_at lw_m1 19 rfl) rfl
theorem q37 : (Jvm.Cond.fieldLink "ChainUndo" (29 : Nat) "ChainUndo" "wealth" "[J") ∈ lw_all := lw_g (lw_at lw_m1 20 rfl) rfl
theorem q38 : (Jvm.Cond.fieldLink "ChainUndo" (33 : Nat) "ChainUndo" "wayUp" "[B") ∈ lw_all := lw_g (lw_at lw_m1 21 rfl) rfl
theorem q39 : (Jvm.Cond.fieldLink "ChainUndo" (55 : Nat) "ChainUndo" "tipBlock" "I") ∈ lw_all := lw_g (lw_at lw_m1 22 rfl) rfl
theorem q40 : (Jvm.Cond.fieldLink "ChainUndo" (58 : Nat) "ChainUndo" "undoneCount" "I") ∈ lw_all := lw_g (lw_at lw_m1 23 rfl) rfl
theorem q41 : (Jvm.Cond.lays "ChainUndo" "ChainUndo" "blockCount" "I") ∈ lw_all := lw_g (lw_at lw_m1 24 rfl) rfl
theorem q42 : (Jvm.Cond.soleField "ChainUndo" "blockCount") ∈ lw_all := lw_g (lw_at lw_m1 25 rfl) rfl
theorem q43 : (Jvm.Cond.laysFinal "ChainUndo" "ChainUndo" "parent" "[B") ∈ lw_all := lw_g (lw_at lw_m1 26 rfl) rfl
theorem q44 : (Jvm.Cond.soleField "ChainUndo" "parent") ∈ lw_all := lw_g (lw_at lw_m1 27 rfl) rfl
theorem q45 : (Jvm.Cond.laysFinal "ChainUndo" "ChainUndo" "level" "[B") ∈ lw_all := lw_g (lw_at lw_m1 28 rfl) rfl
theorem q46 : (Jvm.Cond.soleField "ChainUndo" "level") ∈ lw_all := lw_g (lw_at lw_m1 29 rfl) rfl
theorem q47 : (Jvm.Cond.laysFinal "ChainUndo" "ChainUndo" "ownerOf" "[B") ∈ lw_all := lw_g (lw_at lw_m1 30 rfl) rfl
theorem q48 : (Jvm.Cond.soleField "ChainUndo" "ownerOf") ∈ lw_all := lw_g (lw_at lw_m1 31 rfl) rfl
theorem q49 : (Jvm.Cond.laysFinal "ChainUndo" "ChainUndo" "amountOf" "[I") ∈ lw_all := lw_g (lw_at lw_m1 32 rfl) rfl
theorem q50 : (Jvm.Cond.soleField "ChainUndo" "amountOf") ∈ lw_all := lw_g (lw_at lw_m1 33 rfl) rfl
theorem q51 : (Jvm.Cond.laysFinal "ChainUndo" "ChainUndo" "spentFirst" "[B") ∈ lw_all := lw_g (lw_at lw_m1 34 rfl) rfl
theorem q52 : (Jvm.Cond.soleField "ChainUndo" "spentFirst") ∈ lw_all := lw_g (lw_at lw_m1 35 rfl) rfl
theorem q53 : (Jvm.Cond.laysFinal "ChainUndo" "ChainUndo" "spentSecond" "[B") ∈ lw_all := lw_g (lw_at lw_m1 36 rfl) rfl
theorem q54 : (Jvm.Cond.soleField "ChainUndo" "spentSecond") ∈ lw_all := lw_g (lw_at lw_m1 37 rfl) rfl
theorem q55 : (Jvm.Cond.lays "ChainUndo" "ChainUndo" "at" "I") ∈ lw_all := lw_g (lw_at lw_m1 38 rfl) rfl
theorem q56 : (Jvm.Cond.soleField "ChainUndo" "at") ∈ lw_all := lw_g (lw_at lw_m1 39 rfl) rfl
theorem q57 : (Jvm.Cond.lays "ChainUndo" "ChainUndo" "ledger" "I") ∈ lw_all := lw_g (lw_at lw_m1 40 rfl) rfl
theorem q58 : (Jvm.Cond.soleField "ChainUndo" "ledger") ∈ lw_all := lw_g (lw_at lw_m1 41 rfl) rfl
theorem q59 : (Jvm.Cond.laysFinal "ChainUndo" "ChainUndo" "wealth" "[J") ∈ lw_all := lw_g (lw_at lw_m1 42 rfl) rfl
theorem q60 : (Jvm.Cond.soleField "ChainUndo" "wealth") ∈ lw_all := lw_g (lw_at lw_m1 43 rfl) rfl
theorem q61 : (Jvm.Cond.laysFinal "ChainUndo" "ChainUndo" "wayUp" "[B") ∈ lw_all := lw_g (lw_at lw_m1 44 rfl) rfl
theorem q62 : (Jvm.Cond.soleField "ChainUndo" "wayUp") ∈ lw_all := lw_g (lw_at lw_m1 45 rfl) rfl
theorem q63 : (Jvm.Cond.lays "ChainUndo" "ChainUndo" "tipBlock" "I") ∈ lw_all := lw_g (lw_at lw_m1 46 rfl) rfl
theorem q64 : (Jvm.Cond.soleField "ChainUndo" "tipBlock") ∈ lw_all := lw_g (lw_at lw_m1 47 rfl) rfl
theorem q65 : (Jvm.Cond.lays "ChainUndo" "ChainUndo" "undoneCount" "I") ∈ lw_all := lw_g (lw_at lw_m1 48 rfl) rfl
theorem q66 : (Jvm.Cond.soleField "ChainUndo" "undoneCount") ∈ lw_all := lw_g (lw_at lw_m1 49 rfl) rfl
theorem q67 : (Jvm.Cond.superclass "ChainUndo" "java/lang/Object") ∈ lw_all := lw_g (lw_at lw_m1 50 rfl) rfl
theorem q72 : (Jvm.Cond.instanceMethod ({ cls := "ChainUndo", name := "mint", desc := "(III)I" } : Jvm.MethodName)) ∈ lw_all := lw_g (lw_at lw_m1 55 rfl) rfl
theorem q73 : (Jvm.Cond.selects "ChainUndo" ({ cls := "ChainUndo", name := "mint", desc := "(III)I" } : Jvm.MethodName) ({ cls := "ChainUndo", name := "mint", desc := "(III)I" } : Jvm.MethodName)) ∈ lw_all := lw_g (lw_at lw_m1 56 rfl) rfl
theorem q74 : (Jvm.Cond.code ({ cls := "ChainUndo", name := "mint", desc := "(III)I" } : Jvm.MethodName) prog_1_method_2_code (4 : Nat) (Option.some Jvm.ClassFile.FieldType.int)) ∈ lw_all := lw_g (lw_at lw_m1 57 rfl) rfl
theorem q75 : (Jvm.Cond.methodLink "ChainUndo" (40 : Nat) ({ cls := "ChainUndo", name := "isBlock", desc := "(I)Z" } : Jvm.MethodName)) ∈ lw_all := lw_g (lw_at lw_m1 58 rfl) rfl
theorem q76 : (Jvm.Cond.privateMethod ({ cls := "ChainUndo", name := "isBlock", desc := "(I)Z" } : Jvm.MethodName)) ∈ lw_tbl := lw_at lw_m1 59 rfl
theorem q77 : (Jvm.Cond.instanceMethod ({ cls := "ChainUndo", name := "isBlock", desc := "(I)Z" } : Jvm.MethodName)) ∈ lw_all := lw_g (lw_at lw_m1 60 rfl) rfl
theorem q78 : (Jvm.Cond.code ({ cls := "ChainUndo", name := "isBlock", desc := "(I)Z" } : Jvm.MethodName) prog_1_method_8_code (2 : Nat) (Option.some Jvm.ClassFile.FieldType.boolean)) ∈ lw_all := lw_g (lw_at lw_m1 61 rfl) rfl
theorem q79 : (Jvm.Cond.methodLink "ChainUndo" (44 : Nat) ({ cls := "ChainUndo", name := "addBlock", desc := "(IIIII)I" } : Jvm.MethodName)) ∈ lw_all := lw_g (lw_at lw_m1 62 rfl) rfl
theorem q80 : (Jvm.Cond.privateMethod ({ cls := "ChainUndo", name := "addBlock", desc := "(IIIII)I" } : Jvm.MethodName)) ∈ lw_tbl := lw_at lw_m1 63 rfl
theorem q81 : (Jvm.Cond.instanceMethod ({ cls := "ChainUndo", name := "addBlock", desc := "(IIIII)I" } : Jvm.MethodName)) ∈ lw_all := lw_g (lw_at lw_m1 64 rfl) rfl
theorem q82 : (Jvm.Cond.code ({ cls := "ChainUndo", name := "addBlock", desc := "(IIIII)I" } : Jvm.MethodName) prog_1_method_4_code (7 : Nat) (Option.some Jvm.ClassFile.FieldType.int)) ∈ lw_all := lw_g (lw_at lw_m1 65 rfl) rfl
theorem q83 : (Jvm.Cond.methodLink "ChainUndo" (48 : Nat) ({ cls := "ChainUndo", name := "moveTo", desc := "(I)I" } : Jvm.MethodName)) ∈ lw_all := lw_g (lw_at lw_m1 66 rfl) rfl
theorem q84 : (Jvm.Cond.privateMethod ({ cls := "ChainUndo", name := "moveTo", desc := "(I)I" } : Jvm.MethodName)) ∈ lw_tbl := lw_at lw_m1 67 rfl
theorem q85 : (Jvm.Cond.instanceMethod ({ cls := "ChainUndo", name := "moveTo", desc := "(I)I" } : Jvm.MethodName)) ∈ lw_all := lw_g (lw_at lw_m1 68 rfl) rfl
theorem q86 : (Jvm.Cond.code ({ cls := "ChainUndo", name := "moveTo", desc := "(I)I" } : Jvm.MethodName) prog_1_method_20_code (7 : Nat) (Option.some Jvm.ClassFile.FieldType.int)) ∈ lw_all := lw_g (lw_at lw_m1 69 rfl) rfl
theorem q87 : (Jvm.Cond.methodLink "ChainUndo" (64 : Nat) ({ cls := "ChainUndo", name := "partingOf", desc := "(II)I" } : Jvm.MethodName)) ∈ lw_all := lw_g (lw_at lw_m1 70 rfl) rfl
theorem q88 : (Jvm.Cond.privateMethod ({ cls := "ChainUndo", name := "partingOf", desc := "(II)I" } : Jvm.MethodName)) ∈ lw_tbl := lw_at lw_m1 71 rfl
theorem q89 : (Jvm.Cond.instanceMethod ({ cls := "ChainUndo", name := "partingOf", desc := "(II)I" } : Jvm.MethodName)) ∈ lw_all := lw_g (lw_at lw_m1 72 rfl) rfl
theorem q90 : (Jvm.Cond.code ({ cls := "ChainUndo", name := "partingOf", desc := "(II)I" } : Jvm.MethodName) prog_1_method_19_code (5 : Nat) (Option.some Jvm.ClassFile.FieldType.int)) ∈ lw_all := lw_g (lw_at lw_m1 73 rfl) rfl
theorem q91 : (Jvm.Cond.methodLink "ChainUndo" (74 : Nat) ({ cls := "ChainUndo", name := "undo", desc := "(I)V" } : Jvm.MethodName)) ∈ lw_all := lw_g (lw_at lw_m1 74 rfl) rfl
theorem q92 : (Jvm.Cond.privateMethod ({ cls := "ChainUndo", name := "undo", desc := "(I)V" } : Jvm.MethodName)) ∈ lw_tbl := lw_at lw_m1 75 rfl
theorem q93 : (Jvm.Cond.instanceMethod ({ cls := "ChainUndo", name := "undo", desc := "(I)V" } : Jvm.MethodName)) ∈ lw_all := lw_g (lw_at lw_m1 76 rfl) rfl
theorem q94 : (Jvm.Cond.code ({ cls := "ChainUndo", name := "undo", desc := "(I)V" } : Jvm.MethodName) prog_1_method_22_code (2 : Nat) (Option.none : Option Jvm.ClassFile.FieldType)) ∈ lw_all := lw_g (lw_at lw_m1 77 rfl) rfl
theorem q95 : (Jvm.Cond.methodLink "ChainUndo" (81 : Nat) ({ cls := "ChainUndo", name := "takeCoin", desc := "(I)V" } : Jvm.MethodName)) ∈ lw_all := lw_g (lw_at lw_m1 78 rfl) rfl
theorem q96 : (Jvm.Cond.privateMethod ({ cls := "ChainUndo", name := "takeCoin", desc := "(I)V" } : Jvm.MethodName)) ∈ lw_tbl := lw_at lw_m1 79 rfl
theorem q97 : (Jvm.Cond.instanceMethod ({ cls := "ChainUndo", name := "takeCoin", desc := "(I)V" } : Jvm.MethodName)) ∈ lw_all := lw_g (lw_at lw_m1 80 rfl) rfl
theorem q98 : (Jvm.Cond.code ({ cls := "ChainUndo", name := "takeCoin", desc := "(I)V" } : Jvm.MethodName) prog_1_method_23_code (2 : Nat) (Option.none : Option Jvm.ClassFile.FieldType)) ∈ lw_all := lw_g (lw_at lw_m1 81 rfl) rfl
theorem q99 : (Jvm.Cond.methodLink "ChainUndo" (84 : Nat) ({ cls := "ChainUndo", name := "giveCoin", desc := "(I)V" } : Jvm.MethodName)) ∈ lw_all := lw_g (lw_at lw_m1 82 rfl) rfl
theorem q100 : (Jvm.Cond.privateMethod ({ cls := "ChainUndo", name := "giveCoin", desc := "(I)V" } : Jvm.MethodName)) ∈ lw_tbl := lw_at lw_m1 83 rfl
theorem q101 : (Jvm.Cond.instanceMethod ({ cls := "ChainUndo", name := "giveCoin", desc := "(I)V" } : Jvm.MethodName)) ∈ lw_all := lw_g (lw_at lw_m1 84 rfl) rfl
theorem q102 : (Jvm.Cond.code ({ cls := "ChainUndo", name := "giveCoin", desc := "(I)V" } : Jvm.MethodName) prog_1_method_24_code (2 : Nat) (Option.none : Option Jvm.ClassFile.FieldType)) ∈ lw_all := lw_g (lw_at lw_m1 85 rfl) rfl
theorem q103 : (Jvm.Cond.methodLink "ChainUndo" (78 : Nat) ({ cls := "ChainUndo", name := "apply", desc := "(I)V" } : Jvm.MethodName)) ∈ lw_all := lw_g (lw_at lw_m1 86 rfl) rfl
theorem q104 : (Jvm.Cond.privateMethod ({ cls := "ChainUndo", name := "apply", desc := "(I)V" } : Jvm.MethodName)) ∈ lw_tbl := lw_at lw_m1 87 rfl
theorem q105 : (Jvm.Cond.instanceMethod ({ cls := "ChainUndo", name := "apply", desc := "(I)V" } : Jvm.MethodName)) ∈ lw_all := lw_g (lw_at lw_m1 88 rfl) rfl
theorem q106 : (Jvm.Cond.code ({ cls := "ChainUndo", name := "apply", desc := "(I)V" } : Jvm.MethodName) prog_1_method_21_code (2 : Nat) (Option.none : Option Jvm.ClassFile.FieldType)) ∈ lw_all := lw_g (lw_at lw_m1 89 rfl) rfl
theorem q108 : (Jvm.Cond.instanceMethod ({ cls := "ChainUndo", name := "pay", desc := "(IIII)I" } : Jvm.MethodName)) ∈ lw_all := lw_g (lw_at lw_m1 91 rfl) rfl
theorem q109 : (Jvm.Cond.selects "ChainUndo" ({ cls := "ChainUndo", name := "pay", desc := "(IIII)I" } : Jvm.MethodName) ({ cls := "ChainUndo", name := "pay", desc := "(IIII)I" } : Jvm.MethodName)) ∈ lw_all := lw_g (lw_at lw_m1 92 rfl) rfl
theorem q110 : (Jvm.Cond.code ({ cls := "ChainUndo", name := "pay", desc := "(IIII)I" } : Jvm.MethodName) prog_1_method_3_code (7 : Nat) (Option.some Jvm.ClassFile.FieldType.int)) ∈ lw_all := lw_g (lw_at lw_m1 93 rfl) rfl
theorem q111 : (Jvm.Cond.methodLink "ChainUndo" (52 : Nat) ({ cls := "ChainUndo", name := "isThere", desc := "(I)Z" } : Jvm.MethodName)) ∈ lw_all := lw_g (lw_at lw_m1 94 rfl) rfl
theorem q112 : (Jvm.Cond.privateMethod ({ cls := "ChainUndo", name := "isThere", desc := "(I)Z" } : Jvm.MethodName)) ∈ lw_tbl := lw_at lw_m1 95 rfl
theorem q113 : (Jvm.Cond.instanceMethod ({ cls := "ChainUndo", name := "isThere", desc := "(I)Z" } : Jvm.MethodName)) ∈ lw_all := lw_g (lw_at lw_m1 96 rfl) rfl
theorem q114 : (Jvm.Cond.code ({ cls := "ChainUndo", name := "isThere", desc := "(I)Z" } : Jvm.MethodName) prog_1_method_9_code (2 : Nat) (Option.some Jvm.ClassFile.FieldType.boolean)) ∈ lw_all := lw_g (lw_at lw_m1 97 rfl) rfl
theorem q116 : (Jvm.Cond.instanceMethod ({ cls := "ChainUndo", name := "blocks", desc := "()I" } : Jvm.MethodName)) ∈ lw_all := lw_g (lw_at lw_m1 99 rfl) rfl
theorem q117 : (Jvm.Cond.selects "ChainUndo" ({ cls := "ChainUndo", name := "blocks", desc := "()I" } : Jvm.MethodName) ({ cls := "ChainUndo", name := "blocks", desc := "()I" } : Jvm.MethodName)) ∈ lw_all := lw_g (lw_at lw_m1 100 rfl) rfl
theorem q118 : (Jvm.Cond.code ({ cls := "ChainUndo", name := "blocks", desc := "()I" } : Jvm.MethodName) prog_1_method_5_code (1 : Nat) (Option.some Jvm.ClassFile.FieldType.int)) ∈ lw_all := lw_g (lw_at lw_m1 101 rfl) rfl
theorem q120 : (Jvm.Cond.instanceMethod ({ cls := "ChainUndo", name := "tip", desc := "()I" } : Jvm.MethodName)) ∈ lw_all := lw_g (lw_at lw_m1 103 rfl) rfl
theorem q121 : (Jvm.Cond.selects "ChainUndo" ({ cls := "ChainUndo", name := "tip", desc := "()I" } : Jvm.MethodName) ({ cls := "ChainUndo", name := "tip", desc := "()I" } : Jvm.MethodName)) ∈ lw_all := lw_g (lw_at lw_m1 104 rfl) rfl
theorem q122 : (Jvm.Cond.code ({ cls := "ChainUndo", name := "tip", desc := "()I" } : Jvm.MethodName) prog_1_method_6_code (1 : Nat) (Option.some Jvm.ClassFile.FieldType.int)) ∈ lw_all := lw_g (lw_at lw_m1 105 rfl) rfl
theorem q124 : (Jvm.Cond.instanceMethod ({ cls := "ChainUndo", name := "height", desc := "(I)I" } : Jvm.MethodName)) ∈ lw_all := lw_g (lw_at lw_m1 107 rfl) rfl
theorem q125 : (Jvm.Cond.selects "ChainUndo" ({ cls := "ChainUndo", name := "height", desc := "(I)I" } : Jvm.MethodName) ({ cls := "ChainUndo", name := "height", desc := "(I)I" } : Jvm.MethodName)) ∈ lw_all := lw_g (lw_at lw_m1 108 rfl) rfl
theorem q126 : (Jvm.Cond.code ({ cls := "ChainUndo", name := "height", desc := "(I)I" } : Jvm.MethodName) prog_1_method_7_code (2 : Nat) (Option.some Jvm.ClassFile.FieldType.int)) ∈ lw_all := lw_g (lw_at lw_m1 109 rfl) rfl
theorem q128 : (Jvm.Cond.instanceMethod ({ cls := "ChainUndo", name := "unspent", desc := "(I)Z" } : Jvm.MethodName)) ∈ lw_all := lw_g (lw_at lw_m1 111 rfl) rfl
theorem q129 : (Jvm.Cond.selects "ChainUndo" ({ cls := "ChainUndo", name := "unspent", desc := "(I)Z" } : Jvm.MethodName) ({ cls := "ChainUndo", name := "unspent", desc := "(I)Z" } : Jvm.MethodName)) ∈ lw_all := lw_g (lw_at lw_m1 112 rfl) rfl
theorem q130 : (Jvm.Cond.code ({ cls := "ChainUndo", name := "unspent", desc := "(I)Z" } : Jvm.MethodName) prog_1_method_10_code (2 : Nat) (Option.some Jvm.ClassFile.FieldType.boolean)) ∈ lw_all := lw_g (lw_at lw_m1 113 rfl) rfl
theorem q132 : (Jvm.Cond.instanceMethod ({ cls := "ChainUndo", name := "amount", desc := "(I)I" } : Jvm.MethodName)) ∈ lw_all := lw_g (lw_at lw_m1 115 rfl) rfl
theorem q133 : (Jvm.Cond.selects "ChainUndo" ({ cls := "ChainUndo", name := "amount", desc := "(I)I" } : Jvm.MethodName) ({ cls := "ChainUndo", name := "amount", desc := "(I)I" } : Jvm.MethodName)) ∈ lw_all := lw_g (lw_at lw_m1 116 rfl) rfl
theorem q134 : (Jvm.Cond.code ({ cls := "ChainUndo", name := "amount", desc := "(I)I" } : Jvm.MethodName) prog_1_method_11_code (2 : Nat) (Option.some Jvm.ClassFile.FieldType.int)) ∈ lw_all := lw_g (lw_at lw_m1 117 rfl) rfl
theorem q136 : (Jvm.Cond.instanceMethod ({ cls := "ChainUndo", name := "balance", desc := "(I)J" } : Jvm.MethodName)) ∈ lw_all := lw_g (lw_at lw_m1 119 rfl) rfl
theorem q137 : (Jvm.Cond.selects "ChainUndo" ({ cls := "ChainUndo", name := "balance", desc := "(I)J" } : Jvm.MethodName) ({ cls := "ChainUndo", name := "balance", desc := "(I)J" } : Jvm.MethodName)) ∈ lw_all := lw_g (lw_at lw_m1 120 rfl) rfl
theorem q138 : (Jvm.Cond.code ({ cls := "ChainUndo", name := "balance", desc := "(I)J" } : Jvm.MethodName) prog_1_method_12_code (2 : Nat) (Option.some Jvm.ClassFile.FieldType.long)) ∈ lw_all := lw_g (lw_at lw_m1 121 rfl) rfl
theorem q140 : (Jvm.Cond.instanceMethod ({ cls := "ChainUndo", name := "coins", desc := "()I" } : Jvm.MethodName)) ∈ lw_all := lw_g (lw_at lw_m1 123 rfl) rfl
theorem q141 : (Jvm.Cond.selects "ChainUndo" ({ cls := "ChainUndo", name := "coins", desc := "()I" } : Jvm.MethodName) ({ cls := "ChainUndo", name := "coins", desc := "()I" } : Jvm.MethodName)) ∈ lw_all := lw_g (lw_at lw_m1 124 rfl) rfl
theorem q142 : (Jvm.Cond.code ({ cls := "ChainUndo", name := "coins", desc := "()I" } : Jvm.MethodName) prog_1_method_13_code (3 : Nat) (Option.some Jvm.ClassFile.FieldType.int)) ∈ lw_all := lw_g (lw_at lw_m1 125 rfl) rfl
theorem q144 : (Jvm.Cond.instanceMethod ({ cls := "ChainUndo", name := "meeting", desc := "(II)I" } : Jvm.MethodName)) ∈ lw_all := lw_g (lw_at lw_m1 127 rfl) rfl
theorem q145 : (Jvm.Cond.selects "ChainUndo" ({ cls := "ChainUndo", name := "meeting", desc := "(II)I" } : Jvm.MethodName) ({ cls := "ChainUndo", name := "meeting", desc := "(II)I" } : Jvm.MethodName)) ∈ lw_all := lw_g (lw_at lw_m1 128 rfl) rfl
theorem q146 : (Jvm.Cond.code ({ cls := "ChainUndo", name := "meeting", desc := "(II)I" } : Jvm.MethodName) prog_1_method_14_code (3 : Nat) (Option.some Jvm.ClassFile.FieldType.int)) ∈ lw_all := lw_g (lw_at lw_m1 129 rfl) rfl
theorem q148 : (Jvm.Cond.instanceMethod ({ cls := "ChainUndo", name := "undone", desc := "()I" } : Jvm.MethodName)) ∈ lw_all := lw_g (lw_at lw_m1 131 rfl) rfl
theorem q149 : (Jvm.Cond.selects "ChainUndo" ({ cls := "ChainUndo", name := "undone", desc := "()I" } : Jvm.MethodName) ({ cls := "ChainUndo", name := "undone", desc := "()I" } : Jvm.MethodName)) ∈ lw_all := lw_g (lw_at lw_m1 132 rfl) rfl
theorem q150 : (Jvm.Cond.code ({ cls := "ChainUndo", name := "undone", desc := "()I" } : Jvm.MethodName) prog_1_method_15_code (1 : Nat) (Option.some Jvm.ClassFile.FieldType.int)) ∈ lw_all := lw_g (lw_at lw_m1 133 rfl) rfl
theorem q152 : (Jvm.Cond.instanceMethod ({ cls := "ChainUndo", name := "fewestFor", desc := "(II)I" } : Jvm.MethodName)) ∈ lw_all := lw_g (lw_at lw_m1 135 rfl) rfl
theorem q153 : (Jvm.Cond.selects "ChainUndo" ({ cls := "ChainUndo", name := "fewestFor", desc := "(II)I" } : Jvm.MethodName) ({ cls := "ChainUndo", name := "fewestFor", desc := "(II)I" } : Jvm.MethodName)) ∈ lw_all := lw_g (lw_at lw_m1 136 rfl) rfl
theorem q154 : (Jvm.Cond.code ({ cls := "ChainUndo", name := "fewestFor", desc := "(II)I" } : Jvm.MethodName) prog_1_method_16_code (8 : Nat) (Option.some Jvm.ClassFile.FieldType.int)) ∈ lw_all := lw_g (lw_at lw_m1 137 rfl) rfl
theorem q155 : (Jvm.Cond.methodLink "ChainUndo" (68 : Nat) ({ cls := "ChainUndo", name := "largestOf", desc := "(II)I" } : Jvm.MethodName)) ∈ lw_all := lw_g (lw_at lw_m1 138 rfl) rfl
theorem q156 : (Jvm.Cond.privateMethod ({ cls := "ChainUndo", name := "largestOf", desc := "(II)I" } : Jvm.MethodName)) ∈ lw_tbl := lw_at lw_m1 139 rfl
theorem q157 : (Jvm.Cond.instanceMethod ({ cls := "ChainUndo", name := "largestOf", desc := "(II)I" } : Jvm.MethodName)) ∈ lw_all := lw_g (lw_at lw_m1 140 rfl) rfl
theorem q158 : (Jvm.Cond.code ({ cls := "ChainUndo", name := "largestOf", desc := "(II)I" } : Jvm.MethodName) prog_1_method_17_code (5 : Nat) (Option.some Jvm.ClassFile.FieldType.int)) ∈ lw_all := lw_g (lw_at lw_m1 141 rfl) rfl
theorem q160 : (Jvm.Cond.instanceMethod ({ cls := "ChainUndo", name := "forget", desc := "(I)I" } : Jvm.MethodName)) ∈ lw_all := lw_g (lw_at lw_m1 143 rfl) rfl
theorem q161 : (Jvm.Cond.selects "ChainUndo" ({ cls := "ChainUndo", name := "forget", desc := "(I)I" } : Jvm.MethodName) ({ cls := "ChainUndo", name := "forget", desc := "(I)I" } : Jvm.MethodName)) ∈ lw_all := lw_g (lw_at lw_m1 144 rfl) rfl
theorem q162 : (Jvm.Cond.code ({ cls := "ChainUndo", name := "forget", desc := "(I)I" } : Jvm.MethodName) prog_1_method_18_code (2 : Nat) (Option.some Jvm.ClassFile.FieldType.int)) ∈ lw_all := lw_g (lw_at lw_m1 145 rfl) rfl
theorem in_X0 : ∀ w ∈ wsX00, w ∈ lw_all := lw_in wsX00 [41, 43, 45, 47, 49, 51, 53, 55, 57, 59, 61, 63, 65] (by decide +kernel) (by decide +kernel)
end
section
/-! ChainUndoModel -/
set_option maxRecDepth 100000
def RX1 : String := "ChainUndoModel"
def TX1 : u_T := fun k => match k with
  | 0 => ("ChainUndoModel", "n", "I", false)
  | 1 => ("ChainUndoModel", "parents", "[I", false)
  | 2 => ("ChainUndoModel", "owners", "[I", false)
  | 3 => ("ChainUndoModel", "amounts", "[I", false)
  | 4 => ("ChainUndoModel", "one", "[I", false)
  | 5 => ("ChainUndoModel", "two", "[I", false)
  | 6 => ("ChainUndoModel", "taken", "[Z", false)
  | 7 => ("ChainUndoModel", "tip", "I", false)
  | _ => ("ChainUndoModel", "undone", "I", false)
def tyX1 : Nat → FieldType := fun k => match k with
  | 0 => .int
  | 1 => .array .int
  | 2 => .array .int
  | 3 => .array .int
  | 4 => .array .int
  | 5 => .array .int
  | 6 => .array .boolean
  | 7 => .int
  | _ => .int
abbrev wsX10 : List Cond := u_ws RX1 TX1 9
theorem nmX1 : ∀ a, a < 9 → ∀ b, b < 9 → a ≠ b → (TX1 a).2.1 ≠ (TX1 b).2.1 := by decide +kernel
theorem tyX1_ok : ∀ k, k < 9 → parseFieldDescriptor (TX1 k).2.2.1 = some (tyX1 k) := by decide +kernel
abbrev cX1_init : ByteArray := prog_3_method_1_code
def yX1_init : MethodName := ⟨RX1, "<init>", "()V"⟩
theorem dX1_init_0 : decode cX1_init 0 = .ok (.aload_n 0, 1) := by decide +kernel
theorem dX1_init_1 : decode cX1_init 1 = .ok (.invokespecial 1, 3) := by decide +kernel
theorem dX1_init_4 : decode cX1_init 4 = .ok (.aload_n 0, 1) := by decide +kernel
theorem dX1_init_5 : decode cX1_init 5 = .ok (.iconst 1, 1) := by decide +kernel
theorem dX1_init_6 : decode cX1_init 6 = .ok (.putfield 7, 3) := by decide +kernel
theorem dX1_init_9 : decode cX1_init 9 = .ok (.aload_n 0, 1) := by decide +kernel
theorem dX1_init_10 : decode cX1_init 10 = .ok (.bipush 20, 2) := by decide +kernel
theorem dX1_init_12 : decode cX1_init 12 = .ok (.newarray .int, 2) := by decide +kernel
theorem dX1_init_14 : decode cX1_init 14 = .ok (.putfield 13, 3) := by decide +kernel
theorem dX1_init_17 : decode cX1_init 17 = .ok (.aload_n 0, 1) := by decide +kernel
theorem dX1_init_18 : decode cX1_init 18 = .ok (.bipush 20, 2) := by decide +kernel
theorem dX1_init_20 : decode cX1_init 20 = .ok (.newarray .int, 2) := by decide +kernel
theorem dX1_init_22 : decode cX1_init 22 = .ok (.putfield 17, 3) := by decide +kernel
theorem dX1_init_25 : decode cX1_init 25 = .ok (.aload_n 0, 1) := by decide +kernel
theorem dX1_init_26 : decode cX1_init 26 = .ok (.bipush 20, 2) := by decide +kernel
theorem dX1_init_28 : decode cX1_init 28 = .ok (.newarray .int, 2) := by decide +kernel
theorem dX1_init_30 : decode cX1_init 30 = .ok (.putfield 20, 3) := by decide +kernel
theorem dX1_init_33 : decode cX1_init 33 = .ok (.aload_n 0, 1) := by decide +kernel
theorem dX1_init_34 : decode cX1_init 34 = .ok (.bipush 20, 2) := by decide +kernel
theorem dX1_init_36 : decode cX1_init 36 = .ok (.newarray .int, 2) := by decide +kernel
theorem dX1_init_38 : decode cX1_init 38 = .ok (.putfield 23, 3) := by decide +kernel
theorem dX1_init_41 : decode cX1_init 41 = .ok (.aload_n 0, 1) := by decide +kernel
theorem dX1_init_42 : decode cX1_init 42 = .ok (.bipush 20, 2) := by decide +kernel
theorem dX1_init_44 : decode cX1_init 44 = .ok (.newarray .int, 2) := by decide +kernel
theorem dX1_init_46 : decode cX1_init 46 = .ok (.putfield 26, 3) := by decide +kernel
theorem dX1_init_49 : decode cX1_init 49 = .ok (.aload_n 0, 1) := by decide +kernel
theorem dX1_init_50 : decode cX1_init 50 = .ok (.bipush 20, 2) := by decide +kernel
theorem dX1_init_52 : decode cX1_init 52 = .ok (.newarray .boolean, 2) := by decide +kernel
theorem dX1_init_54 : decode cX1_init 54 = .ok (.putfield 29, 3) := by decide +kernel
theorem dX1_init_57 : decode cX1_init 57 = .ok (.aload_n 0, 1) := by decide +kernel
theorem dX1_init_58 : decode cX1_init 58 = .ok (.iconst 0, 1) := by decide +kernel
theorem dX1_init_59 : decode cX1_init 59 = .ok (.putfield 33, 3) := by decide +kernel
theorem dX1_init_62 : decode cX1_init 62 = .ok (.aload_n 0, 1) := by decide +kernel
theorem dX1_init_63 : decode cX1_init 63 = .ok (.iconst 0, 1) := by decide +kernel
theorem dX1_init_64 : decode cX1_init 64 = .ok (.putfield 36, 3) := by decide +kernel
theorem dX1_init_67 : decode cX1_init 67 = .ok (.aload_n 0, 1) := by decide +kernel
theorem dX1_init_68 : decode cX1_init 68 = .ok (.getfield 13, 3) := by decide +kernel
theorem dX1_init_71 : decode cX1_init 71 = .ok (.iconst 0, 1) := by decide +kernel
theorem dX1_init_72 : decode cX1_init 72 = .ok (.iconst (-1), 1) := by decide +kernel
theorem dX1_init_73 : decode cX1_init 73 = .ok (.iastore, 1) := by decide +kernel
theorem dX1_init_74 : decode cX1_init 74 = .ok (.aload_n 0, 1) := by decide +kernel
theorem dX1_init_75 : decode cX1_init 75 = .ok (.getfield 23, 3) := by decide +kernel
theorem dX1_init_78 : decode cX1_init 78 = .ok (.iconst 0, 1) := by decide +kernel
theorem dX1_init_79 : decode cX1_init 79 = .ok (.iconst (-1), 1) := by decide +kernel
theorem dX1_init_80 : decode cX1_init 80 = .ok (.iastore, 1) := by decide +kernel
theorem dX1_init_81 : decode cX1_init 81 = .ok (.aload_n 0, 1) := by decide +kernel
theorem dX1_init_82 : decode cX1_init 82 = .ok (.getfield 26, 3) := by decide +kernel
theorem dX1_init_85 : decode cX1_init 85 = .ok (.iconst 0, 1) := by decide +kernel
theorem dX1_init_86 : decode cX1_init 86 = .ok (.iconst (-1), 1) := by decide +kernel
theorem dX1_init_87 : decode cX1_init 87 = .ok (.iastore, 1) := by decide +kernel
theorem dX1_init_88 : decode cX1_init 88 = .ok (.return_, 1) := by decide +kernel
abbrev cX1_mint : ByteArray := prog_3_method_8_code
def yX1_mint : MethodName := ⟨RX1, "mint", "(III)I"⟩
theorem dX1_mint_0 : decode cX1_mint 0 = .ok (.aload_n 0, 1) := by decide +kernel
theorem dX1_mint_1 : decode cX1_mint 1 = .ok (.getfield 7, 3) := by decide +kernel
theorem dX1_mint_4 : decode cX1_mint 4 = .ok (.bipush 20, 2) := by decide +kernel
theorem dX1_mint_6 : decode cX1_mint 6 = .ok (.if_icmp .ne 6, 3) := by decide +kernel
theorem dX1_mint_9 : decode cX1_mint 9 = .ok (.bipush (-2), 2) := by decide +kernel
theorem dX1_mint_11 : decode cX1_mint 11 = .ok (.ireturn, 1) := by decide +kernel
theorem dX1_mint_12 : decode cX1_mint 12 = .ok (.aload_n 0, 1) := by decide +kernel
theorem dX1_mint_13 : decode cX1_mint 13 = .ok (.iload_n 1, 1) := by decide +kernel
theorem dX1_mint_14 : decode cX1_mint 14 = .ok (.invokevirtual 51, 3) := by decide +kernel
theorem dX1_mint_17 : decode cX1_mint 17 = .ok (.ifCond .eq 23, 3) := by decide +kernel
theorem dX1_mint_20 : decode cX1_mint 20 = .ok (.iload_n 2, 1) := by decide +kernel
theorem dX1_mint_21 : decode cX1_mint 21 = .ok (.ifCond .lt 19, 3) := by decide +kernel
theorem dX1_mint_24 : decode cX1_mint 24 = .ok (.iload_n 2, 1) := by decide +kernel
theorem dX1_mint_25 : decode cX1_mint 25 = .ok (.iconst 3, 1) := by decide +kernel
theorem dX1_mint_26 : decode cX1_mint 26 = .ok (.if_icmp .gt 14, 3) := by decide +kernel
theorem dX1_mint_29 : decode cX1_mint 29 = .ok (.iload_n 3, 1) := by decide +kernel
theorem dX1_mint_30 : decode cX1_mint 30 = .ok (.iconst 1, 1) := by decide +kernel
theorem dX1_mint_31 : decode cX1_mint 31 = .ok (.if_icmp .lt 9, 3) := by decide +kernel
theorem dX1_mint_34 : decode cX1_mint 34 = .ok (.iload_n 3, 1) := by decide +kernel
theorem dX1_mint_35 : decode cX1_mint 35 = .ok (.bipush 100, 2) := by decide +kernel
theorem dX1_mint_37 : decode cX1_mint 37 = .ok (.if_icmp .le 5, 3) := by decide +kernel
theorem dX1_mint_40 : decode cX1_mint 40 = .ok (.iconst (-1), 1) := by decide +kernel
theorem dX1_mint_41 : decode cX1_mint 41 = .ok (.ireturn, 1) := by decide +kernel
theorem dX1_mint_42 : decode cX1_mint 42 = .ok (.aload_n 0, 1) := by decide +kernel
theorem dX1_mint_43 : decode cX1_mint 43 = .ok (.iload_n 1, 1) := by decide +kernel
theorem dX1_mint_44 : decode cX1_mint 44 = .ok (.iload_n 2, 1) := by decide +kernel
theorem dX1_mint_45 : decode cX1_mint 45 = .ok (.iload_n 3, 1) := by decide +kernel
theorem dX1_mint_46 : decode cX1_mint 46 = .ok (.iconst (-1), 1) := by decide +kernel
theorem dX1_mint_47 : decode cX1_mint 47 = .ok (.iconst (-1), 1) := by decide +kernel
theorem dX1_mint_48 : decode cX1_mint 48 = .ok (.invokevirtual 55, 3) := by decide +kernel
theorem dX1_mint_51 : decode cX1_mint 51 = .ok (.ireturn, 1) := by decide +kernel
abbrev cX1_isBlock : ByteArray := prog_3_method_2_code
def yX1_isBlock : MethodName := ⟨RX1, "isBlock", "(I)Z"⟩
theorem dX1_isBlock_0 : decode cX1_isBlock 0 = .ok (.iload_n 1, 1) := by decide +kernel
theorem dX1_isBlock_1 : decode cX1_isBlock 1 = .ok (.ifCond .lt 15, 3) := by decide +kernel
theorem dX1_isBlock_4 : decode cX1_isBlock 4 = .ok (.iload_n 1, 1) := by decide +kernel
theorem dX1_isBlock_5 : decode cX1_isBlock 5 = .ok (.aload_n 0, 1) := by decide +kernel
theorem dX1_isBlock_6 : decode cX1_isBlock 6 = .ok (.getfield 7, 3) := by decide +kernel
theorem dX1_isBlock_9 : decode cX1_isBlock 9 = .ok (.if_icmp .ge 7, 3) := by decide +kernel
theorem dX1_isBlock_12 : decode cX1_isBlock 12 = .ok (.iconst 1, 1) := by decide +kernel
theorem dX1_isBlock_13 : decode cX1_isBlock 13 = .ok (.goto 4, 3) := by decide +kernel
theorem dX1_isBlock_16 : decode cX1_isBlock 16 = .ok (.iconst 0, 1) := by decide +kernel
theorem dX1_isBlock_17 : decode cX1_isBlock 17 = .ok (.ireturn, 1) := by decide +kernel
abbrev cX1_addBlock : ByteArray := prog_3_method_7_code
def yX1_addBlock : MethodName := ⟨RX1, "addBlock", "(IIIII)I"⟩
theorem dX1_addBlock_0 : decode cX1_addBlock 0 = .ok (.aload_n 0, 1) := by decide +kernel
theorem dX1_addBlock_1 : decode cX1_addBlock 1 = .ok (.getfield 13, 3) := by decide +kernel
theorem dX1_addBlock_4 : decode cX1_addBlock 4 = .ok (.aload_n 0, 1) := by decide +kernel
theorem dX1_addBlock_5 : decode cX1_addBlock 5 = .ok (.getfield 7, 3) := by decide +kernel
theorem dX1_addBlock_8 : decode cX1_addBlock 8 = .ok (.iload_n 1, 1) := by decide +kernel
theorem dX1_addBlock_9 : decode cX1_addBlock 9 = .ok (.iastore, 1) := by decide +kernel
theorem dX1_addBlock_10 : decode cX1_addBlock 10 = .ok (.aload_n 0, 1) := by decide +kernel
theorem dX1_addBlock_11 : decode cX1_addBlock 11 = .ok (.getfield 17, 3) := by decide +kernel
theorem dX1_addBlock_14 : decode cX1_addBlock 14 = .ok (.aload_n 0, 1) := by decide +kernel
theorem dX1_addBlock_15 : decode cX1_addBlock 15 = .ok (.getfield 7, 3) := by decide +kernel
theorem dX1_addBlock_18 : decode cX1_addBlock 18 = .ok (.iload_n 2, 1) := by decide +kernel
theorem dX1_addBlock_19 : decode cX1_addBlock 19 = .ok (.iastore, 1) := by decide +kernel
theorem dX1_addBlock_20 : decode cX1_addBlock 20 = .ok (.aload_n 0, 1) := by decide +kernel
theorem dX1_addBlock_21 : decode cX1_addBlock 21 = .ok (.getfield 20, 3) := by decide +kernel
theorem dX1_addBlock_24 : decode cX1_addBlock 24 = .ok (.aload_n 0, 1) := by decide +kernel
theorem dX1_addBlock_25 : decode cX1_addBlock 25 = .ok (.getfield 7, 3) := by decide +kernel
theorem dX1_addBlock_28 : decode cX1_addBlock 28 = .ok (.iload_n 3, 1) := by decide +kernel
theorem dX1_addBlock_29 : decode cX1_addBlock 29 = .ok (.iastore, 1) := by decide +kernel
theorem dX1_addBlock_30 : decode cX1_addBlock 30 = .ok (.aload_n 0, 1) := by decide +kernel
theorem dX1_addBlock_31 : decode cX1_addBlock 31 = .ok (.getfield 23, 3) := by decide +kernel
theorem dX1_addBlock_34 : decode cX1_addBlock 34 = .ok (.aload_n 0, 1) := by decide +kernel
theorem dX1_addBlock_35 : decode cX1_addBlock 35 = .ok (.getfield 7, 3) := by decide +kernel
theorem dX1_addBlock_38 : decode cX1_addBlock 38 = .ok (.iload 4, 2) := by decide +kernel
theorem dX1_addBlock_40 : decode cX1_addBlock 40 = .ok (.iastore, 1) := by decide +kernel
theorem dX1_addBlock_41 : decode cX1_addBlock 41 = .ok (.aload_n 0, 1) := by decide +kernel
theorem dX1_addBlock_42 : decode cX1_addBlock 42 = .ok (.getfield 26, 3) := by decide +kernel
theorem dX1_addBlock_45 : decode cX1_addBlock 45 = .ok (.aload_n 0, 1) := by decide +kernel
theorem dX1_addBlock_46 : decode cX1_addBlock 46 = .ok (.getfield 7, 3) := by decide +kernel
theorem dX1_addBlock_49 : decode cX1_addBlock 49 = .ok (.iload 5, 2) := by decide +kernel
theorem dX1_addBlock_51 : decode cX1_addBlock 51 = .ok (.iastore, 1) := by decide +kernel
theorem dX1_addBlock_52 : decode cX1_addBlock 52 = .ok (.aload_n 0, 1) := by decide +kernel
theorem dX1_addBlock_53 : decode cX1_addBlock 53 = .ok (.dup, 1) := by decide +kernel
theorem dX1_addBlock_54 : decode cX1_addBlock 54 = .ok (.getfield 7, 3) := by decide +kernel
theorem dX1_addBlock_57 : decode cX1_addBlock 57 = .ok (.iconst 1, 1) := by decide +kernel
theorem dX1_addBlock_58 : decode cX1_addBlock 58 = .ok (.iadd, 1) := by decide +kernel
theorem dX1_addBlock_59 : decode cX1_addBlock 59 = .ok (.putfield 7, 3) := by decide +kernel
theorem dX1_addBlock_62 : decode cX1_addBlock 62 = .ok (.aload_n 0, 1) := by decide +kernel
theorem dX1_addBlock_63 : decode cX1_addBlock 63 = .ok (.aload_n 0, 1) := by decide +kernel
theorem dX1_addBlock_64 : decode cX1_addBlock 64 = .ok (.getfield 7, 3) := by decide +kernel
theorem dX1_addBlock_67 : decode cX1_addBlock 67 = .ok (.iconst 1, 1) := by decide +kernel
theorem dX1_addBlock_68 : decode cX1_addBlock 68 = .ok (.isub, 1) := by decide +kernel
theorem dX1_addBlock_69 : decode cX1_addBlock 69 = .ok (.invokevirtual 43, 3) := by decide +kernel
theorem dX1_addBlock_72 : decode cX1_addBlock 72 = .ok (.aload_n 0, 1) := by decide +kernel
theorem dX1_addBlock_73 : decode cX1_addBlock 73 = .ok (.aload_n 0, 1) := by decide +kernel
theorem dX1_addBlock_74 : decode cX1_addBlock 74 = .ok (.getfield 33, 3) := by decide +kernel
theorem dX1_addBlock_77 : decode cX1_addBlock 77 = .ok (.invokevirtual 43, 3) := by decide +kernel
theorem dX1_addBlock_80 : decode cX1_addBlock 80 = .ok (.if_icmp .le 48, 3) := by decide +kernel
theorem dX1_addBlock_83 : decode cX1_addBlock 83 = .ok (.aload_n 0, 1) := by decide +kernel
theorem dX1_addBlock_84 : decode cX1_addBlock 84 = .ok (.aload_n 0, 1) := by decide +kernel
theorem dX1_addBlock_85 : decode cX1_addBlock 85 = .ok (.getfield 33, 3) := by decide +kernel
theorem dX1_addBlock_88 : decode cX1_addBlock 88 = .ok (.aload_n 0, 1) := by decide +kernel
theorem dX1_addBlock_89 : decode cX1_addBlock 89 = .ok (.getfield 7, 3) := by decide +kernel
theorem dX1_addBlock_92 : decode cX1_addBlock 92 = .ok (.iconst 1, 1) := by decide +kernel
theorem dX1_addBlock_93 : decode cX1_addBlock 93 = .ok (.isub, 1) := by decide +kernel
theorem dX1_addBlock_94 : decode cX1_addBlock 94 = .ok (.invokevirtual 47, 3) := by decide +kernel
theorem dX1_addBlock_97 : decode cX1_addBlock 97 = .ok (.istore 6, 2) := by decide +kernel
theorem dX1_addBlock_99 : decode cX1_addBlock 99 = .ok (.aload_n 0, 1) := by decide +kernel
theorem dX1_addBlock_100 : decode cX1_addBlock 100 = .ok (.aload_n 0, 1) := by decide +kernel
theorem dX1_addBlock_101 : decode cX1_addBlock 101 = .ok (.aload_n 0, 1) := by decide +kernel
theorem dX1_addBlock_102 : decode cX1_addBlock 102 = .ok (.getfield 33, 3) := by decide +kernel
theorem dX1_addBlock_105 : decode cX1_addBlock 105 = .ok (.invokevirtual 43, 3) := by decide +kernel
theorem dX1_addBlock_108 : decode cX1_addBlock 108 = .ok (.aload_n 0, 1) := by decide +kernel
theorem dX1_addBlock_109 : decode cX1_addBlock 109 = .ok (.iload 6, 2) := by decide +kernel
theorem dX1_addBlock_111 : decode cX1_addBlock 111 = .ok (.invokevirtual 43, 3) := by decide +kernel
theorem dX1_addBlock_114 : decode cX1_addBlock 114 = .ok (.isub, 1) := by decide +kernel
theorem dX1_addBlock_115 : decode cX1_addBlock 115 = .ok (.putfield 36, 3) := by decide +kernel
theorem dX1_addBlock_118 : decode cX1_addBlock 118 = .ok (.aload_n 0, 1) := by decide +kernel
theorem dX1_addBlock_119 : decode cX1_addBlock 119 = .ok (.aload_n 0, 1) := by decide +kernel
theorem dX1_addBlock_120 : decode cX1_addBlock 120 = .ok (.getfield 7, 3) := by decide +kernel
theorem dX1_addBlock_123 : decode cX1_addBlock 123 = .ok (.iconst 1, 1) := by decide +kernel
theorem dX1_addBlock_124 : decode cX1_addBlock 124 = .ok (.isub, 1) := by decide +kernel
theorem dX1_addBlock_125 : decode cX1_addBlock 125 = .ok (.putfield 33, 3) := by decide +kernel
theorem dX1_addBlock_128 : decode cX1_addBlock 128 = .ok (.aload_n 0, 1) := by decide +kernel
theorem dX1_addBlock_129 : decode cX1_addBlock 129 = .ok (.getfield 7, 3) := by decide +kernel
theorem dX1_addBlock_132 : decode cX1_addBlock 132 = .ok (.iconst 1, 1) := by decide +kernel
theorem dX1_addBlock_133 : decode cX1_addBlock 133 = .ok (.isub, 1) := by decide +kernel
theorem dX1_addBlock_134 : decode cX1_addBlock 134 = .ok (.ireturn, 1) := by decide +kernel
abbrev cX1_heightOf : ByteArray := prog_3_method_3_code
def yX1_heightOf : MethodName := ⟨RX1, "heightOf", "(I)I"⟩
theorem dX1_heightOf_0 : decode cX1_heightOf 0 = .ok (.iconst 0, 1) := by decide +kernel
theorem dX1_heightOf_1 : decode cX1_heightOf 1 = .ok (.istore_n 2, 1) := by decide +kernel
theorem dX1_heightOf_2 : decode cX1_heightOf 2 = .ok (.iload_n 1, 1) := by decide +kernel
theorem dX1_heightOf_3 : decode cX1_heightOf 3 = .ok (.istore_n 3, 1) := by decide +kernel
theorem dX1_heightOf_4 : decode cX1_heightOf 4 = .ok (.iconst 0, 1) := by decide +kernel
theorem dX1_heightOf_5 : decode cX1_heightOf 5 = .ok (.istore 4, 2) := by decide +kernel
theorem dX1_heightOf_7 : decode cX1_heightOf 7 = .ok (.iload 4, 2) := by decide +kernel
theorem dX1_heightOf_9 : decode cX1_heightOf 9 = .ok (.bipush 20, 2) := by decide +kernel
theorem dX1_heightOf_11 : decode cX1_heightOf 11 = .ok (.if_icmp .ge 23, 3) := by decide +kernel
theorem dX1_heightOf_14 : decode cX1_heightOf 14 = .ok (.iload_n 3, 1) := by decide +kernel
theorem dX1_heightOf_15 : decode cX1_heightOf 15 = .ok (.ifCond .le 19, 3) := by decide +kernel
theorem dX1_heightOf_18 : decode cX1_heightOf 18 = .ok (.iinc 2 1, 3) := by decide +kernel
theorem dX1_heightOf_21 : decode cX1_heightOf 21 = .ok (.aload_n 0, 1) := by decide +kernel
theorem dX1_heightOf_22 : decode cX1_heightOf 22 = .ok (.getfield 13, 3) := by decide +kernel
theorem dX1_heightOf_25 : decode cX1_heightOf 25 = .ok (.iload_n 3, 1) := by decide +kernel
theorem dX1_heightOf_26 : decode cX1_heightOf 26 = .ok (.iaload, 1) := by decide +kernel
theorem dX1_heightOf_27 : decode cX1_heightOf 27 = .ok (.istore_n 3, 1) := by decide +kernel
theorem dX1_heightOf_28 : decode cX1_heightOf 28 = .ok (.iinc 4 1, 3) := by decide +kernel
theorem dX1_heightOf_31 : decode cX1_heightOf 31 = .ok (.goto (-24), 3) := by decide +kernel
theorem dX1_heightOf_34 : decode cX1_heightOf 34 = .ok (.iload_n 2, 1) := by decide +kernel
theorem dX1_heightOf_35 : decode cX1_heightOf 35 = .ok (.ireturn, 1) := by decide +kernel
abbrev cX1_meet : ByteArray := prog_3_method_6_code
def yX1_meet : MethodName := ⟨RX1, "meet", "(II)I"⟩
theorem dX1_meet_0 : decode cX1_meet 0 = .ok (.iconst 0, 1) := by decide +kernel
theorem dX1_meet_1 : decode cX1_meet 1 = .ok (.istore_n 3, 1) := by decide +kernel
theorem dX1_meet_2 : decode cX1_meet 2 = .ok (.iconst 0, 1) := by decide +kernel
theorem dX1_meet_3 : decode cX1_meet 3 = .ok (.istore 4, 2) := by decide +kernel
theorem dX1_meet_5 : decode cX1_meet 5 = .ok (.iload 4, 2) := by decide +kernel
theorem dX1_meet_7 : decode cX1_meet 7 = .ok (.aload_n 0, 1) := by decide +kernel
theorem dX1_meet_8 : decode cX1_meet 8 = .ok (.getfield 7, 3) := by decide +kernel
theorem dX1_meet_11 : decode cX1_meet 11 = .ok (.if_icmp .ge 32, 3) := by decide +kernel
theorem dX1_meet_14 : decode cX1_meet 14 = .ok (.aload_n 0, 1) := by decide +kernel
theorem dX1_meet_15 : decode cX1_meet 15 = .ok (.iload 4, 2) := by decide +kernel
theorem dX1_meet_17 : decode cX1_meet 17 = .ok (.iload_n 1, 1) := by decide +kernel
theorem dX1_meet_18 : decode cX1_meet 18 = .ok (.invokevirtual 39, 3) := by decide +kernel
theorem dX1_meet_21 : decode cX1_meet 21 = .ok (.ifCond .eq 16, 3) := by decide +kernel
theorem dX1_meet_24 : decode cX1_meet 24 = .ok (.aload_n 0, 1) := by decide +kernel
theorem dX1_meet_25 : decode cX1_meet 25 = .ok (.iload 4, 2) := by decide +kernel
theorem dX1_meet_27 : decode cX1_meet 27 = .ok (.iload_n 2, 1) := by decide +kernel
theorem dX1_meet_28 : decode cX1_meet 28 = .ok (.invokevirtual 39, 3) := by decide +kernel
theorem dX1_meet_31 : decode cX1_meet 31 = .ok (.ifCond .eq 6, 3) := by decide +kernel
theorem dX1_meet_34 : decode cX1_meet 34 = .ok (.iload 4, 2) := by decide +kernel
theorem dX1_meet_36 : decode cX1_meet 36 = .ok (.istore_n 3, 1) := by decide +kernel
theorem dX1_meet_37 : decode cX1_meet 37 = .ok (.iinc 4 1, 3) := by decide +kernel
theorem dX1_meet_40 : decode cX1_meet 40 = .ok (.goto (-35), 3) := by decide +kernel
theorem dX1_meet_43 : decode cX1_meet 43 = .ok (.iload_n 3, 1) := by decide +kernel
theorem dX1_meet_44 : decode cX1_meet 44 = .ok (.ireturn, 1) := by decide +kernel
abbrev cX1_inBranch : ByteArray := prog_3_method_4_code
def yX1_inBranch : MethodName := ⟨RX1, "inBranch", "(II)Z"⟩
theorem dX1_inBranch_0 : decode cX1_inBranch 0 = .ok (.iload_n 2, 1) := by decide +kernel
theorem dX1_inBranch_1 : decode cX1_inBranch 1 = .ok (.istore_n 3, 1) := by decide +kernel
theorem dX1_inBranch_2 : decode cX1_inBranch 2 = .ok (.iconst 0, 1) := by decide +kernel
theorem dX1_inBranch_3 : decode cX1_inBranch 3 = .ok (.istore 4, 2) := by decide +kernel
theorem dX1_inBranch_5 : decode cX1_inBranch 5 = .ok (.iload 4, 2) := by decide +kernel
theorem dX1_inBranch_7 : decode cX1_inBranch 7 = .ok (.bipush 20, 2) := by decide +kernel
theorem dX1_inBranch_9 : decode cX1_inBranch 9 = .ok (.if_icmp .ge 27, 3) := by decide +kernel
theorem dX1_inBranch_12 : decode cX1_inBranch 12 = .ok (.iload_n 3, 1) := by decide +kernel
theorem dX1_inBranch_13 : decode cX1_inBranch 13 = .ok (.ifCond .lt 23, 3) := by decide +kernel
theorem dX1_inBranch_16 : decode cX1_inBranch 16 = .ok (.iload_n 3, 1) := by decide +kernel
theorem dX1_inBranch_17 : decode cX1_inBranch 17 = .ok (.iload_n 1, 1) := by decide +kernel
theorem dX1_inBranch_18 : decode cX1_inBranch 18 = .ok (.if_icmp .ne 5, 3) := by decide +kernel
theorem dX1_inBranch_21 : decode cX1_inBranch 21 = .ok (.iconst 1, 1) := by decide +kernel
theorem dX1_inBranch_22 : decode cX1_inBranch 22 = .ok (.ireturn, 1) := by decide +kernel
theorem dX1_inBranch_23 : decode cX1_inBranch 23 = .ok (.aload_n 0, 1) := by decide +kernel
theorem dX1_inBranch_24 : decode cX1_inBranch 24 = .ok (.getfield 13, 3) := by decide +kernel
theorem dX1_inBranch_27 : decode cX1_inBranch 27 = .ok (.iload_n 3, 1) := by decide +kernel
theorem dX1_inBranch_28 : decode cX1_inBranch 28 = .ok (.iaload, 1) := by decide +kernel
theorem dX1_inBranch_29 : decode cX1_inBranch 29 = .ok (.istore_n 3, 1) := by decide +kernel
theorem dX1_inBranch_30 : decode cX1_inBranch 30 = .ok (.iinc 4 1, 3) := by decide +kernel
theorem dX1_inBranch_33 : decode cX1_inBranch 33 = .ok (.goto (-28), 3) := by decide +kernel
theorem dX1_inBranch_36 : decode cX1_inBranch 36 = .ok (.iconst 0, 1) := by decide +kernel
theorem dX1_inBranch_37 : decode cX1_inBranch 37 = .ok (.ireturn, 1) := by decide +kernel
abbrev cX1_pay : ByteArray := prog_3_method_9_code
def yX1_pay : MethodName := ⟨RX1, "pay", "(IIII)I"⟩
theorem dX1_pay_0 : decode cX1_pay 0 = .ok (.aload_n 0, 1) := by decide +kernel
theorem dX1_pay_1 : decode cX1_pay 1 = .ok (.getfield 7, 3) := by decide +kernel
theorem dX1_pay_4 : decode cX1_pay 4 = .ok (.bipush 20, 2) := by decide +kernel
theorem dX1_pay_6 : decode cX1_pay 6 = .ok (.if_icmp .ne 6, 3) := by decide +kernel
theorem dX1_pay_9 : decode cX1_pay 9 = .ok (.bipush (-2), 2) := by decide +kernel
theorem dX1_pay_11 : decode cX1_pay 11 = .ok (.ireturn, 1) := by decide +kernel
theorem dX1_pay_12 : decode cX1_pay 12 = .ok (.aload_n 0, 1) := by decide +kernel
theorem dX1_pay_13 : decode cX1_pay 13 = .ok (.iload_n 1, 1) := by decide +kernel
theorem dX1_pay_14 : decode cX1_pay 14 = .ok (.invokevirtual 51, 3) := by decide +kernel
theorem dX1_pay_17 : decode cX1_pay 17 = .ok (.ifCond .eq 12, 3) := by decide +kernel
theorem dX1_pay_20 : decode cX1_pay 20 = .ok (.iload_n 2, 1) := by decide +kernel
theorem dX1_pay_21 : decode cX1_pay 21 = .ok (.ifCond .lt 8, 3) := by decide +kernel
theorem dX1_pay_24 : decode cX1_pay 24 = .ok (.iload_n 2, 1) := by decide +kernel
theorem dX1_pay_25 : decode cX1_pay 25 = .ok (.iconst 3, 1) := by decide +kernel
theorem dX1_pay_26 : decode cX1_pay 26 = .ok (.if_icmp .le 5, 3) := by decide +kernel
theorem dX1_pay_29 : decode cX1_pay 29 = .ok (.iconst (-1), 1) := by decide +kernel
theorem dX1_pay_30 : decode cX1_pay 30 = .ok (.ireturn, 1) := by decide +kernel
theorem dX1_pay_31 : decode cX1_pay 31 = .ok (.iload_n 3, 1) := by decide +kernel
theorem dX1_pay_32 : decode cX1_pay 32 = .ok (.iload 4, 2) := by decide +kernel
theorem dX1_pay_34 : decode cX1_pay 34 = .ok (.if_icmp .eq 12, 3) := by decide +kernel
theorem dX1_pay_37 : decode cX1_pay 37 = .ok (.aload_n 0, 1) := by decide +kernel
theorem dX1_pay_38 : decode cX1_pay 38 = .ok (.iload_n 3, 1) := by decide +kernel
theorem dX1_pay_39 : decode cX1_pay 39 = .ok (.iload_n 1, 1) := by decide +kernel
theorem dX1_pay_40 : decode cX1_pay 40 = .ok (.invokevirtual 59, 3) := by decide +kernel
theorem dX1_pay_43 : decode cX1_pay 43 = .ok (.ifCond .ne 6, 3) := by decide +kernel
theorem dX1_pay_46 : decode cX1_pay 46 = .ok (.bipush (-3), 2) := by decide +kernel
theorem dX1_pay_48 : decode cX1_pay 48 = .ok (.ireturn, 1) := by decide +kernel
theorem dX1_pay_49 : decode cX1_pay 49 = .ok (.iload 4, 2) := by decide +kernel
theorem dX1_pay_51 : decode cX1_pay 51 = .ok (.iconst (-1), 1) := by decide +kernel
theorem dX1_pay_52 : decode cX1_pay 52 = .ok (.if_icmp .eq 16, 3) := by decide +kernel
theorem dX1_pay_55 : decode cX1_pay 55 = .ok (.aload_n 0, 1) := by decide +kernel
theorem dX1_pay_56 : decode cX1_pay 56 = .ok (.iload 4, 2) := by decide +kernel
theorem dX1_pay_58 : decode cX1_pay 58 = .ok (.iload_n 1, 1) := by decide +kernel
theorem dX1_pay_59 : decode cX1_pay 59 = .ok (.invokevirtual 59, 3) := by decide +kernel
theorem dX1_pay_62 : decode cX1_pay 62 = .ok (.ifCond .ne 6, 3) := by decide +kernel
theorem dX1_pay_65 : decode cX1_pay 65 = .ok (.bipush (-3), 2) := by decide +kernel
theorem dX1_pay_67 : decode cX1_pay 67 = .ok (.ireturn, 1) := by decide +kernel
theorem dX1_pay_68 : decode cX1_pay 68 = .ok (.aload_n 0, 1) := by decide +kernel
theorem dX1_pay_69 : decode cX1_pay 69 = .ok (.getfield 20, 3) := by decide +kernel
theorem dX1_pay_72 : decode cX1_pay 72 = .ok (.iload_n 3, 1) := by decide +kernel
theorem dX1_pay_73 : decode cX1_pay 73 = .ok (.iaload, 1) := by decide +kernel
theorem dX1_pay_74 : decode cX1_pay 74 = .ok (.iload 4, 2) := by decide +kernel
theorem dX1_pay_76 : decode cX1_pay 76 = .ok (.ifCond .ge 7, 3) := by decide +kernel
theorem dX1_pay_79 : decode cX1_pay 79 = .ok (.iconst 0, 1) := by decide +kernel
theorem dX1_pay_80 : decode cX1_pay 80 = .ok (.goto 10, 3) := by decide +kernel
theorem dX1_pay_83 : decode cX1_pay 83 = .ok (.aload_n 0, 1) := by decide +kernel
theorem dX1_pay_84 : decode cX1_pay 84 = .ok (.getfield 20, 3) := by decide +kernel
theorem dX1_pay_87 : decode cX1_pay 87 = .ok (.iload 4, 2) := by decide +kernel
theorem dX1_pay_89 : decode cX1_pay 89 = .ok (.iaload, 1) := by decide +kernel
theorem dX1_pay_90 : decode cX1_pay 90 = .ok (.iadd, 1) := by decide +kernel
theorem dX1_pay_91 : decode cX1_pay 91 = .ok (.istore 5, 2) := by decide +kernel
theorem dX1_pay_93 : decode cX1_pay 93 = .ok (.aload_n 0, 1) := by decide +kernel
theorem dX1_pay_94 : decode cX1_pay 94 = .ok (.iload_n 1, 1) := by decide +kernel
theorem dX1_pay_95 : decode cX1_pay 95 = .ok (.iload_n 2, 1) := by decide +kernel
theorem dX1_pay_96 : decode cX1_pay 96 = .ok (.iload 5, 2) := by decide +kernel
theorem dX1_pay_98 : decode cX1_pay 98 = .ok (.iload_n 3, 1) := by decide +kernel
theorem dX1_pay_99 : decode cX1_pay 99 = .ok (.iload 4, 2) := by decide +kernel
theorem dX1_pay_101 : decode cX1_pay 101 = .ok (.invokevirtual 55, 3) := by decide +kernel
theorem dX1_pay_104 : decode cX1_pay 104 = .ok (.ireturn, 1) := by decide +kernel
abbrev cX1_free : ByteArray := prog_3_method_5_code
def yX1_free : MethodName := ⟨RX1, "free", "(II)Z"⟩
theorem dX1_free_0 : decode cX1_free 0 = .ok (.iload_n 1, 1) := by decide +kernel
theorem dX1_free_1 : decode cX1_free 1 = .ok (.iconst 1, 1) := by decide +kernel
theorem dX1_free_2 : decode cX1_free 2 = .ok (.if_icmp .lt 20, 3) := by decide +kernel
theorem dX1_free_5 : decode cX1_free 5 = .ok (.iload_n 1, 1) := by decide +kernel
theorem dX1_free_6 : decode cX1_free 6 = .ok (.aload_n 0, 1) := by decide +kernel
theorem dX1_free_7 : decode cX1_free 7 = .ok (.getfield 7, 3) := by decide +kernel
theorem dX1_free_10 : decode cX1_free 10 = .ok (.if_icmp .ge 12, 3) := by decide +kernel
theorem dX1_free_13 : decode cX1_free 13 = .ok (.aload_n 0, 1) := by decide +kernel
theorem dX1_free_14 : decode cX1_free 14 = .ok (.iload_n 1, 1) := by decide +kernel
theorem dX1_free_15 : decode cX1_free 15 = .ok (.iload_n 2, 1) := by decide +kernel
theorem dX1_free_16 : decode cX1_free 16 = .ok (.invokevirtual 39, 3) := by decide +kernel
theorem dX1_free_19 : decode cX1_free 19 = .ok (.ifCond .ne 5, 3) := by decide +kernel
theorem dX1_free_22 : decode cX1_free 22 = .ok (.iconst 0, 1) := by decide +kernel
theorem dX1_free_23 : decode cX1_free 23 = .ok (.ireturn, 1) := by decide +kernel
theorem dX1_free_24 : decode cX1_free 24 = .ok (.iconst 1, 1) := by decide +kernel
theorem dX1_free_25 : decode cX1_free 25 = .ok (.istore_n 3, 1) := by decide +kernel
theorem dX1_free_26 : decode cX1_free 26 = .ok (.iload_n 3, 1) := by decide +kernel
theorem dX1_free_27 : decode cX1_free 27 = .ok (.aload_n 0, 1) := by decide +kernel
theorem dX1_free_28 : decode cX1_free 28 = .ok (.getfield 7, 3) := by decide +kernel
theorem dX1_free_31 : decode cX1_free 31 = .ok (.if_icmp .ge 40, 3) := by decide +kernel
theorem dX1_free_34 : decode cX1_free 34 = .ok (.aload_n 0, 1) := by decide +kernel
theorem dX1_free_35 : decode cX1_free 35 = .ok (.getfield 23, 3) := by decide +kernel
theorem dX1_free_38 : decode cX1_free 38 = .ok (.iload_n 3, 1) := by decide +kernel
theorem dX1_free_39 : decode cX1_free 39 = .ok (.iaload, 1) := by decide +kernel
theorem dX1_free_40 : decode cX1_free 40 = .ok (.iload_n 1, 1) := by decide +kernel
theorem dX1_free_41 : decode cX1_free 41 = .ok (.if_icmp .eq 13, 3) := by decide +kernel
theorem dX1_free_44 : decode cX1_free 44 = .ok (.aload_n 0, 1) := by decide +kernel
theorem dX1_free_45 : decode cX1_free 45 = .ok (.getfield 26, 3) := by decide +kernel
theorem dX1_free_48 : decode cX1_free 48 = .ok (.iload_n 3, 1) := by decide +kernel
theorem dX1_free_49 : decode cX1_free 49 = .ok (.iaload, 1) := by decide +kernel
theorem dX1_free_50 : decode cX1_free 50 = .ok (.iload_n 1, 1) := by decide +kernel
theorem dX1_free_51 : decode cX1_free 51 = .ok (.if_icmp .ne 14, 3) := by decide +kernel
theorem dX1_free_54 : decode cX1_free 54 = .ok (.aload_n 0, 1) := by decide +kernel
theorem dX1_free_55 : decode cX1_free 55 = .ok (.iload_n 3, 1) := by decide +kernel
theorem dX1_free_56 : decode cX1_free 56 = .ok (.iload_n 2, 1) := by decide +kernel
theorem dX1_free_57 : decode cX1_free 57 = .ok (.invokevirtual 39, 3) := by decide +kernel
theorem dX1_free_60 : decode cX1_free 60 = .ok (.ifCond .eq 5, 3) := by decide +kernel
theorem dX1_free_63 : decode cX1_free 63 = .ok (.iconst 0, 1) := by decide +kernel
theorem dX1_free_64 : decode cX1_free 64 = .ok (.ireturn, 1) := by decide +kernel
theorem dX1_free_65 : decode cX1_free 65 = .ok (.iinc 3 1, 3) := by decide +kernel
theorem dX1_free_68 : decode cX1_free 68 = .ok (.goto (-42), 3) := by decide +kernel
theorem dX1_free_71 : decode cX1_free 71 = .ok (.iconst 1, 1) := by decide +kernel
theorem dX1_free_72 : decode cX1_free 72 = .ok (.ireturn, 1) := by decide +kernel
abbrev cX1_blocks : ByteArray := prog_3_method_10_code
def yX1_blocks : MethodName := ⟨RX1, "blocks", "()I"⟩
theorem dX1_blocks_0 : decode cX1_blocks 0 = .ok (.aload_n 0, 1) := by decide +kernel
theorem dX1_blocks_1 : decode cX1_blocks 1 = .ok (.getfield 7, 3) := by decide +kernel
theorem dX1_blocks_4 : decode cX1_blocks 4 = .ok (.ireturn, 1) := by decide +kernel
abbrev cX1_tip : ByteArray := prog_3_method_11_code
def yX1_tip : MethodName := ⟨RX1, "tip", "()I"⟩
theorem dX1_tip_0 : decode cX1_tip 0 = .ok (.aload_n 0, 1) := by decide +kernel
theorem dX1_tip_1 : decode cX1_tip 1 = .ok (.getfield 33, 3) := by decide +kernel
theorem dX1_tip_4 : decode cX1_tip 4 = .ok (.ireturn, 1) := by decide +kernel
abbrev cX1_height : ByteArray := prog_3_method_12_code
def yX1_height : MethodName := ⟨RX1, "height", "(I)I"⟩
theorem dX1_height_0 : decode cX1_height 0 = .ok (.aload_n 0, 1) := by decide +kernel
theorem dX1_height_1 : decode cX1_height 1 = .ok (.iload_n 1, 1) := by decide +kernel
theorem dX1_height_2 : decode cX1_height 2 = .ok (.invokevirtual 51, 3) := by decide +kernel
theorem dX1_height_5 : decode cX1_height 5 = .ok (.ifCond .eq 11, 3) := by decide +kernel
theorem dX1_height_8 : decode cX1_height 8 = .ok (.aload_n 0, 1) := by decide +kernel
theorem dX1_height_9 : decode cX1_height 9 = .ok (.iload_n 1, 1) := by decide +kernel
theorem dX1_height_10 : decode cX1_height 10 = .ok (.invokevirtual 43, 3) := by decide +kernel
theorem dX1_height_13 : decode cX1_height 13 = .ok (.goto 4, 3) := by decide +kernel
theorem dX1_height_16 : decode cX1_height 16 = .ok (.iconst (-1), 1) := by decide +kernel
theorem dX1_height_17 : decode cX1_height 17 = .ok (.ireturn, 1) := by decide +kernel
abbrev cX1_unspent : ByteArray := prog_3_method_13_code
def yX1_unspent : MethodName := ⟨RX1, "unspent", "(I)Z"⟩
theorem dX1_unspent_0 : decode cX1_unspent 0 = .ok (.aload_n 0, 1) := by decide +kernel
theorem dX1_unspent_1 : decode cX1_unspent 1 = .ok (.iload_n 1, 1) := by decide +kernel
theorem dX1_unspent_2 : decode cX1_unspent 2 = .ok (.aload_n 0, 1) := by decide +kernel
theorem dX1_unspent_3 : decode cX1_unspent 3 = .ok (.getfield 33, 3) := by decide +kernel
theorem dX1_unspent_6 : decode cX1_unspent 6 = .ok (.invokevirtual 59, 3) := by decide +kernel
theorem dX1_unspent_9 : decode cX1_unspent 9 = .ok (.ireturn, 1) := by decide +kernel
abbrev cX1_amount : ByteArray := prog_3_method_14_code
def yX1_amount : MethodName := ⟨RX1, "amount", "(I)I"⟩
theorem dX1_amount_0 : decode cX1_amount 0 = .ok (.iload_n 1, 1) := by decide +kernel
theorem dX1_amount_1 : decode cX1_amount 1 = .ok (.ifCond .le 20, 3) := by decide +kernel
theorem dX1_amount_4 : decode cX1_amount 4 = .ok (.aload_n 0, 1) := by decide +kernel
theorem dX1_amount_5 : decode cX1_amount 5 = .ok (.iload_n 1, 1) := by decide +kernel
theorem dX1_amount_6 : decode cX1_amount 6 = .ok (.invokevirtual 51, 3) := by decide +kernel
theorem dX1_amount_9 : decode cX1_amount 9 = .ok (.ifCond .eq 12, 3) := by decide +kernel
theorem dX1_amount_12 : decode cX1_amount 12 = .ok (.aload_n 0, 1) := by decide +kernel
theorem dX1_amount_13 : decode cX1_amount 13 = .ok (.getfield 20, 3) := by decide +kernel
theorem dX1_amount_16 : decode cX1_amount 16 = .ok (.iload_n 1, 1) := by decide +kernel
theorem dX1_amount_17 : decode cX1_amount 17 = .ok (.iaload, 1) := by decide +kernel
theorem dX1_amount_18 : decode cX1_amount 18 = .ok (.goto 4, 3) := by decide +kernel
theorem dX1_amount_21 : decode cX1_amount 21 = .ok (.iconst 0, 1) := by decide +kernel
theorem dX1_amount_22 : decode cX1_amount 22 = .ok (.ireturn, 1) := by decide +kernel
abbrev cX1_balance : ByteArray := prog_3_method_15_code
def yX1_balance : MethodName := ⟨RX1, "balance", "(I)J"⟩
theorem dX1_balance_0 : decode cX1_balance 0 = .ok (.lconst 0, 1) := by decide +kernel
theorem dX1_balance_1 : decode cX1_balance 1 = .ok (.lstore_n 2, 1) := by decide +kernel
theorem dX1_balance_2 : decode cX1_balance 2 = .ok (.iconst 1, 1) := by decide +kernel
theorem dX1_balance_3 : decode cX1_balance 3 = .ok (.istore 4, 2) := by decide +kernel
theorem dX1_balance_5 : decode cX1_balance 5 = .ok (.iload 4, 2) := by decide +kernel
theorem dX1_balance_7 : decode cX1_balance 7 = .ok (.aload_n 0, 1) := by decide +kernel
theorem dX1_balance_8 : decode cX1_balance 8 = .ok (.getfield 7, 3) := by decide +kernel
theorem dX1_balance_11 : decode cX1_balance 11 = .ok (.if_icmp .ge 44, 3) := by decide +kernel
theorem dX1_balance_14 : decode cX1_balance 14 = .ok (.aload_n 0, 1) := by decide +kernel
theorem dX1_balance_15 : decode cX1_balance 15 = .ok (.getfield 17, 3) := by decide +kernel
theorem dX1_balance_18 : decode cX1_balance 18 = .ok (.iload 4, 2) := by decide +kernel
theorem dX1_balance_20 : decode cX1_balance 20 = .ok (.iaload, 1) := by decide +kernel
theorem dX1_balance_21 : decode cX1_balance 21 = .ok (.iload_n 1, 1) := by decide +kernel
theorem dX1_balance_22 : decode cX1_balance 22 = .ok (.if_icmp .ne 27, 3) := by decide +kernel
theorem dX1_balance_25 : decode cX1_balance 25 = .ok (.aload_n 0, 1) := by decide +kernel
theorem dX1_balance_26 : decode cX1_balance 26 = .ok (.iload 4, 2) := by decide +kernel
theorem dX1_balance_28 : decode cX1_balance 28 = .ok (.aload_n 0, 1) := by decide +kernel
theorem dX1_balance_29 : decode cX1_balance 29 = .ok (.getfield 33, 3) := by decide +kernel
theorem dX1_balance_32 : decode cX1_balance 32 = .ok (.invokevirtual 59, 3) := by decide +kernel
theorem dX1_balance_35 : decode cX1_balance 35 = .ok (.ifCond .eq 14, 3) := by decide +kernel
theorem dX1_balance_38 : decode cX1_balance 38 = .ok (.lload_n 2, 1) := by decide +kernel
theorem dX1_balance_39 : decode cX1_balance 39 = .ok (.aload_n 0, 1) := by decide +kernel
theorem dX1_balance_40 : decode cX1_balance 40 = .ok (.getfield 20, 3) := by decide +kernel
theorem dX1_balance_43 : decode cX1_balance 43 = .ok (.iload 4, 2) := by decide +kernel
theorem dX1_balance_45 : decode cX1_balance 45 = .ok (.iaload, 1) := by decide +kernel
theorem dX1_balance_46 : decode cX1_balance 46 = .ok (.i2l, 1) := by decide +kernel
theorem dX1_balance_47 : decode cX1_balance 47 = .ok (.ladd, 1) := by decide +kernel
theorem dX1_balance_48 : decode cX1_balance 48 = .ok (.lstore_n 2, 1) := by decide +kernel
theorem dX1_balance_49 : decode cX1_balance 49 = .ok (.iinc 4 1, 3) := by decide +kernel
theorem dX1_balance_52 : decode cX1_balance 52 = .ok (.goto (-47), 3) := by decide +kernel
theorem dX1_balance_55 : decode cX1_balance 55 = .ok (.lload_n 2, 1) := by decide +kernel
theorem dX1_balance_56 : decode cX1_balance 56 = .ok (.lreturn, 1) := by decide +kernel
abbrev cX1_coins : ByteArray := prog_3_method_16_code
def yX1_coins : MethodName := ⟨RX1, "coins", "()I"⟩
theorem dX1_coins_0 : decode cX1_coins 0 = .ok (.iconst 0, 1) := by decide +kernel
theorem dX1_coins_1 : decode cX1_coins 1 = .ok (.istore_n 1, 1) := by decide +kernel
theorem dX1_coins_2 : decode cX1_coins 2 = .ok (.iconst 1, 1) := by decide +kernel
theorem dX1_coins_3 : decode cX1_coins 3 = .ok (.istore_n 2, 1) := by decide +kernel
theorem dX1_coins_4 : decode cX1_coins 4 = .ok (.iload_n 2, 1) := by decide +kernel
theorem dX1_coins_5 : decode cX1_coins 5 = .ok (.aload_n 0, 1) := by decide +kernel
theorem dX1_coins_6 : decode cX1_coins 6 = .ok (.getfield 7, 3) := by decide +kernel
theorem dX1_coins_9 : decode cX1_coins 9 = .ok (.if_icmp .ge 24, 3) := by decide +kernel
theorem dX1_coins_12 : decode cX1_coins 12 = .ok (.aload_n 0, 1) := by decide +kernel
theorem dX1_coins_13 : decode cX1_coins 13 = .ok (.iload_n 2, 1) := by decide +kernel
theorem dX1_coins_14 : decode cX1_coins 14 = .ok (.aload_n 0, 1) := by decide +kernel
theorem dX1_coins_15 : decode cX1_coins 15 = .ok (.getfield 33, 3) := by decide +kernel
theorem dX1_coins_18 : decode cX1_coins 18 = .ok (.invokevirtual 59, 3) := by decide +kernel
theorem dX1_coins_21 : decode cX1_coins 21 = .ok (.ifCond .eq 6, 3) := by decide +kernel
theorem dX1_coins_24 : decode cX1_coins 24 = .ok (.iinc 1 1, 3) := by decide +kernel
theorem dX1_coins_27 : decode cX1_coins 27 = .ok (.iinc 2 1, 3) := by decide +kernel
theorem dX1_coins_30 : decode cX1_coins 30 = .ok (.goto (-26), 3) := by decide +kernel
theorem dX1_coins_33 : decode cX1_coins 33 = .ok (.iload_n 1, 1) := by decide +kernel
theorem dX1_coins_34 : decode cX1_coins 34 = .ok (.ireturn, 1) := by decide +kernel
abbrev cX1_meeting : ByteArray := prog_3_method_17_code
def yX1_meeting : MethodName := ⟨RX1, "meeting", "(II)I"⟩
theorem dX1_meeting_0 : decode cX1_meeting 0 = .ok (.aload_n 0, 1) := by decide +kernel
theorem dX1_meeting_1 : decode cX1_meeting 1 = .ok (.iload_n 1, 1) := by decide +kernel
theorem dX1_meeting_2 : decode cX1_meeting 2 = .ok (.invokevirtual 51, 3) := by decide +kernel
theorem dX1_meeting_5 : decode cX1_meeting 5 = .ok (.ifCond .eq 20, 3) := by decide +kernel
theorem dX1_meeting_8 : decode cX1_meeting 8 = .ok (.aload_n 0, 1) := by decide +kernel
theorem dX1_meeting_9 : decode cX1_meeting 9 = .ok (.iload_n 2, 1) := by decide +kernel
theorem dX1_meeting_10 : decode cX1_meeting 10 = .ok (.invokevirtual 51, 3) := by decide +kernel
theorem dX1_meeting_13 : decode cX1_meeting 13 = .ok (.ifCond .eq 12, 3) := by decide +kernel
theorem dX1_meeting_16 : decode cX1_meeting 16 = .ok (.aload_n 0, 1) := by decide +kernel
theorem dX1_meeting_17 : decode cX1_meeting 17 = .ok (.iload_n 1, 1) := by decide +kernel
theorem dX1_meeting_18 : decode cX1_meeting 18 = .ok (.iload_n 2, 1) := by decide +kernel
theorem dX1_meeting_19 : decode cX1_meeting 19 = .ok (.invokevirtual 47, 3) := by decide +kernel
theorem dX1_meeting_22 : decode cX1_meeting 22 = .ok (.goto 4, 3) := by decide +kernel
theorem dX1_meeting_25 : decode cX1_meeting 25 = .ok (.iconst (-1), 1) := by decide +kernel
theorem dX1_meeting_26 : decode cX1_meeting 26 = .ok (.ireturn, 1) := by decide +kernel
abbrev cX1_undone : ByteArray := prog_3_method_18_code
def yX1_undone : MethodName := ⟨RX1, "undone", "()I"⟩
theorem dX1_undone_0 : decode cX1_undone 0 = .ok (.aload_n 0, 1) := by decide +kernel
theorem dX1_undone_1 : decode cX1_undone 1 = .ok (.getfield 36, 3) := by decide +kernel
theorem dX1_undone_4 : decode cX1_undone 4 = .ok (.ireturn, 1) := by decide +kernel
abbrev cX1_fewestFor : ByteArray := prog_3_method_20_code
def yX1_fewestFor : MethodName := ⟨RX1, "fewestFor", "(II)I"⟩
theorem dX1_fewestFor_0 : decode cX1_fewestFor 0 = .ok (.iload_n 1, 1) := by decide +kernel
theorem dX1_fewestFor_1 : decode cX1_fewestFor 1 = .ok (.ifCond .lt 8, 3) := by decide +kernel
theorem dX1_fewestFor_4 : decode cX1_fewestFor 4 = .ok (.iload_n 1, 1) := by decide +kernel
theorem dX1_fewestFor_5 : decode cX1_fewestFor 5 = .ok (.iconst 3, 1) := by decide +kernel
theorem dX1_fewestFor_6 : decode cX1_fewestFor 6 = .ok (.if_icmp .le 5, 3) := by decide +kernel
theorem dX1_fewestFor_9 : decode cX1_fewestFor 9 = .ok (.iconst (-1), 1) := by decide +kernel
theorem dX1_fewestFor_10 : decode cX1_fewestFor 10 = .ok (.ireturn, 1) := by decide +kernel
theorem dX1_fewestFor_11 : decode cX1_fewestFor 11 = .ok (.iconst 0, 1) := by decide +kernel
theorem dX1_fewestFor_12 : decode cX1_fewestFor 12 = .ok (.istore_n 3, 1) := by decide +kernel
theorem dX1_fewestFor_13 : decode cX1_fewestFor 13 = .ok (.iload_n 3, 1) := by decide +kernel
theorem dX1_fewestFor_14 : decode cX1_fewestFor 14 = .ok (.bipush 20, 2) := by decide +kernel
theorem dX1_fewestFor_16 : decode cX1_fewestFor 16 = .ok (.if_icmp .ge 16, 3) := by decide +kernel
theorem dX1_fewestFor_19 : decode cX1_fewestFor 19 = .ok (.aload_n 0, 1) := by decide +kernel
theorem dX1_fewestFor_20 : decode cX1_fewestFor 20 = .ok (.getfield 29, 3) := by decide +kernel
theorem dX1_fewestFor_23 : decode cX1_fewestFor 23 = .ok (.iload_n 3, 1) := by decide +kernel
theorem dX1_fewestFor_24 : decode cX1_fewestFor 24 = .ok (.iconst 0, 1) := by decide +kernel
theorem dX1_fewestFor_25 : decode cX1_fewestFor 25 = .ok (.bastore, 1) := by decide +kernel
theorem dX1_fewestFor_26 : decode cX1_fewestFor 26 = .ok (.iinc 3 1, 3) := by decide +kernel
theorem dX1_fewestFor_29 : decode cX1_fewestFor 29 = .ok (.goto (-16), 3) := by decide +kernel
theorem dX1_fewestFor_32 : decode cX1_fewestFor 32 = .ok (.iload_n 2, 1) := by decide +kernel
theorem dX1_fewestFor_33 : decode cX1_fewestFor 33 = .ok (.i2l, 1) := by decide +kernel
theorem dX1_fewestFor_34 : decode cX1_fewestFor 34 = .ok (.lstore_n 3, 1) := by decide +kernel
theorem dX1_fewestFor_35 : decode cX1_fewestFor 35 = .ok (.iconst 0, 1) := by decide +kernel
theorem dX1_fewestFor_36 : decode cX1_fewestFor 36 = .ok (.istore 5, 2) := by decide +kernel
theorem dX1_fewestFor_38 : decode cX1_fewestFor 38 = .ok (.iload 5, 2) := by decide +kernel
theorem dX1_fewestFor_40 : decode cX1_fewestFor 40 = .ok (.bipush 20, 2) := by decide +kernel
theorem dX1_fewestFor_42 : decode cX1_fewestFor 42 = .ok (.if_icmp .ge 52, 3) := by decide +kernel
theorem dX1_fewestFor_45 : decode cX1_fewestFor 45 = .ok (.lload_n 3, 1) := by decide +kernel
theorem dX1_fewestFor_46 : decode cX1_fewestFor 46 = .ok (.lconst 0, 1) := by decide +kernel
theorem dX1_fewestFor_47 : decode cX1_fewestFor 47 = .ok (.lcmp, 1) := by decide +kernel
theorem dX1_fewestFor_48 : decode cX1_fewestFor 48 = .ok (.ifCond .gt 6, 3) := by decide +kernel
theorem dX1_fewestFor_51 : decode cX1_fewestFor 51 = .ok (.iload 5, 2) := by decide +kernel
theorem dX1_fewestFor_53 : decode cX1_fewestFor 53 = .ok (.ireturn, 1) := by decide +kernel
theorem dX1_fewestFor_54 : decode cX1_fewestFor 54 = .ok (.aload_n 0, 1) := by decide +kernel
theorem dX1_fewestFor_55 : decode cX1_fewestFor 55 = .ok (.iload_n 1, 1) := by decide +kernel
theorem dX1_fewestFor_56 : decode cX1_fewestFor 56 = .ok (.invokevirtual 62, 3) := by decide +kernel
theorem dX1_fewestFor_59 : decode cX1_fewestFor 59 = .ok (.istore 6, 2) := by decide +kernel
theorem dX1_fewestFor_61 : decode cX1_fewestFor 61 = .ok (.iload 6, 2) := by decide +kernel
theorem dX1_fewestFor_63 : decode cX1_fewestFor 63 = .ok (.ifCond .ne 6, 3) := by decide +kernel
theorem dX1_fewestFor_66 : decode cX1_fewestFor 66 = .ok (.bipush (-4), 2) := by decide +kernel
theorem dX1_fewestFor_68 : decode cX1_fewestFor 68 = .ok (.ireturn, 1) := by decide +kernel
theorem dX1_fewestFor_69 : decode cX1_fewestFor 69 = .ok (.aload_n 0, 1) := by decide +kernel
theorem dX1_fewestFor_70 : decode cX1_fewestFor 70 = .ok (.getfield 29, 3) := by decide +kernel
theorem dX1_fewestFor_73 : decode cX1_fewestFor 73 = .ok (.iload 6, 2) := by decide +kernel
theorem dX1_fewestFor_75 : decode cX1_fewestFor 75 = .ok (.iconst 1, 1) := by decide +kernel
theorem dX1_fewestFor_76 : decode cX1_fewestFor 76 = .ok (.bastore, 1) := by decide +kernel
theorem dX1_fewestFor_77 : decode cX1_fewestFor 77 = .ok (.lload_n 3, 1) := by decide +kernel
theorem dX1_fewestFor_78 : decode cX1_fewestFor 78 = .ok (.aload_n 0, 1) := by decide +kernel
theorem dX1_fewestFor_79 : decode cX1_fewestFor 79 = .ok (.getfield 20, 3) := by decide +kernel
theorem dX1_fewestFor_82 : decode cX1_fewestFor 82 = .ok (.iload 6, 2) := by decide +kernel
theorem dX1_fewestFor_84 : decode cX1_fewestFor 84 = .ok (.iaload, 1) := by decide +kernel
theorem dX1_fewestFor_85 : decode cX1_fewestFor 85 = .ok (.i2l, 1) := by decide +kernel
theorem dX1_fewestFor_86 : decode cX1_fewestFor 86 = .ok (.lsub, 1) := by decide +kernel
theorem dX1_fewestFor_87 : decode cX1_fewestFor 87 = .ok (.lstore_n 3, 1) := by decide +kernel
theorem dX1_fewestFor_88 : decode cX1_fewestFor 88 = .ok (.iinc 5 1, 3) := by decide +kernel
theorem dX1_fewestFor_91 : decode cX1_fewestFor 91 = .ok (.goto (-53), 3) := by decide +kernel
theorem dX1_fewestFor_94 : decode cX1_fewestFor 94 = .ok (.bipush (-4), 2) := by decide +kernel
theorem dX1_fewestFor_96 : decode cX1_fewestFor 96 = .ok (.ireturn, 1) := by decide +kernel
abbrev cX1_greatest : ByteArray := prog_3_method_19_code
def yX1_greatest : MethodName := ⟨RX1, "greatest", "(I)I"⟩
theorem dX1_greatest_0 : decode cX1_greatest 0 = .ok (.iconst 0, 1) := by decide +kernel
theorem dX1_greatest_1 : decode cX1_greatest 1 = .ok (.istore_n 2, 1) := by decide +kernel
theorem dX1_greatest_2 : decode cX1_greatest 2 = .ok (.iconst 1, 1) := by decide +kernel
theorem dX1_greatest_3 : decode cX1_greatest 3 = .ok (.istore_n 3, 1) := by decide +kernel
theorem dX1_greatest_4 : decode cX1_greatest 4 = .ok (.iload_n 3, 1) := by decide +kernel
theorem dX1_greatest_5 : decode cX1_greatest 5 = .ok (.aload_n 0, 1) := by decide +kernel
theorem dX1_greatest_6 : decode cX1_greatest 6 = .ok (.getfield 7, 3) := by decide +kernel
theorem dX1_greatest_9 : decode cX1_greatest 9 = .ok (.if_icmp .ge 61, 3) := by decide +kernel
theorem dX1_greatest_12 : decode cX1_greatest 12 = .ok (.aload_n 0, 1) := by decide +kernel
theorem dX1_greatest_13 : decode cX1_greatest 13 = .ok (.getfield 29, 3) := by decide +kernel
theorem dX1_greatest_16 : decode cX1_greatest 16 = .ok (.iload_n 3, 1) := by decide +kernel
theorem dX1_greatest_17 : decode cX1_greatest 17 = .ok (.baload, 1) := by decide +kernel
theorem dX1_greatest_18 : decode cX1_greatest 18 = .ok (.ifCond .ne 46, 3) := by decide +kernel
theorem dX1_greatest_21 : decode cX1_greatest 21 = .ok (.aload_n 0, 1) := by decide +kernel
theorem dX1_greatest_22 : decode cX1_greatest 22 = .ok (.getfield 17, 3) := by decide +kernel
theorem dX1_greatest_25 : decode cX1_greatest 25 = .ok (.iload_n 3, 1) := by decide +kernel
theorem dX1_greatest_26 : decode cX1_greatest 26 = .ok (.iaload, 1) := by decide +kernel
theorem dX1_greatest_27 : decode cX1_greatest 27 = .ok (.iload_n 1, 1) := by decide +kernel
theorem dX1_greatest_28 : decode cX1_greatest 28 = .ok (.if_icmp .ne 36, 3) := by decide +kernel
theorem dX1_greatest_31 : decode cX1_greatest 31 = .ok (.aload_n 0, 1) := by decide +kernel
theorem dX1_greatest_32 : decode cX1_greatest 32 = .ok (.iload_n 3, 1) := by decide +kernel
theorem dX1_greatest_33 : decode cX1_greatest 33 = .ok (.aload_n 0, 1) := by decide +kernel
theorem dX1_greatest_34 : decode cX1_greatest 34 = .ok (.getfield 33, 3) := by decide +kernel
theorem dX1_greatest_37 : decode cX1_greatest 37 = .ok (.invokevirtual 59, 3) := by decide +kernel
theorem dX1_greatest_40 : decode cX1_greatest 40 = .ok (.ifCond .eq 24, 3) := by decide +kernel
theorem dX1_greatest_43 : decode cX1_greatest 43 = .ok (.iload_n 2, 1) := by decide +kernel
theorem dX1_greatest_44 : decode cX1_greatest 44 = .ok (.ifCond .eq 18, 3) := by decide +kernel
theorem dX1_greatest_47 : decode cX1_greatest 47 = .ok (.aload_n 0, 1) := by decide +kernel
theorem dX1_greatest_48 : decode cX1_greatest 48 = .ok (.getfield 20, 3) := by decide +kernel
theorem dX1_greatest_51 : decode cX1_greatest 51 = .ok (.iload_n 3, 1) := by decide +kernel
theorem dX1_greatest_52 : decode cX1_greatest 52 = .ok (.iaload, 1) := by decide +kernel
theorem dX1_greatest_53 : decode cX1_greatest 53 = .ok (.aload_n 0, 1) := by decide +kernel
theorem dX1_greatest_54 : decode cX1_greatest 54 = .ok (.getfield 20, 3) := by decide +kernel
theorem dX1_greatest_57 : decode cX1_greatest 57 = .ok (.iload_n 2, 1) := by decide +kernel
theorem dX1_greatest_58 : decode cX1_greatest 58 = .ok (.iaload, 1) := by decide +kernel
theorem dX1_greatest_59 : decode cX1_greatest 59 = .ok (.if_icmp .le 5, 3) := by decide +kernel
theorem dX1_greatest_62 : decode cX1_greatest 62 = .ok (.iload_n 3, 1) := by decide +kernel
theorem dX1_greatest_63 : decode cX1_greatest 63 = .ok (.istore_n 2, 1) := by decide +kernel
theorem dX1_greatest_64 : decode cX1_greatest 64 = .ok (.iinc 3 1, 3) := by decide +kernel
theorem dX1_greatest_67 : decode cX1_greatest 67 = .ok (.goto (-63), 3) := by decide +kernel
theorem dX1_greatest_70 : decode cX1_greatest 70 = .ok (.iload_n 2, 1) := by decide +kernel
theorem dX1_greatest_71 : decode cX1_greatest 71 = .ok (.ireturn, 1) := by decide +kernel
abbrev cX1_forget : ByteArray := prog_3_method_21_code
def yX1_forget : MethodName := ⟨RX1, "forget", "(I)I"⟩
theorem dX1_forget_0 : decode cX1_forget 0 = .ok (.iload_n 1, 1) := by decide +kernel
theorem dX1_forget_1 : decode cX1_forget 1 = .ok (.iconst 1, 1) := by decide +kernel
theorem dX1_forget_2 : decode cX1_forget 2 = .ok (.if_icmp .lt 21, 3) := by decide +kernel
theorem dX1_forget_5 : decode cX1_forget 5 = .ok (.iload_n 1, 1) := by decide +kernel
theorem dX1_forget_6 : decode cX1_forget 6 = .ok (.aload_n 0, 1) := by decide +kernel
theorem dX1_forget_7 : decode cX1_forget 7 = .ok (.getfield 7, 3) := by decide +kernel
theorem dX1_forget_10 : decode cX1_forget 10 = .ok (.iconst 1, 1) := by decide +kernel
theorem dX1_forget_11 : decode cX1_forget 11 = .ok (.isub, 1) := by decide +kernel
theorem dX1_forget_12 : decode cX1_forget 12 = .ok (.if_icmp .ne 11, 3) := by decide +kernel
theorem dX1_forget_15 : decode cX1_forget 15 = .ok (.iload_n 1, 1) := by decide +kernel
theorem dX1_forget_16 : decode cX1_forget 16 = .ok (.aload_n 0, 1) := by decide +kernel
theorem dX1_forget_17 : decode cX1_forget 17 = .ok (.getfield 33, 3) := by decide +kernel
theorem dX1_forget_20 : decode cX1_forget 20 = .ok (.if_icmp .ne 6, 3) := by decide +kernel
theorem dX1_forget_23 : decode cX1_forget 23 = .ok (.bipush (-4), 2) := by decide +kernel
theorem dX1_forget_25 : decode cX1_forget 25 = .ok (.ireturn, 1) := by decide +kernel
theorem dX1_forget_26 : decode cX1_forget 26 = .ok (.aload_n 0, 1) := by decide +kernel
theorem dX1_forget_27 : decode cX1_forget 27 = .ok (.dup, 1) := by decide +kernel
theorem dX1_forget_28 : decode cX1_forget 28 = .ok (.getfield 7, 3) := by decide +kernel
theorem dX1_forget_31 : decode cX1_forget 31 = .ok (.iconst 1, 1) := by decide +kernel
theorem dX1_forget_32 : decode cX1_forget 32 = .ok (.isub, 1) := by decide +kernel
theorem dX1_forget_33 : decode cX1_forget 33 = .ok (.putfield 7, 3) := by decide +kernel
theorem dX1_forget_36 : decode cX1_forget 36 = .ok (.iload_n 1, 1) := by decide +kernel
theorem dX1_forget_37 : decode cX1_forget 37 = .ok (.ireturn, 1) := by decide +kernel
theorem q19 : (Jvm.Cond.initialized "ChainUndoModel") ∈ lw_all := lw_g (lw_at lw_m1 2 rfl) rfl
theorem q164 : (Jvm.Cond.instantiable "ChainUndoModel" (9 : Nat)) ∈ lw_all := lw_g (lw_at lw_m1 147 rfl) rfl
theorem q166 : (Jvm.Cond.instanceMethod ({ cls := "ChainUndoModel", name := "<init>", desc := "()V" } : Jvm.MethodName)) ∈ lw_all := lw_g (lw_at lw_m1 149 rfl) rfl
theorem q167 : (Jvm.Cond.code ({ cls := "ChainUndoModel", name := "<init>", desc := "()V" } : Jvm.MethodName) prog_3_method_1_code (1 : Nat) (Option.none : Option Jvm.ClassFile.FieldType)) ∈ lw_all := lw_g (lw_at lw_m1 150 rfl) rfl
theorem q168 : (Jvm.Cond.methodLink "ChainUndoModel" (1 : Nat) ({ cls := "java/lang/Object", name := "<init>", desc := "()V" } : Jvm.MethodName)) ∈ lw_all := lw_g (lw_at lw_m1 151 rfl) rfl
theorem q169 : (Jvm.Cond.fieldLink "ChainUndoModel" (7 : Nat) "ChainUndoModel" "n" "I") ∈ lw_all := lw_g (lw_at lw_m1 152 rfl) rfl
theorem q170 : (Jvm.Cond.fieldLink "ChainUndoModel" (13 : Nat) "ChainUndoModel" "parents" "[I") ∈ lw_all := lw_g (lw_at lw_m1 153 rfl) rfl
theorem q171 : (Jvm.Cond.fieldLink "ChainUndoModel" (17 : Nat) "ChainUndoModel" "owners" "[I") ∈ lw_all := lw_g (lw_at lw_m1 154 rfl) rfl
theorem q172 : (Jvm.Cond.fieldLink "ChainUndoModel" (20 : Nat) "ChainUndoModel" "amounts" "[I") ∈ lw_all := lw_g (lw_at lw_m1 155 rfl) rfl
theorem q173 : (Jvm.Cond.fieldLink "ChainUndoModel" (23 : Nat) "ChainUndoModel" "one" "[I") ∈ lw_all := lw_g (lw_at lw_m1 156 rfl) rfl
theorem q174 : (Jvm.Cond.fieldLink "ChainUndoModel" (26 : Nat) "ChainUndoModel" "two" "[I") ∈ lw_all := lw_g (lw_at lw_m1 157 rfl) rfl
theorem q175 : (Jvm.Cond.fieldLink "ChainUndoModel" (29 : Nat) "ChainUndoModel" "taken" "[Z") ∈ lw_all := lw_g (lw_at lw_m1 158 rfl) rfl
theorem q176 : (Jvm.Cond.fieldLink "ChainUndoModel" (33 : Nat) "ChainUndoModel" "tip" "I") ∈ lw_all := lw_g (lw_at lw_m1 159 rfl) rfl
theorem q177 : (Jvm.Cond.fieldLink "ChainUndoModel" (36 : Nat) "ChainUndoModel" "undone" "I") ∈ lw_all := lw_g (lw_at lw_m1 160 rfl) rfl
theorem q178 : (Jvm.Cond.lays "ChainUndoModel" "ChainUndoModel" "n" "I") ∈ lw_all := lw_g (lw_at lw_m1 161 rfl) rfl
theorem q179 : (Jvm.Cond.soleField "ChainUndoModel" "n") ∈ lw_all := lw_g (lw_at lw_m1 162 rfl) rfl
theorem q180 : (Jvm.Cond.lays "ChainUndoModel" "ChainUndoModel" "parents" "[I") ∈ lw_all := lw_g (lw_at lw_m1 163 rfl) rfl
theorem q181 : (Jvm.Cond.soleField "ChainUndoModel" "parents") ∈ lw_all := lw_g (lw_at lw_m1 164 rfl) rfl
theorem q182 : (Jvm.Cond.lays "ChainUndoModel" "ChainUndoModel" "owners" "[I") ∈ lw_all := lw_g (lw_at lw_m1 165 rfl) rfl
theorem q183 : (Jvm.Cond.soleField "ChainUndoModel" "owners") ∈ lw_all := lw_g (lw_at lw_m1 166 rfl) rfl
theorem q184 : (Jvm.Cond.lays "ChainUndoModel" "ChainUndoModel" "amounts" "[I") ∈ lw_all := lw_g (lw_at lw_m1 167 rfl) rfl
theorem q185 : (Jvm.Cond.soleField "ChainUndoModel" "amounts") ∈ lw_all := lw_g (lw_at lw_m1 168 rfl) rfl
theorem q186 : (Jvm.Cond.lays "ChainUndoModel" "ChainUndoModel" "one" "[I") ∈ lw_all := lw_g (lw_at lw_m1 169 rfl) rfl
theorem q187 : (Jvm.Cond.soleField "ChainUndoModel" "one") ∈ lw_all := lw_g (lw_at lw_m1 170 rfl) rfl
theorem q188 : (Jvm.Cond.lays "ChainUndoModel" "ChainUndoModel" "two" "[I") ∈ lw_all := lw_g (lw_at lw_m1 171 rfl) rfl
theorem q189 : (Jvm.Cond.soleField "ChainUndoModel" "two") ∈ lw_all := lw_g (lw_at lw_m1 172 rfl) rfl
theorem q190 : (Jvm.Cond.lays "ChainUndoModel" "ChainUndoModel" "taken" "[Z") ∈ lw_all := lw_g (lw_at lw_m1 173 rfl) rfl
theorem q191 : (Jvm.Cond.soleField "ChainUndoModel" "taken") ∈ lw_all := lw_g (lw_at lw_m1 174 rfl) rfl
theorem q192 : (Jvm.Cond.lays "ChainUndoModel" "ChainUndoModel" "tip" "I") ∈ lw_all := lw_g (lw_at lw_m1 175 rfl) rfl
theorem q193 : (Jvm.Cond.soleField "ChainUndoModel" "tip") ∈ lw_all := lw_g (lw_at lw_m1 176 rfl) rfl
theorem q194 : (Jvm.Cond.lays "ChainUndoModel" "ChainUndoModel" "undone" "I") ∈ lw_all := lw_g (lw_at lw_m1 177 rfl) rfl
theorem q195 : (Jvm.Cond.soleField "ChainUndoModel" "undone") ∈ lw_all := lw_g (lw_at lw_m1 178 rfl) rfl
theorem q196 : (Jvm.Cond.superclass "ChainUndoModel" "java/lang/Object") ∈ lw_all := lw_g (lw_at lw_m1 179 rfl) rfl
theorem q199 : (Jvm.Cond.instanceMethod ({ cls := "ChainUndoModel", name := "mint", desc := "(III)I" } : Jvm.MethodName)) ∈ lw_all := lw_g (lw_at lw_m1 182 rfl) rfl
theorem q200 : (Jvm.Cond.selects "ChainUndoModel" ({ cls := "ChainUndoModel", name := "mint", desc := "(III)I" } : Jvm.MethodName) ({ cls := "ChainUndoModel", name := "mint", desc := "(III)I" } : Jvm.MethodName)) ∈ lw_all := lw_g (lw_at lw_m1 183 rfl) rfl
theorem q201 : (Jvm.Cond.code ({ cls := "ChainUndoModel", name := "mint", desc := "(III)I" } : Jvm.MethodName) prog_3_method_8_code (4 : Nat) (Option.some Jvm.ClassFile.FieldType.int)) ∈ lw_all := lw_g (lw_at lw_m1 184 rfl) rfl
theorem q202 : (Jvm.Cond.methodLink "ChainUndoModel" (51 : Nat) ({ cls := "ChainUndoModel", name := "isBlock", desc := "(I)Z" } : Jvm.MethodName)) ∈ lw_all := lw_g (lw_at lw_m1 185 rfl) rfl
theorem q203 : (Jvm.Cond.privateMethod ({ cls := "ChainUndoModel", name := "isBlock", desc := "(I)Z" } : Jvm.MethodName)) ∈ lw_tbl := lw_at lw_m1 186 rfl
theorem q204 : (Jvm.Cond.instanceMethod ({ cls := "ChainUndoModel", name := "isBlock", desc := "(I)Z" } : Jvm.MethodName)) ∈ lw_all := lw_g (lw_at lw_m1 187 rfl) rfl
theorem q205 : (Jvm.Cond.code ({ cls := "ChainUndoModel", name := "isBlock", desc := "(I)Z" } : Jvm.MethodName) prog_3_method_2_code (2 : Nat) (Option.some Jvm.ClassFile.FieldType.boolean)) ∈ lw_all := lw_g (lw_at lw_m1 188 rfl) rfl
theorem q206 : (Jvm.Cond.methodLink "ChainUndoModel" (55 : Nat) ({ cls := "ChainUndoModel", name := "addBlock", desc := "(IIIII)I" } : Jvm.MethodName)) ∈ lw_all := lw_g (lw_at lw_m1 189 rfl) rfl
theorem q207 : (Jvm.Cond.privateMethod ({ cls := "ChainUndoModel", name := "addBlock", desc := "(IIIII)I" } : Jvm.MethodName)) ∈ lw_tbl := lw_at lw_m1 190 rfl
theorem q208 : (Jvm.Cond.instanceMethod ({ cls := "ChainUndoModel", name := "addBlock", desc := "(IIIII)I" } : Jvm.MethodName)) ∈ lw_all := lw_g (lw_at lw_m1 191 rfl) rfl
theorem q209 : (Jvm.Cond.code ({ cls := "ChainUndoModel", name := "addBlock", desc := "(IIIII)I" } : Jvm.MethodName) prog_3_method_7_code (7 : Nat) (Option.some Jvm.ClassFile.FieldType.int)) ∈ lw_all := lw_g (lw_at lw_m1 192 rfl) rfl
theorem q210 : (Jvm.Cond.methodLink "ChainUndoModel" (43 : Nat) ({ cls := "ChainUndoModel", name := "heightOf", desc := "(I)I" } : Jvm.MethodName)) ∈ lw_all := lw_g (lw_at lw_m1 193 rfl) rfl
theorem q211 : (Jvm.Cond.privateMethod ({ cls := "ChainUndoModel", name := "heightOf", desc := "(I)I" } : Jvm.MethodName)) ∈ lw_tbl := lw_at lw_m1 194 rfl
theorem q212 : (Jvm.Cond.instanceMethod ({ cls := "ChainUndoModel", name := "heightOf", desc := "(I)I" } : Jvm.MethodName)) ∈ lw_all := lw_g (lw_at lw_m1 195 rfl) rfl
theorem q213 : (Jvm.Cond.code ({ cls := "ChainUndoModel", name := "heightOf", desc := "(I)I" } : Jvm.MethodName) prog_3_method_3_code (5 : Nat) (Option.some Jvm.ClassFile.FieldType.int)) ∈ lw_all := lw_g (lw_at lw_m1 196 rfl) rfl
theorem q214 : (Jvm.Cond.methodLink "ChainUndoModel" (47 : Nat) ({ cls := "ChainUndoModel", name := "meet", desc := "(II)I" } : Jvm.MethodName)) ∈ lw_all := lw_g (lw_at lw_m1 197 rfl) rfl
theorem q215 : (Jvm.Cond.privateMethod ({ cls := "ChainUndoModel", name := "meet", desc := "(II)I" } : Jvm.MethodName)) ∈ lw_tbl := lw_at lw_m1 198 rfl
theorem q216 : (Jvm.Cond.instanceMethod ({ cls := "ChainUndoModel", name := "meet", desc := "(II)I" } : Jvm.MethodName)) ∈ lw_all := lw_g (lw_at lw_m1 199 rfl) rfl
theorem q217 : (Jvm.Cond.code ({ cls := "ChainUndoModel", name := "meet", desc := "(II)I" } : Jvm.MethodName) prog_3_method_6_code (5 : Nat) (Option.some Jvm.ClassFile.FieldType.int)) ∈ lw_all := lw_g (lw_at lw_m1 200 rfl) rfl
theorem q218 : (Jvm.Cond.methodLink "ChainUndoModel" (39 : Nat) ({ cls := "ChainUndoModel", name := "inBranch", desc := "(II)Z" } : Jvm.MethodName)) ∈ lw_all := lw_g (lw_at lw_m1 201 rfl) rfl
theorem q219 : (Jvm.Cond.privateMethod ({ cls := "ChainUndoModel", name := "inBranch", desc := "(II)Z" } : Jvm.MethodName)) ∈ lw_tbl := lw_at lw_m1 202 rfl
theorem q220 : (Jvm.Cond.instanceMethod ({ cls := "ChainUndoModel", name := "inBranch", desc := "(II)Z" } : Jvm.MethodName)) ∈ lw_all := lw_g (lw_at lw_m1 203 rfl) rfl
theorem q221 : (Jvm.Cond.code ({ cls := "ChainUndoModel", name := "inBranch", desc := "(II)Z" } : Jvm.MethodName) prog_3_method_4_code (5 : Nat) (Option.some Jvm.ClassFile.FieldType.boolean)) ∈ lw_all := lw_g (lw_at lw_m1 204 rfl) rfl
theorem q223 : (Jvm.Cond.instanceMethod ({ cls := "ChainUndoModel", name := "pay", desc := "(IIII)I" } : Jvm.MethodName)) ∈ lw_all := lw_g (lw_at lw_m1 206 rfl) rfl
theorem q224 : (Jvm.Cond.selects "ChainUndoModel" ({ cls := "ChainUndoModel", name := "pay", desc := "(IIII)I" } : Jvm.MethodName) ({ cls := "ChainUndoModel", name := "pay", desc := "(IIII)I" } : Jvm.MethodName)) ∈ lw_all := lw_g (lw_at lw_m1 207 rfl) rfl
theorem q225 : (Jvm.Cond.code ({ cls := "ChainUndoModel", name := "pay", desc := "(IIII)I" } : Jvm.MethodName) prog_3_method_9_code (6 : Nat) (Option.some Jvm.ClassFile.FieldType.int)) ∈ lw_all := lw_g (lw_at lw_m1 208 rfl) rfl
theorem q226 : (Jvm.Cond.methodLink "ChainUndoModel" (59 : Nat) ({ cls := "ChainUndoModel", name := "free", desc := "(II)Z" } : Jvm.MethodName)) ∈ lw_all := lw_g (lw_at lw_m1 209 rfl) rfl
theorem q227 : (Jvm.Cond.privateMethod ({ cls := "ChainUndoModel", name := "free", desc := "(II)Z" } : Jvm.MethodName)) ∈ lw_tbl := lw_at lw_m1 210 rfl
theorem q228 : (Jvm.Cond.instanceMethod ({ cls := "ChainUndoModel", name := "free", desc := "(II)Z" } : Jvm.MethodName)) ∈ lw_all := lw_g (lw_at lw_m1 211 rfl) rfl
theorem q229 : (Jvm.Cond.code ({ cls := "ChainUndoModel", name := "free", desc := "(II)Z" } : Jvm.MethodName) prog_3_method_5_code (4 : Nat) (Option.some Jvm.ClassFile.FieldType.boolean)) ∈ lw_all := lw_g (lw_at lw_m1 212 rfl) rfl
theorem q231 : (Jvm.Cond.instanceMethod ({ cls := "ChainUndoModel", name := "blocks", desc := "()I" } : Jvm.MethodName)) ∈ lw_all := lw_g (lw_at lw_m1 214 rfl) rfl
theorem q232 : (Jvm.Cond.selects "ChainUndoModel" ({ cls := "ChainUndoModel", name := "blocks", desc := "()I" } : Jvm.MethodName) ({ cls := "ChainUndoModel", name := "blocks", desc := "()I" } : Jvm.MethodName)) ∈ lw_all := lw_g (lw_at lw_m1 215 rfl) rfl
theorem q233 : (Jvm.Cond.code ({ cls := "ChainUndoModel", name := "blocks", desc := "()I" } : Jvm.MethodName) prog_3_method_10_code (1 : Nat) (Option.some Jvm.ClassFile.FieldType.int)) ∈ lw_all := lw_g (lw_at lw_m1 216 rfl) rfl
theorem q235 : (Jvm.Cond.instanceMethod ({ cls := "ChainUndoModel", name := "tip", desc := "()I" } : Jvm.MethodName)) ∈ lw_all := lw_g (lw_at lw_m1 218 rfl) rfl
theorem q236 : (Jvm.Cond.selects "ChainUndoModel" ({ cls := "ChainUndoModel", name := "tip", desc := "()I" } : Jvm.MethodName) ({ cls := "ChainUndoModel", name := "tip", desc := "()I" } : Jvm.MethodName)) ∈ lw_all := lw_g (lw_at lw_m1 219 rfl) rfl
theorem q237 : (Jvm.Cond.code ({ cls := "ChainUndoModel", name := "tip", desc := "()I" } : Jvm.MethodName) prog_3_method_11_code (1 : Nat) (Option.some Jvm.ClassFile.FieldType.int)) ∈ lw_all := lw_g (lw_at lw_m1 220 rfl) rfl
theorem q239 : (Jvm.Cond.instanceMethod ({ cls := "ChainUndoModel", name := "height", desc := "(I)I" } : Jvm.MethodName)) ∈ lw_all := lw_g (lw_at lw_m1 222 rfl) rfl
theorem q240 : (Jvm.Cond.selects "ChainUndoModel" ({ cls := "ChainUndoModel", name := "height", desc := "(I)I" } : Jvm.MethodName) ({ cls := "ChainUndoModel", name := "height", desc := "(I)I" } : Jvm.MethodName)) ∈ lw_all := lw_g (lw_at lw_m1 223 rfl) rfl
theorem q241 : (Jvm.Cond.code ({ cls := "ChainUndoModel", name := "height", desc := "(I)I" } : Jvm.MethodName) prog_3_method_12_code (2 : Nat) (Option.some Jvm.ClassFile.FieldType.int)) ∈ lw_all := lw_g (lw_at lw_m1 224 rfl) rfl
theorem q243 : (Jvm.Cond.instanceMethod ({ cls := "ChainUndoModel", name := "unspent", desc := "(I)Z" } : Jvm.MethodName)) ∈ lw_all := lw_g (lw_at lw_m1 226 rfl) rfl
theorem q244 : (Jvm.Cond.selects "ChainUndoModel" ({ cls := "ChainUndoModel", name := "unspent", desc := "(I)Z" } : Jvm.MethodName) ({ cls := "ChainUndoModel", name := "unspent", desc := "(I)Z" } : Jvm.MethodName)) ∈ lw_all := lw_g (lw_at lw_m1 227 rfl) rfl
theorem q245 : (Jvm.Cond.code ({ cls := "ChainUndoModel", name := "unspent", desc := "(I)Z" } : Jvm.MethodName) prog_3_method_13_code (2 : Nat) (Option.some Jvm.ClassFile.FieldType.boolean)) ∈ lw_all := lw_g (lw_at lw_m1 228 rfl) rfl
theorem q247 : (Jvm.Cond.instanceMethod ({ cls := "ChainUndoModel", name := "amount", desc := "(I)I" } : Jvm.MethodName)) ∈ lw_all := lw_g (lw_at lw_m1 230 rfl) rfl
theorem q248 : (Jvm.Cond.selects "ChainUndoModel" ({ cls := "ChainUndoModel", name := "amount", desc := "(I)I" } : Jvm.MethodName) ({ cls := "ChainUndoModel", name := "amount", desc := "(I)I" } : Jvm.MethodName)) ∈ lw_all := lw_g (lw_at lw_m1 231 rfl) rfl
theorem q249 : (Jvm.Cond.code ({ cls := "ChainUndoModel", name := "amount", desc := "(I)I" } : Jvm.MethodName) prog_3_method_14_code (2 : Nat) (Option.some Jvm.ClassFile.FieldType.int)) ∈ lw_all := lw_g (lw_at lw_m1 232 rfl) rfl
theorem q251 : (Jvm.Cond.instanceMethod ({ cls := "ChainUndoModel", name := "balance", desc := "(I)J" } : Jvm.MethodName)) ∈ lw_all := lw_g (lw_at lw_m1 234 rfl) rfl
theorem q252 : (Jvm.Cond.selects "ChainUndoModel" ({ cls := "ChainUndoModel", name := "balance", desc := "(I)J" } : Jvm.MethodName) ({ cls := "ChainUndoModel", name := "balance", desc := "(I)J" } : Jvm.MethodName)) ∈ lw_all := lw_g (lw_at lw_m1 235 rfl) rfl
theorem q253 : (Jvm.Cond.code ({ cls := "ChainUndoModel", name := "balance", desc := "(I)J" } : Jvm.MethodName) prog_3_method_15_code (5 : Nat) (Option.some Jvm.ClassFile.FieldType.long)) ∈ lw_all := lw_g (lw_at lw_m1 236 rfl) rfl
theorem q255 : (Jvm.Cond.instanceMethod ({ cls := "ChainUndoModel", name := "coins", desc := "()I" } : Jvm.MethodName)) ∈ lw_all := lw_g (lw_at lw_m1 238 rfl) rfl
theorem q256 : (Jvm.Cond.selects "ChainUndoModel" ({ cls := "ChainUndoModel", name := "coins", desc := "()I" } : Jvm.MethodName) ({ cls := "ChainUndoModel", name := "coins", desc := "()I" } : Jvm.MethodName)) ∈ lw_all := lw_g (lw_at lw_m1 239 rfl) rfl
theorem q257 : (Jvm.Cond.code ({ cls := "ChainUndoModel", name := "coins", desc := "()I" } : Jvm.MethodName) prog_3_method_16_code (3 : Nat) (Option.some Jvm.ClassFile.FieldType.int)) ∈ lw_all := lw_g (lw_at lw_m2 0 rfl) rfl
theorem q259 : (Jvm.Cond.instanceMethod ({ cls := "ChainUndoModel", name := "meeting", desc := "(II)I" } : Jvm.MethodName)) ∈ lw_all := lw_g (lw_at lw_m2 2 rfl) rfl
theorem q260 : (Jvm.Cond.selects "ChainUndoModel" ({ cls := "ChainUndoModel", name := "meeting", desc := "(II)I" } : Jvm.MethodName) ({ cls := "ChainUndoModel", name := "meeting", desc := "(II)I" } : Jvm.MethodName)) ∈ lw_all := lw_g (lw_at lw_m2 3 rfl) rfl
theorem q261 : (Jvm.Cond.code ({ cls := "ChainUndoModel", name := "meeting", desc := "(II)I" } : Jvm.MethodName) prog_3_method_17_code (3 : Nat) (Option.some Jvm.ClassFile.FieldType.int)) ∈ lw_all := lw_g (lw_at lw_m2 4 rfl) rfl
theorem q263 : (Jvm.Cond.instanceMethod ({ cls := "ChainUndoModel", name := "undone", desc := "()I" } : Jvm.MethodName)) ∈ lw_all := lw_g (lw_at lw_m2 6 rfl) rfl
theorem q264 : (Jvm.Cond.selects "ChainUndoModel" ({ cls := "ChainUndoModel", name := "undone", desc := "()I" } : Jvm.MethodName) ({ cls := "ChainUndoModel", name := "undone", desc := "()I" } : Jvm.MethodName)) ∈ lw_all := lw_g (lw_at lw_m2 7 rfl) rfl
theorem q265 : (Jvm.Cond.code ({ cls := "ChainUndoModel", name := "undone", desc := "()I" } : Jvm.MethodName) prog_3_method_18_code (1 : Nat) (Option.some Jvm.ClassFile.FieldType.int)) ∈ lw_all := lw_g (lw_at lw_m2 8 rfl) rfl
theorem q267 : (Jvm.Cond.instanceMethod ({ cls := "ChainUndoModel", name := "fewestFor", desc := "(II)I" } : Jvm.MethodName)) ∈ lw_all := lw_g (lw_at lw_m2 10 rfl) rfl
theorem q268 : (Jvm.Cond.selects "ChainUndoModel" ({ cls := "ChainUndoModel", name := "fewestFor", desc := "(II)I" } : Jvm.MethodName) ({ cls := "ChainUndoModel", name := "fewestFor", desc := "(II)I" } : Jvm.MethodName)) ∈ lw_all := lw_g (lw_at lw_m2 11 rfl) rfl
theorem q269 : (Jvm.Cond.code ({ cls := "ChainUndoModel", name := "fewestFor", desc := "(II)I" } : Jvm.MethodName) prog_3_method_20_code (7 : Nat) (Option.some Jvm.ClassFile.FieldType.int)) ∈ lw_all := lw_g (lw_at lw_m2 12 rfl) rfl
theorem q270 : (Jvm.Cond.methodLink "ChainUndoModel" (62 : Nat) ({ cls := "ChainUndoModel", name := "greatest", desc := "(I)I" } : Jvm.MethodName)) ∈ lw_all := lw_g (lw_at lw_m2 13 rfl) rfl
theorem q271 : (Jvm.Cond.privateMethod ({ cls := "ChainUndoModel", name := "greatest", desc := "(I)I" } : Jvm.MethodName)) ∈ lw_tbl := lw_at lw_m2 14 rfl
theorem q272 : (Jvm.Cond.instanceMethod ({ cls := "ChainUndoModel", name := "greatest", desc := "(I)I" } : Jvm.MethodName)) ∈ lw_all := lw_g (lw_at lw_m2 15 rfl) rfl
theorem q273 : (Jvm.Cond.code ({ cls := "ChainUndoModel", name := "greatest", desc := "(I)I" } : Jvm.MethodName) prog_3_method_19_code (4 : Nat) (Option.some Jvm.ClassFile.FieldType.int)) ∈ lw_all := lw_g (lw_at lw_m2 16 rfl) rfl
theorem q275 : (Jvm.Cond.instanceMethod ({ cls := "ChainUndoModel", name := "forget", desc := "(I)I" } : Jvm.MethodName)) ∈ lw_all := lw_g (lw_at lw_m2 18 rfl) rfl
theorem q276 : (Jvm.Cond.selects "ChainUndoModel" ({ cls := "ChainUndoModel", name := "forget", desc := "(I)I" } : Jvm.MethodName) ({ cls := "ChainUndoModel", name := "forget", desc := "(I)I" } : Jvm.MethodName)) ∈ lw_all := lw_g (lw_at lw_m2 19 rfl) rfl
theorem q277 : (Jvm.Cond.code ({ cls := "ChainUndoModel", name := "forget", desc := "(I)I" } : Jvm.MethodName) prog_3_method_21_code (2 : Nat) (Option.some Jvm.ClassFile.FieldType.int)) ∈ lw_all := lw_g (lw_at lw_m2 20 rfl) rfl
theorem in_X1 : ∀ w ∈ wsX10, w ∈ lw_all := lw_in wsX10 [178, 180, 182, 184, 186, 188, 190, 192, 194] (by decide +kernel) (by decide +kernel)
end
section
/-! java/lang/Object -/
set_option maxRecDepth 100000
def RJ0 : String := "java/lang/Object"
abbrev cJ0_init : ByteArray := object_method_1_code
def yJ0_init : MethodName := ⟨RJ0, "<init>", "()V"⟩
theorem dJ0_init_0 : decode cJ0_init 0 = .ok (.return_, 1) := by decide +kernel
theorem q26 : (Jvm.Cond.instanceMethod ({ cls := "java/lang/Object", name := "<init>", desc := "()V" } : Jvm.MethodName)) ∈ lw_all := lw_g (lw_at lw_m1 9 rfl) rfl
theorem q27 : (Jvm.Cond.code ({ cls := "java/lang/Object", name := "<init>", desc := "()V" } : Jvm.MethodName) object_method_1_code (1 : Nat) (Option.none : Option Jvm.ClassFile.FieldType)) ∈ lw_all := lw_g (lw_at lw_m1 10 rfl) rfl

theorem q68 : (Jvm.Cond.arrayClass Jvm.ClassFile.FieldType.byte) ∈ lw_all := lw_g (lw_at lw_m1 51 rfl) rfl
set_option maxRecDepth 100000
theorem q69 : (Jvm.Cond.arrayClass Jvm.ClassFile.FieldType.int) ∈ lw_all := lw_g (lw_at lw_m1 52 rfl) rfl
theorem q70 : (Jvm.Cond.arrayClass Jvm.ClassFile.FieldType.long) ∈ lw_all := lw_g (lw_at lw_m1 53 rfl) rfl
theorem q197 : (Jvm.Cond.arrayClass Jvm.ClassFile.FieldType.boolean) ∈ lw_all := lw_g (lw_at lw_m1 180 rfl) rfl

theorem q17 : (Jvm.Cond.initialized "ChainUndoLaw") ∈ lw_all := lw_g (lw_at lw_m1 0 rfl) rfl
set_option maxRecDepth 100000
theorem q20 : (Jvm.Cond.classLink "ChainUndoLaw" (7 : Nat) "ChainUndo") ∈ lw_all := lw_g (lw_at lw_m1 3 rfl) rfl
theorem q22 : (Jvm.Cond.methodLink "ChainUndoLaw" (9 : Nat) ({ cls := "ChainUndo", name := "<init>", desc := "()V" } : Jvm.MethodName)) ∈ lw_all := lw_g (lw_at lw_m1 5 rfl) rfl
theorem q71 : (Jvm.Cond.methodLink "ChainUndoLaw" (13 : Nat) ({ cls := "ChainUndo", name := "mint", desc := "(III)I" } : Jvm.MethodName)) ∈ lw_all := lw_g (lw_at lw_m1 54 rfl) rfl
theorem q107 : (Jvm.Cond.methodLink "ChainUndoLaw" (18 : Nat) ({ cls := "ChainUndo", name := "pay", desc := "(IIII)I" } : Jvm.MethodName)) ∈ lw_all := lw_g (lw_at lw_m1 90 rfl) rfl
theorem q115 : (Jvm.Cond.methodLink "ChainUndoLaw" (23 : Nat) ({ cls := "ChainUndo", name := "blocks", desc := "()I" } : Jvm.MethodName)) ∈ lw_all := lw_g (lw_at lw_m1 98 rfl) rfl
theorem q119 : (Jvm.Cond.methodLink "ChainUndoLaw" (28 : Nat) ({ cls := "ChainUndo", name := "tip", desc := "()I" } : Jvm.MethodName)) ∈ lw_all := lw_g (lw_at lw_m1 102 rfl) rfl
theorem q123 : (Jvm.Cond.methodLink "ChainUndoLaw" (32 : Nat) ({ cls := "ChainUndo", name := "height", desc := "(I)I" } : Jvm.MethodName)) ∈ lw_all := lw_g (lw_at lw_m1 106 rfl) rfl
theorem q127 : (Jvm.Cond.methodLink "ChainUndoLaw" (37 : Nat) ({ cls := "ChainUndo", name := "unspent", desc := "(I)Z" } : Jvm.MethodName)) ∈ lw_all := lw_g (lw_at lw_m1 110 rfl) rfl
theorem q131 : (Jvm.Cond.methodLink "ChainUndoLaw" (42 : Nat) ({ cls := "ChainUndo", name := "amount", desc := "(I)I" } : Jvm.MethodName)) ∈ lw_all := lw_g (lw_at lw_m1 114 rfl) rfl
theorem q135 : (Jvm.Cond.methodLink "ChainUndoLaw" (46 : Nat) ({ cls := "ChainUndo", name := "balance", desc := "(I)J" } : Jvm.MethodName)) ∈ lw_all := lw_g (lw_at lw_m1 118 rfl) rfl
theorem q139 : (Jvm.Cond.methodLink "ChainUndoLaw" (51 : Nat) ({ cls := "ChainUndo", name := "coins", desc := "()I" } : Jvm.MethodName)) ∈ lw_all := lw_g (lw_at lw_m1 122 rfl) rfl
theorem q143 : (Jvm.Cond.methodLink "ChainUndoLaw" (55 : Nat) ({ cls := "ChainUndo", name := "meeting", desc := "(II)I" } : Jvm.MethodName)) ∈ lw_all := lw_g (lw_at lw_m1 126 rfl) rfl
theorem q147 : (Jvm.Cond.methodLink "ChainUndoLaw" (60 : Nat) ({ cls := "ChainUndo", name := "undone", desc := "()I" } : Jvm.MethodName)) ∈ lw_all := lw_g (lw_at lw_m1 130 rfl) rfl
theorem q151 : (Jvm.Cond.methodLink "ChainUndoLaw" (64 : Nat) ({ cls := "ChainUndo", name := "fewestFor", desc := "(II)I" } : Jvm.MethodName)) ∈ lw_all := lw_g (lw_at lw_m1 134 rfl) rfl
theorem q159 : (Jvm.Cond.methodLink "ChainUndoLaw" (68 : Nat) ({ cls := "ChainUndo", name := "forget", desc := "(I)I" } : Jvm.MethodName)) ∈ lw_all := lw_g (lw_at lw_m1 142 rfl) rfl
theorem q163 : (Jvm.Cond.classLink "ChainUndoLaw" (10 : Nat) "ChainUndoModel") ∈ lw_all := lw_g (lw_at lw_m1 146 rfl) rfl
theorem q165 : (Jvm.Cond.methodLink "ChainUndoLaw" (12 : Nat) ({ cls := "ChainUndoModel", name := "<init>", desc := "()V" } : Jvm.MethodName)) ∈ lw_all := lw_g (lw_at lw_m1 148 rfl) rfl
theorem q198 : (Jvm.Cond.methodLink "ChainUndoLaw" (17 : Nat) ({ cls := "ChainUndoModel", name := "mint", desc := "(III)I" } : Jvm.MethodName)) ∈ lw_all := lw_g (lw_at lw_m1 181 rfl) rfl
theorem q222 : (Jvm.Cond.methodLink "ChainUndoLaw" (22 : Nat) ({ cls := "ChainUndoModel", name := "pay", desc := "(IIII)I" } : Jvm.MethodName)) ∈ lw_all := lw_g (lw_at lw_m1 205 rfl) rfl
theorem q230 : (Jvm.Cond.methodLink "ChainUndoLaw" (27 : Nat) ({ cls := "ChainUndoModel", name := "blocks", desc := "()I" } : Jvm.MethodName)) ∈ lw_all := lw_g (lw_at lw_m1 213 rfl) rfl
theorem q234 : (Jvm.Cond.methodLink "ChainUndoLaw" (31 : Nat) ({ cls := "ChainUndoModel", name := "tip", desc := "()I" } : Jvm.MethodName)) ∈ lw_all := lw_g (lw_at lw_m1 217 rfl) rfl
theorem q238 : (Jvm.Cond.methodLink "ChainUndoLaw" (36 : Nat) ({ cls := "ChainUndoModel", name := "height", desc := "(I)I" } : Jvm.MethodName)) ∈ lw_all := lw_g (lw_at lw_m1 221 rfl) rfl
theorem q242 : (Jvm.Cond.methodLink "ChainUndoLaw" (41 : Nat) ({ cls := "ChainUndoModel", name := "unspent", desc := "(I)Z" } : Jvm.MethodName)) ∈ lw_all := lw_g (lw_at lw_m1 225 rfl) rfl
theorem q246 : (Jvm.Cond.methodLink "ChainUndoLaw" (45 : Nat) ({ cls := "ChainUndoModel", name := "amount", desc := "(I)I" } : Jvm.MethodName)) ∈ lw_all := lw_g (lw_at lw_m1 229 rfl) rfl
theorem q250 : (Jvm.Cond.methodLink "ChainUndoLaw" (50 : Nat) ({ cls := "ChainUndoModel", name := "balance", desc := "(I)J" } : Jvm.MethodName)) ∈ lw_all := lw_g (lw_at lw_m1 233 rfl) rfl
theorem q254 : (Jvm.Cond.methodLink "ChainUndoLaw" (54 : Nat) ({ cls := "ChainUndoModel", name := "coins", desc := "()I" } : Jvm.MethodName)) ∈ lw_all := lw_g (lw_at lw_m1 237 rfl) rfl
theorem q258 : (Jvm.Cond.methodLink "ChainUndoLaw" (59 : Nat) ({ cls := "ChainUndoModel", name := "meeting", desc := "(II)I" } : Jvm.MethodName)) ∈ lw_all := lw_g (lw_at lw_m2 1 rfl) rfl
theorem q262 : (Jvm.Cond.methodLink "ChainUndoLaw" (63 : Nat) ({ cls := "ChainUndoModel", name := "undone", desc := "()I" } : Jvm.MethodName)) ∈ lw_all := lw_g (lw_at lw_m2 5 rfl) rfl
theorem q266 : (Jvm.Cond.methodLink "ChainUndoLaw" (67 : Nat) ({ cls := "ChainUndoModel", name := "fewestFor", desc := "(II)I" } : Jvm.MethodName)) ∈ lw_all := lw_g (lw_at lw_m2 9 rfl) rfl
theorem q274 : (Jvm.Cond.methodLink "ChainUndoLaw" (71 : Nat) ({ cls := "ChainUndoModel", name := "forget", desc := "(I)I" } : Jvm.MethodName)) ∈ lw_all := lw_g (lw_at lw_m2 17 rfl) rfl

/-! the law's own entry -/
set_option maxRecDepth 100000
abbrev cL_law : ByteArray := code
theorem dL_law_0 : decode cL_law 0 = .ok (.new 7, 3) := by decide +kernel
theorem dL_law_3 : decode cL_law 3 = .ok (.dup, 1) := by decide +kernel
theorem dL_law_4 : decode cL_law 4 = .ok (.invokespecial 9, 3) := by decide +kernel
theorem dL_law_7 : decode cL_law 7 = .ok (.astore_n 1, 1) := by decide +kernel
theorem dL_law_8 : decode cL_law 8 = .ok (.new 10, 3) := by decide +kernel
theorem dL_law_11 : decode cL_law 11 = .ok (.dup, 1) := by decide +kernel
theorem dL_law_12 : decode cL_law 12 = .ok (.invokespecial 12, 3) := by decide +kernel
theorem dL_law_15 : decode cL_law 15 = .ok (.astore_n 2, 1) := by decide +kernel
theorem dL_law_16 : decode cL_law 16 = .ok (.iconst 0, 1) := by decide +kernel
theorem dL_law_17 : decode cL_law 17 = .ok (.istore_n 3, 1) := by decide +kernel
theorem dL_law_18 : decode cL_law 18 = .ok (.iload_n 3, 1) := by decide +kernel
theorem dL_law_19 : decode cL_law 19 = .ok (.aload_n 0, 1) := by decide +kernel
theorem dL_law_20 : decode cL_law 20 = .ok (.arraylength, 1) := by decide +kernel
theorem dL_law_21 : decode cL_law 21 = .ok (.iconst 5, 1) := by decide +kernel
theorem dL_law_22 : decode cL_law 22 = .ok (.isub, 1) := by decide +kernel
theorem dL_law_23 : decode cL_law 23 = .ok (.if_icmp .gt 413, 3) := by decide +kernel
theorem dL_law_26 : decode cL_law 26 = .ok (.aload_n 0, 1) := by decide +kernel
theorem dL_law_27 : decode cL_law 27 = .ok (.iload_n 3, 1) := by decide +kernel
theorem dL_law_28 : decode cL_law 28 = .ok (.iaload, 1) := by decide +kernel
theorem dL_law_29 : decode cL_law 29 = .ok (.bipush 15, 2) := by decide +kernel
theorem dL_law_31 : decode cL_law 31 = .ok (.iand, 1) := by decide +kernel
theorem dL_law_32 : decode cL_law 32 = .ok (.tableswitch 398 0 12 #[68, 111, 164, 177, 190, 213, 236, 259, 283, 296, 329, 342, 375], 68) := by decide +kernel
theorem dL_law_100 : decode cL_law 100 = .ok (.aload_n 1, 1) := by decide +kernel
theorem dL_law_101 : decode cL_law 101 = .ok (.aload_n 0, 1) := by decide +kernel
theorem dL_law_102 : decode cL_law 102 = .ok (.iload_n 3, 1) := by decide +kernel
theorem dL_law_103 : decode cL_law 103 = .ok (.iconst 1, 1) := by decide +kernel
theorem dL_law_104 : decode cL_law 104 = .ok (.iadd, 1) := by decide +kernel
theorem dL_law_105 : decode cL_law 105 = .ok (.iaload, 1) := by decide +kernel
theorem dL_law_106 : decode cL_law 106 = .ok (.aload_n 0, 1) := by decide +kernel
theorem dL_law_107 : decode cL_law 107 = .ok (.iload_n 3, 1) := by decide +kernel
theorem dL_law_108 : decode cL_law 108 = .ok (.iconst 2, 1) := by decide +kernel
theorem dL_law_109 : decode cL_law 109 = .ok (.iadd, 1) := by decide +kernel
theorem dL_law_110 : decode cL_law 110 = .ok (.iaload, 1) := by decide +kernel
theorem dL_law_111 : decode cL_law 111 = .ok (.aload_n 0, 1) := by decide +kernel
theorem dL_law_112 : decode cL_law 112 = .ok (.iload_n 3, 1) := by decide +kernel
theorem dL_law_113 : decode cL_law 113 = .ok (.iconst 3, 1) := by decide +kernel
theorem dL_law_114 : decode cL_law 114 = .ok (.iadd, 1) := by decide +kernel
theorem dL_law_115 : decode cL_law 115 = .ok (.iaload, 1) := by decide +kernel
theorem dL_law_116 : decode cL_law 116 = .ok (.invokevirtual 13, 3) := by decide +kernel
theorem dL_law_119 : decode cL_law 119 = .ok (.aload_n 2, 1) := by decide +kernel
theorem dL_law_120 : decode cL_law 120 = .ok (.aload_n 0, 1) := by decide +kernel
theorem dL_law_121 : decode cL_law 121 = .ok (.iload_n 3, 1) := by decide +kernel
theorem dL_law_122 : decode cL_law 122 = .ok (.iconst 1, 1) := by decide +kernel
theorem dL_law_123 : decode cL_law 123 = .ok (.iadd, 1) := by decide +kernel
theorem dL_law_124 : decode cL_law 124 = .ok (.iaload, 1) := by decide +kernel
theorem dL_law_125 : decode cL_law 125 = .ok (.aload_n 0, 1) := by decide +kernel
theorem dL_law_126 : decode cL_law 126 = .ok (.iload_n 3, 1) := by decide +kernel
theorem dL_law_127 : decode cL_law 127 = .ok (.iconst 2, 1) := by decide +kernel
theorem dL_law_128 : decode cL_law 128 = .ok (.iadd, 1) := by decide +kernel
theorem dL_law_129 : decode cL_law 129 = .ok (.iaload, 1) := by decide +kernel
theorem dL_law_130 : decode cL_law 130 = .ok (.aload_n 0, 1) := by decide +kernel
theorem dL_law_131 : decode cL_law 131 = .ok (.iload_n 3, 1) := by decide +kernel
theorem dL_law_132 : decode cL_law 132 = .ok (.iconst 3, 1) := by decide +kernel
theorem dL_law_133 : decode cL_law 133 = .ok (.iadd, 1) := by decide +kernel
theorem dL_law_134 : decode cL_law 134 = .ok (.iaload, 1) := by decide +kernel
theorem dL_law_135 : decode cL_law 135 = .ok (.invokevirtual 17, 3) := by decide +kernel
theorem dL_law_138 : decode cL_law 138 = .ok (.if_icmp .eq 292, 3) := by decide +kernel
theorem dL_law_141 : decode cL_law 141 = .ok (.iconst 0, 1) := by decide +kernel
theorem dL_law_142 : decode cL_law 142 = .ok (.ireturn, 1) := by decide +kernel
theorem dL_law_143 : decode cL_law 143 = .ok (.aload_n 1, 1) := by decide +kernel
theorem dL_law_144 : decode cL_law 144 = .ok (.aload_n 0, 1) := by decide +kernel
theorem dL_law_145 : decode cL_law 145 = .ok (.iload_n 3, 1) := by decide +kernel
theorem dL_law_146 : decode cL_law 146 = .ok (.iconst 1, 1) := by decide +kernel
theorem dL_law_147 : decode cL_law 147 = .ok (.iadd, 1) := by decide +kernel
theorem dL_law_148 : decode cL_law 148 = .ok (.iaload, 1) := by decide +kernel
theorem dL_law_149 : decode cL_law 149 = .ok (.aload_n 0, 1) := by decide +kernel
theorem dL_law_150 : decode cL_law 150 = .ok (.iload_n 3, 1) := by decide +kernel
theorem dL_law_151 : decode cL_law 151 = .ok (.iconst 2, 1) := by decide +kernel
theorem dL_law_152 : decode cL_law 152 = .ok (.iadd, 1) := by decide +kernel
theorem dL_law_153 : decode cL_law 153 = .ok (.iaload, 1) := by decide +kernel
theorem dL_law_154 : decode cL_law 154 = .ok (.aload_n 0, 1) := by decide +kernel
theorem dL_law_155 : decode cL_law 155 = .ok (.iload_n 3, 1) := by decide +kernel
theorem dL_law_156 : decode cL_law 156 = .ok (.iconst 3, 1) := by decide +kernel
theorem dL_law_157 : decode cL_law 157 = .ok (.iadd, 1) := by decide +kernel
theorem dL_law_158 : decode cL_law 158 = .ok (.iaload, 1) := by decide +kernel
theorem dL_law_159 : decode cL_law 159 = .ok (.aload_n 0, 1) := by decide +kernel
theorem dL_law_160 : decode cL_law 160 = .ok (.iload_n 3, 1) := by decide +kernel
theorem dL_law_161 : decode cL_law 161 = .ok (.iconst 4, 1) := by decide +kernel
theorem dL_law_162 : decode cL_law 162 = .ok (.iadd, 1) := by decide +kernel
theorem dL_law_163 : decode cL_law 163 = .ok (.iaload, 1) := by decide +kernel
theorem dL_law_164 : decode cL_law 164 = .ok (.invokevirtual 18, 3) := by decide +kernel
theorem dL_law_167 : decode cL_law 167 = .ok (.aload_n 2, 1) := by decide +kernel
theorem dL_law_168 : decode cL_law 168 = .ok (.aload_n 0, 1) := by decide +kernel
theorem dL_law_169 : decode cL_law 169 = .ok (.iload_n 3, 1) := by decide +kernel
theorem dL_law_170 : decode cL_law 170 = .ok (.iconst 1, 1) := by decide +kernel
theorem dL_law_171 : decode cL_law 171 = .ok (.iadd, 1) := by decide +kernel
theorem dL_law_172 : decode cL_law 172 = .ok (.iaload, 1) := by decide +kernel
theorem dL_law_173 : decode cL_law 173 = .ok (.aload_n 0, 1) := by decide +kernel
theorem dL_law_174 : decode cL_law 174 = .ok (.iload_n 3, 1) := by decide +kernel
theorem dL_law_175 : decode cL_law 175 = .ok (.iconst 2, 1) := by decide +kernel
theorem dL_law_176 : decode cL_law 176 = .ok (.iadd, 1) := by decide +kernel
theorem dL_law_177 : decode cL_law 177 = .ok (.iaload, 1) := by decide +kernel
theorem dL_law_178 : decode cL_law 178 = .ok (.aload_n 0, 1) := by decide +kernel
theorem dL_law_179 : decode cL_law 179 = .ok (.iload_n 3, 1) := by decide +kernel
theorem dL_law_180 : decode cL_law 180 = .ok (.iconst 3, 1) := by decide +kernel
theorem dL_law_181 : decode cL_law 181 = .ok (.iadd, 1) := by decide +kernel
theorem dL_law_182 : decode cL_law 182 = .ok (.iaload, 1) := by decide +kernel
theorem dL_law_183 : decode cL_law 183 = .ok (.aload_n 0, 1) := by decide +kernel
theorem dL_law_184 : decode cL_law 184 = .ok (.iload_n 3, 1) := by decide +kernel
theorem dL_law_185 : decode cL_law 185 = .ok (.iconst 4, 1) := by decide +kernel
theorem dL_law_186 : decode cL_law 186 = .ok (.iadd, 1) := by decide +kernel
theorem dL_law_187 : decode cL_law 187 = .ok (.iaload, 1) := by decide +kernel
theorem dL_law_188 : decode cL_law 188 = .ok (.invokevirtual 22, 3) := by decide +kernel
theorem dL_law_191 : decode cL_law 191 = .ok (.if_icmp .eq 239, 3) := by decide +kernel
theorem dL_law_194 : decode cL_law 194 = .ok (.iconst 0, 1) := by decide +kernel
theorem dL_law_195 : decode cL_law 195 = .ok (.ireturn, 1) := by decide +kernel
theorem dL_law_196 : decode cL_law 196 = .ok (.aload_n 1, 1) := by decide +kernel
theorem dL_law_197 : decode cL_law 197 = .ok (.invokevirtual 23, 3) := by decide +kernel
theorem dL_law_200 : decode cL_law 200 = .ok (.aload_n 2, 1) := by decide +kernel
theorem dL_law_201 : decode cL_law 201 = .ok (.invokevirtual 27, 3) := by decide +kernel
theorem dL_law_204 : decode cL_law 204 = .ok (.if_icmp .eq 226, 3) := by decide +kernel
theorem dL_law_207 : decode cL_law 207 = .ok (.iconst 0, 1) := by decide +kernel
theorem dL_law_208 : decode cL_law 208 = .ok (.ireturn, 1) := by decide +kernel
theorem dL_law_209 : decode cL_law 209 = .ok (.aload_n 1, 1) := by decide +kernel
theorem dL_law_210 : decode cL_law 210 = .ok (.invokevirtual 28, 3) := by decide +kernel
theorem dL_law_213 : decode cL_law 213 = .ok (.aload_n 2, 1) := by decide +kernel
theorem dL_law_214 : decode cL_law 214 = .ok (.invokevirtual 31, 3) := by decide +kernel
theorem dL_law_217 : decode cL_law 217 = .ok (.if_icmp .eq 213, 3) := by decide +kernel
theorem dL_law_220 : decode cL_law 220 = .ok (.iconst 0, 1) := by decide +kernel
theorem dL_law_221 : decode cL_law 221 = .ok (.ireturn, 1) := by decide +kernel
theorem dL_law_222 : decode cL_law 222 = .ok (.aload_n 1, 1) := by decide +kernel
theorem dL_law_223 : decode cL_law 223 = .ok (.aload_n 0, 1) := by decide +kernel
theorem dL_law_224 : decode cL_law 224 = .ok (.iload_n 3, 1) := by decide +kernel
theorem dL_law_225 : decode cL_law 225 = .ok (.iconst 1, 1) := by decide +kernel
theorem dL_law_226 : decode cL_law 226 = .ok (.iadd, 1) := by decide +kernel
theorem dL_law_227 : decode cL_law 227 = .ok (.iaload, 1) := by decide +kernel
theorem dL_law_228 : decode cL_law 228 = .ok (.invokevirtual 32, 3) := by decide +kernel
theorem dL_law_231 : decode cL_law 231 = .ok (.aload_n 2, 1) := by decide +kernel
theorem dL_law_232 : decode cL_law 232 = .ok (.aload_n 0, 1) := by decide +kernel
theorem dL_law_233 : decode cL_law 233 = .ok (.iload_n 3, 1) := by decide +kernel
theorem dL_law_234 : decode cL_law 234 = .ok (.iconst 1, 1) := by decide +kernel
theorem dL_law_235 : decode cL_law 235 = .ok (.iadd, 1) := by decide +kernel
theorem dL_law_236 : decode cL_law 236 = .ok (.iaload, 1) := by decide +kernel
theorem dL_law_237 : decode cL_law 237 = .ok (.invokevirtual 36, 3) := by decide +kernel
theorem dL_law_240 : decode cL_law 240 = .ok (.if_icmp .eq 190, 3) := by decide +kernel
theorem dL_law_243 : decode cL_law 243 = .ok (.iconst 0, 1) := by decide +kernel
theorem dL_law_244 : decode cL_law 244 = .ok (.ireturn, 1) := by decide +kernel
theorem dL_law_245 : decode cL_law 245 = .ok (.aload_n 1, 1) := by decide +kernel
theorem dL_law_246 : decode cL_law 246 = .ok (.aload_n 0, 1) := by decide +kernel
theorem dL_law_247 : decode cL_law 247 = .ok (.iload_n 3, 1) := by decide +kernel
theorem dL_law_248 : decode cL_law 248 = .ok (.iconst 1, 1) := by decide +kernel
theorem dL_law_249 : decode cL_law 249 = .ok (.iadd, 1) := by decide +kernel
theorem dL_law_250 : decode cL_law 250 = .ok (.iaload, 1) := by decide +kernel
theorem dL_law_251 : decode cL_law 251 = .ok (.invokevirtual 37, 3) := by decide +kernel
theorem dL_law_254 : decode cL_law 254 = .ok (.aload_n 2, 1) := by decide +kernel
theorem dL_law_255 : decode cL_law 255 = .ok (.aload_n 0, 1) := by decide +kernel
theorem dL_law_256 : decode cL_law 256 = .ok (.iload_n 3, 1) := by decide +kernel
theorem dL_law_257 : decode cL_law 257 = .ok (.iconst 1, 1) := by decide +kernel
theorem dL_law_258 : decode cL_law 258 = .ok (.iadd, 1) := by decide +kernel
theorem dL_law_259 : decode cL_law 259 = .ok (.iaload, 1) := by decide +kernel
theorem dL_law_260 : decode cL_law 260 = .ok (.invokevirtual 41, 3) := by decide +kernel
theorem dL_law_263 : decode cL_law 263 = .ok (.if_icmp .eq 167, 3) := by decide +kernel
theorem dL_law_266 : decode cL_law 266 = .ok (.iconst 0, 1) := by decide +kernel
theorem dL_law_267 : decode cL_law 267 = .ok (.ireturn, 1) := by decide +kernel
theorem dL_law_268 : decode cL_law 268 = .ok (.aload_n 1, 1) := by decide +kernel
theorem dL_law_269 : decode cL_law 269 = .ok (.aload_n 0, 1) := by decide +kernel
theorem dL_law_270 : decode cL_law 270 = .ok (.iload_n 3, 1) := by decide +kernel
theorem dL_law_271 : decode cL_law 271 = .ok (.iconst 1, 1) := by decide +kernel
theorem dL_law_272 : decode cL_law 272 = .ok (.iadd, 1) := by decide +kernel
theorem dL_law_273 : decode cL_law 273 = .ok (.iaload, 1) := by decide +kernel
theorem dL_law_274 : decode cL_law 274 = .ok (.invokevirtual 42, 3) := by decide +kernel
theorem dL_law_277 : decode cL_law 277 = .ok (.aload_n 2, 1) := by decide +kernel
theorem dL_law_278 : decode cL_law 278 = .ok (.aload_n 0, 1) := by decide +kernel
theorem dL_law_279 : decode cL_law 279 = .ok (.iload_n 3, 1) := by decide +kernel
theorem dL_law_280 : decode cL_law 280 = .ok (.iconst 1, 1) := by decide +kernel
theorem dL_law_281 : decode cL_law 281 = .ok (.iadd, 1) := by decide +kernel
theorem dL_law_282 : decode cL_law 282 = .ok (.iaload, 1) := by decide +kernel
theorem dL_law_283 : decode cL_law 283 = .ok (.invokevirtual 45, 3) := by decide +kernel
theorem dL_law_286 : decode cL_law 286 = .ok (.if_icmp .eq 144, 3) := by decide +kernel
theorem dL_law_289 : decode cL_law 289 = .ok (.iconst 0, 1) := by decide +kernel
theorem dL_law_290 : decode cL_law 290 = .ok (.ireturn, 1) := by decide +kernel
theorem dL_law_291 : decode cL_law 291 = .ok (.aload_n 1, 1) := by decide +kernel
theorem dL_law_292 : decode cL_law 292 = .ok (.aload_n 0, 1) := by decide +kernel
theorem dL_law_293 : decode cL_law 293 = .ok (.iload_n 3, 1) := by decide +kernel
theorem dL_law_294 : decode cL_law 294 = .ok (.iconst 1, 1) := by decide +kernel
theorem dL_law_295 : decode cL_law 295 = .ok (.iadd, 1) := by decide +kernel
theorem dL_law_296 : decode cL_law 296 = .ok (.iaload, 1) := by decide +kernel
theorem dL_law_297 : decode cL_law 297 = .ok (.invokevirtual 46, 3) := by decide +kernel
theorem dL_law_300 : decode cL_law 300 = .ok (.aload_n 2, 1) := by decide +kernel
theorem dL_law_301 : decode cL_law 301 = .ok (.aload_n 0, 1) := by decide +kernel
theorem dL_law_302 : decode cL_law 302 = .ok (.iload_n 3, 1) := by decide +kernel
theorem dL_law_303 : decode cL_law 303 = .ok (.iconst 1, 1) := by decide +kernel
theorem dL_law_304 : decode cL_law 304 = .ok (.iadd, 1) := by decide +kernel
theorem dL_law_305 : decode cL_law 305 = .ok (.iaload, 1) := by decide +kernel
theorem dL_law_306 : decode cL_law 306 = .ok (.invokevirtual 50, 3) := by decide +kernel
theorem dL_law_309 : decode cL_law 309 = .ok (.lcmp, 1) := by decide +kernel
theorem dL_law_310 : decode cL_law 310 = .ok (.ifCond .eq 120, 3) := by decide +kernel
theorem dL_law_313 : decode cL_law 313 = .ok (.iconst 0, 1) := by decide +kernel
theorem dL_law_314 : decode cL_law 314 = .ok (.ireturn, 1) := by decide +kernel
theorem dL_law_315 : decode cL_law 315 = .ok (.aload_n 1, 1) := by decide +kernel
theorem dL_law_316 : decode cL_law 316 = .ok (.invokevirtual 51, 3) := by decide +kernel
theorem dL_law_319 : decode cL_law 319 = .ok (.aload_n 2, 1) := by decide +kernel
theorem dL_law_320 : decode cL_law 320 = .ok (.invokevirtual 54, 3) := by decide +kernel
theorem dL_law_323 : decode cL_law 323 = .ok (.if_icmp .eq 107, 3) := by decide +kernel
theorem dL_law_326 : decode cL_law 326 = .ok (.iconst 0, 1) := by decide +kernel
theorem dL_law_327 : decode cL_law 327 = .ok (.ireturn, 1) := by decide +kernel
theorem dL_law_328 : decode cL_law 328 = .ok (.aload_n 1, 1) := by decide +kernel
theorem dL_law_329 : decode cL_law 329 = .ok (.aload_n 0, 1) := by decide +kernel
theorem dL_law_330 : decode cL_law 330 = .ok (.iload_n 3, 1) := by decide +kernel
theorem dL_law_331 : decode cL_law 331 = .ok (.iconst 1, 1) := by decide +kernel
theorem dL_law_332 : decode cL_law 332 = .ok (.iadd, 1) := by decide +kernel
theorem dL_law_333 : decode cL_law 333 = .ok (.iaload, 1) := by decide +kernel
theorem dL_law_334 : decode cL_law 334 = .ok (.aload_n 0, 1) := by decide +kernel
theorem dL_law_335 : decode cL_law 335 = .ok (.iload_n 3, 1) := by decide +kernel
theorem dL_law_336 : decode cL_law 336 = .ok (.iconst 2, 1) := by decide +kernel
theorem dL_law_337 : decode cL_law 337 = .ok (.iadd, 1) := by decide +kernel
theorem dL_law_338 : decode cL_law 338 = .ok (.iaload, 1) := by decide +kernel
theorem dL_law_339 : decode cL_law 339 = .ok (.invokevirtual 55, 3) := by decide +kernel
theorem dL_law_342 : decode cL_law 342 = .ok (.aload_n 2, 1) := by decide +kernel
theorem dL_law_343 : decode cL_law 343 = .ok (.aload_n 0, 1) := by decide +kernel
theorem dL_law_344 : decode cL_law 344 = .ok (.iload_n 3, 1) := by decide +kernel
theorem dL_law_345 : decode cL_law 345 = .ok (.iconst 1, 1) := by decide +kernel
theorem dL_law_346 : decode cL_law 346 = .ok (.iadd, 1) := by decide +kernel
theorem dL_law_347 : decode cL_law 347 = .ok (.iaload, 1) := by decide +kernel
theorem dL_law_348 : decode cL_law 348 = .ok (.aload_n 0, 1) := by decide +kernel
theorem dL_law_349 : decode cL_law 349 = .ok (.iload_n 3, 1) := by decide +kernel
theorem dL_law_350 : decode cL_law 350 = .ok (.iconst 2, 1) := by decide +kernel
theorem dL_law_351 : decode cL_law 351 = .ok (.iadd, 1) := by decide +kernel
theorem dL_law_352 : decode cL_law 352 = .ok (.iaload, 1) := by decide +kernel
theorem dL_law_353 : decode cL_law 353 = .ok (.invokevirtual 59, 3) := by decide +kernel
theorem dL_law_356 : decode cL_law 356 = .ok (.if_icmp .eq 74, 3) := by decide +kernel
theorem dL_law_359 : decode cL_law 359 = .ok (.iconst 0, 1) := by decide +kernel
theorem dL_law_360 : decode cL_law 360 = .ok (.ireturn, 1) := by decide +kernel
theorem dL_law_361 : decode cL_law 361 = .ok (.aload_n 1, 1) := by decide +kernel
theorem dL_law_362 : decode cL_law 362 = .ok (.invokevirtual 60, 3) := by decide +kernel
theorem dL_law_365 : decode cL_law 365 = .ok (.aload_n 2, 1) := by decide +kernel
theorem dL_law_366 : decode cL_law 366 = .ok (.invokevirtual 63, 3) := by decide +kernel
theorem dL_law_369 : decode cL_law 369 = .ok (.if_icmp .eq 61, 3) := by decide +kernel
theorem dL_law_372 : decode cL_law 372 = .ok (.iconst 0, 1) := by decide +kernel
theorem dL_law_373 : decode cL_law 373 = .ok (.ireturn, 1) := by decide +kernel
theorem dL_law_374 : decode cL_law 374 = .ok (.aload_n 1, 1) := by decide +kernel
theorem dL_law_375 : decode cL_law 375 = .ok (.aload_n 0, 1) := by decide +kernel
theorem dL_law_376 : decode cL_law 376 = .ok (.iload_n 3, 1) := by decide +kernel
theorem dL_law_377 : decode cL_law 377 = .ok (.iconst 1, 1) := by decide +kernel
theorem dL_law_378 : decode cL_law 378 = .ok (.iadd, 1) := by decide +kernel
theorem dL_law_379 : decode cL_law 379 = .ok (.iaload, 1) := by decide +kernel
theorem dL_law_380 : decode cL_law 380 = .ok (.aload_n 0, 1) := by decide +kernel
theorem dL_law_381 : decode cL_law 381 = .ok (.iload_n 3, 1) := by decide +kernel
theorem dL_law_382 : decode cL_law 382 = .ok (.iconst 2, 1) := by decide +kernel
theorem dL_law_383 : decode cL_law 383 = .ok (.iadd, 1) := by decide +kernel
theorem dL_law_384 : decode cL_law 384 = .ok (.iaload, 1) := by decide +kernel
theorem dL_law_385 : decode cL_law 385 = .ok (.invokevirtual 64, 3) := by decide +kernel
theorem dL_law_388 : decode cL_law 388 = .ok (.aload_n 2, 1) := by decide +kernel
theorem dL_law_389 : decode cL_law 389 = .ok (.aload_n 0, 1) := by decide +kernel
theorem dL_law_390 : decode cL_law 390 = .ok (.iload_n 3, 1) := by decide +kernel
theorem dL_law_391 : decode cL_law 391 = .ok (.iconst 1, 1) := by decide +kernel
theorem dL_law_392 : decode cL_law 392 = .ok (.iadd, 1) := by decide +kernel
theorem dL_law_393 : decode cL_law 393 = .ok (.iaload, 1) := by decide +kernel
theorem dL_law_394 : decode cL_law 394 = .ok (.aload_n 0, 1) := by decide +kernel
theorem dL_law_395 : decode cL_law 395 = .ok (.iload_n 3, 1) := by decide +kernel
theorem dL_law_396 : decode cL_law 396 = .ok (.iconst 2, 1) := by decide +kernel
theorem dL_law_397 : decode cL_law 397 = .ok (.iadd, 1) := by decide +kernel
theorem dL_law_398 : decode cL_law 398 = .ok (.iaload, 1) := by decide +kernel
theorem dL_law_399 : decode cL_law 399 = .ok (.invokevirtual 67, 3) := by decide +kernel
theorem dL_law_402 : decode cL_law 402 = .ok (.if_icmp .eq 28, 3) := by decide +kernel
theorem dL_law_405 : decode cL_law 405 = .ok (.iconst 0, 1) := by decide +kernel
theorem dL_law_406 : decode cL_law 406 = .ok (.ireturn, 1) := by decide +kernel
theorem dL_law_407 : decode cL_law 407 = .ok (.aload_n 1, 1) := by decide +kernel
theorem dL_law_408 : decode cL_law 408 = .ok (.aload_n 0, 1) := by decide +kernel
theorem dL_law_409 : decode cL_law 409 = .ok (.iload_n 3, 1) := by decide +kernel
theorem dL_law_410 : decode cL_law 410 = .ok (.iconst 1, 1) := by decide +kernel
theorem dL_law_411 : decode cL_law 411 = .ok (.iadd, 1) := by decide +kernel
theorem dL_law_412 : decode cL_law 412 = .ok (.iaload, 1) := by decide +kernel
theorem dL_law_413 : decode cL_law 413 = .ok (.invokevirtual 68, 3) := by decide +kernel
theorem dL_law_416 : decode cL_law 416 = .ok (.aload_n 2, 1) := by decide +kernel
theorem dL_law_417 : decode cL_law 417 = .ok (.aload_n 0, 1) := by decide +kernel
theorem dL_law_418 : decode cL_law 418 = .ok (.iload_n 3, 1) := by decide +kernel
theorem dL_law_419 : decode cL_law 419 = .ok (.iconst 1, 1) := by decide +kernel
theorem dL_law_420 : decode cL_law 420 = .ok (.iadd, 1) := by decide +kernel
theorem dL_law_421 : decode cL_law 421 = .ok (.iaload, 1) := by decide +kernel
theorem dL_law_422 : decode cL_law 422 = .ok (.invokevirtual 71, 3) := by decide +kernel
theorem dL_law_425 : decode cL_law 425 = .ok (.if_icmp .eq 5, 3) := by decide +kernel
theorem dL_law_428 : decode cL_law 428 = .ok (.iconst 0, 1) := by decide +kernel
theorem dL_law_429 : decode cL_law 429 = .ok (.ireturn, 1) := by decide +kernel
theorem dL_law_430 : decode cL_law 430 = .ok (.iinc 3 5, 3) := by decide +kernel
theorem dL_law_433 : decode cL_law 433 = .ok (.goto (-415), 3) := by decide +kernel
theorem dL_law_436 : decode cL_law 436 = .ok (.iconst 1, 1) := by decide +kernel
theorem dL_law_437 : decode cL_law 437 = .ok (.ireturn, 1) := by decide +kernel
end
section
/-! PURE: the tree of blocks (P: parents), the ledger of a block as a set (cu_Lg), the state's invariant (cu_OK) -/
/-- block a is in the branch of block b -/
def cu_An (P : Nat → Nat) (a b : Nat) : Bool := if a = b then true else if h : P b < b then cu_An P a (P b) else false
termination_by b
theorem cu_An_iff {P : Nat → Nat} {a b : Nat} : cu_An P a b = true ↔ a = b ∨ (P b < b ∧ cu_An P a (P b) = true) := by
  rw [cu_An]
  by_cases h1 : a = b
  · simp [h1]
  · by_cases h2 : P b < b
    · simp [h1, h2]
    · simp [h1, h2]
theorem cu_An_self (P : Nat → Nat) (b : Nat) : cu_An P b b = true := cu_An_iff.mpr (Or.inl rfl)
theorem cu_An_le {P : Nat → Nat} {a : Nat} : ∀ b, cu_An P a b = true → a ≤ b := by
  intro b
  induction b using Nat.strongRecOn with
  | _ b ih =>
    intro h
    rcases cu_An_iff.mp h with h | ⟨h1, h2⟩
    · omega
    · have := ih (P b) h1 h2
      omega
theorem cu_An_trans {P : Nat → Nat} {a b : Nat} (h1 : cu_An P a b = true) : ∀ c, cu_An P b c = true → cu_An P a c = true := by
  intro c
  induction c using Nat.strongRecOn with
  | _ c ih =>
    intro h2
    rcases cu_An_iff.mp h2 with h3 | ⟨h3, h4⟩
    · rw [← h3]; exact h1
    · exact cu_An_iff.mpr (Or.inr ⟨h3, ih (P c) h3 h4⟩)
theorem cu_An_loc {P Q : Nat → Nat} {a : Nat} : ∀ b, (∀ j, j ≤ b → P j = Q j) → cu_An P a b = cu_An Q a b := by
  intro b
  induction b using Nat.strongRecOn with
  | _ b ih =>
    intro h
    have hb := h b (Nat.le_refl b)
    rw [Bool.eq_iff_iff, cu_An_iff, cu_An_iff (P := Q), ← hb]
    by_cases h2 : P b < b
    · rw [ih (P b) h2 (fun j hj => h j (by omega))]
    · simp [h2]
/-- the coin c is there behind block b -/
def cu_Lg (P : Nat → Nat) (s1 s2 : Nat → Int32) (c b : Nat) : Bool := if h : P b < b then (decide (c = b) || (cu_Lg P s1 s2 c (P b) && !(decide (s1 b = nI c)) && !(decide (s2 b = nI c)))) else false
termination_by b
theorem cu_Lg_eq {P : Nat → Nat} {s1 s2 : Nat → Int32} {c b : Nat} (h : P b < b) : cu_Lg P s1 s2 c b = (decide (c = b) || (cu_Lg P s1 s2 c (P b) && !(decide (s1 b = nI c)) && !(decide (s2 b = nI c)))) := by
  rw [cu_Lg, dif_pos h]
theorem cu_Lg_no {P : Nat → Nat} {s1 s2 : Nat → Int32} {c b : Nat} (h : ¬ P b < b) : cu_Lg P s1 s2 c b = false := by
  rw [cu_Lg, dif_neg h]
theorem cu_Lg_iff {P : Nat → Nat} {s1 s2 : Nat → Int32} {c b : Nat} : cu_Lg P s1 s2 c b = true ↔ P b < b ∧ (c = b ∨ (cu_Lg P s1 s2 c (P b) = true ∧ s1 b ≠ nI c ∧ s2 b ≠ nI c)) := by
  by_cases h : P b < b
  · rw [cu_Lg_eq h]
    simp [h, and_assoc]
  · rw [cu_Lg_no h]
    simp [h]
theorem cu_Lg_le {P : Nat → Nat} {s1 s2 : Nat → Int32} {c : Nat} : ∀ b, cu_Lg P s1 s2 c b = true → 1 ≤ c ∧ c ≤ b := by
  intro b
  induction b using Nat.strongRecOn with
  | _ b ih =>
    intro h
    obtain ⟨h1, h2⟩ := cu_Lg_iff.mp h
    rcases h2 with h2 | ⟨h2, -⟩
    · omega
    · have := ih (P b) h1 h2
      omega
theorem cu_Lg_0 {P : Nat → Nat} {s1 s2 : Nat → Int32} (b : Nat) : cu_Lg P s1 s2 0 b = false := by
  cases h : cu_Lg P s1 s2 0 b with
  | false => rfl
  | true => have := cu_Lg_le b h; omega
theorem cu_Lg_gt {P : Nat → Nat} {s1 s2 : Nat → Int32} {c b : Nat} (hc : b < c) : cu_Lg P s1 s2 c b = false := by
  cases h : cu_Lg P s1 s2 c b with
  | false => rfl
  | true => have := cu_Lg_le b h; omega
theorem cu_Lg_loc {P Q : Nat → Nat} {s1 s2 t1 t2 : Nat → Int32} {c : Nat} : ∀ b, (∀ j, j ≤ b → P j = Q j ∧ s1 j = t1 j ∧ s2 j = t2 j) → cu_Lg P s1 s2 c b = cu_Lg Q t1 t2 c b := by
  intro b
  induction b using Nat.strongRecOn with
  | _ b ih =>
    intro h
    obtain ⟨hb1, hb2, hb3⟩ := h b (Nat.le_refl b)
    by_cases h2 : P b < b
    · rw [cu_Lg_eq h2, cu_Lg_eq (P := Q) (by rw [← hb1]; exact h2), ← hb1, ← hb2, ← hb3, ih (P b) h2 (fun j hj => h j (by omega))]
    · rw [cu_Lg_no h2, cu_Lg_no (P := Q) (by rw [← hb1]; exact h2)]
/-- what block b spends: nothing, or one coin or two that are there behind its parent -/
def cu_sp (P : Nat → Nat) (s1 s2 : Nat → Int32) (b : Nat) : Prop := (s1 b = -1 ∧ s2 b = -1) ∨ ∃ c, s1 b = nI c ∧ cu_Lg P s1 s2 c (P b) = true ∧ (s2 b = -1 ∨ ∃ d, d ≠ c ∧ s2 b = nI d ∧ cu_Lg P s1 s2 d (P b) = true)
/-- the invariant: n blocks, parents, heights, owners, amounts, what is spent -/
def cu_OK (n : Nat) (P lev own amt : Nat → Nat) (s1 s2 : Nat → Int32) : Prop := 1 ≤ n ∧ n ≤ 20 ∧ P 0 = 0 ∧ lev 0 = 0 ∧ amt 0 = 0 ∧ ∀ b, 0 < b → b < n → P b < b ∧ lev b = lev (P b) + 1 ∧ own b ≤ 3 ∧ 1 ≤ amt b ∧ amt b ≤ 100 * 2 ^ b ∧ cu_sp P s1 s2 b
theorem cu_m1 {k : Nat} (h : k < 2 ^ 31) : (-1 : Int32) ≠ nI k := by
  intro e
  have h1 : (nI k).toInt = (k : Int) := nI_toInt h
  rw [← e] at h1
  have h2 : (-1 : Int32).toInt = -1 := by decide
  omega
theorem cu_neg1 : (-1 : Int32) < 0 := by decide
theorem cu_nI_inj {a b : Nat} (h : nI a = nI b) (ha : a < 2 ^ 31) (hb : b < 2 ^ 31) : a = b := (nI_eq ha hb).mp h
section
variable {n : Nat} {P lev own amt : Nat → Nat} {s1 s2 : Nat → Int32}
theorem cu_OK.pos (h : cu_OK n P lev own amt s1 s2) {b : Nat} (h0 : 0 < b) (hb : b < n) : P b < b := (h.2.2.2.2.2 b h0 hb).1
theorem cu_OK.P0 (h : cu_OK n P lev own amt s1 s2) : ¬ P 0 < 0 := by omega
theorem cu_OK.n20 (h : cu_OK n P lev own amt s1 s2) : n ≤ 20 := h.2.1
theorem cu_OK.sp (h : cu_OK n P lev own amt s1 s2) {b : Nat} (h0 : 0 < b) (hb : b < n) : cu_sp P s1 s2 b := (h.2.2.2.2.2 b h0 hb).2.2.2.2.2
theorem cu_OK.lev_le (h : cu_OK n P lev own amt s1 s2) : ∀ b, b < n → lev b ≤ b := by
  intro b
  induction b using Nat.strongRecOn with
  | _ b ih =>
    intro hb
    by_cases h0 : b = 0
    · rw [h0, h.2.2.2.1]; exact Nat.le_refl 0
    · obtain ⟨h1, h2, -⟩ := h.2.2.2.2.2 b (by omega) hb
      have := ih (P b) h1 (by omega)
      omega
theorem cu_OK.lev_pos (h : cu_OK n P lev own amt s1 s2) {b : Nat} (hb : b < n) (h0 : lev b = 0) : b = 0 := by
  by_cases h1 : b = 0
  · exact h1
  · obtain ⟨-, h2, -⟩ := h.2.2.2.2.2 b (by omega) hb
    omega
theorem cu_OK.amt_lt (h : cu_OK n P lev own amt s1 s2) {b : Nat} (hb : b < n) : amt b < 2 ^ 26 := by
  by_cases h1 : b = 0
  · rw [h1, h.2.2.2.2.1]; decide
  · obtain ⟨-, -, -, -, h2, -⟩ := h.2.2.2.2.2 b (by omega) hb
    have h3 : 2 ^ b ≤ 2 ^ 19 := Nat.pow_le_pow_right (by decide) (by have := h.2.1; omega)
    have h4 : (2 : Nat) ^ 19 = 524288 := by decide
    have h5 : (2 : Nat) ^ 26 = 67108864 := by decide
    omega
theorem cu_OK.amt_pos (h : cu_OK n P lev own amt s1 s2) {b : Nat} (h0 : 0 < b) (hb : b < n) : 1 ≤ amt b := (h.2.2.2.2.2 b h0 hb).2.2.2.1
theorem cu_OK.own_le (h : cu_OK n P lev own amt s1 s2) {b : Nat} (h0 : 0 < b) (hb : b < n) : own b ≤ 3 := (h.2.2.2.2.2 b h0 hb).2.2.1
theorem cu_An_lev (h : cu_OK n P lev own amt s1 s2) {a : Nat} : ∀ b, b < n → cu_An P a b = true → a = b ∨ lev a < lev b := by
  intro b
  induction b using Nat.strongRecOn with
  | _ b ih =>
    intro hb h1
    rcases cu_An_iff.mp h1 with h2 | ⟨h2, h3⟩
    · exact Or.inl h2
    · right
      have h4 := (h.2.2.2.2.2 b (by omega) hb).2.1
      rcases ih (P b) h2 (by omega) h3 with h5 | h5
      · rw [h5]; omega
      · omega
/-- a coin that block d spends is older than d -/
theorem cu_OK.spent (h : cu_OK n P lev own amt s1 s2) {d c : Nat} (h0 : 0 < d) (hd : d < n) (hc : c < n) (e : s1 d = nI c ∨ s2 d = nI c) : c < d := by
  have hp := h.pos h0 hd
  have hn := h.2.1
  rcases h.sp h0 hd with ⟨e1, e2⟩ | ⟨x, e1, hx, hy⟩
  · rcases e with e | e
    · rw [e1] at e
      exact absurd e (cu_m1 (by omega))
    · rw [e2] at e
      exact absurd e (cu_m1 (by omega))
  · have hx2 := cu_Lg_le _ hx
    rcases e with e | e
    · rw [e1] at e
      have := cu_nI_inj e (by omega) (by omega)
      omega
    · rcases hy with hy | ⟨y, -, e3, hy⟩
      · rw [hy] at e
        exact absurd e (cu_m1 (by omega))
      · have hy2 := cu_Lg_le _ hy
        rw [e3] at e
        have := cu_nI_inj e (by omega) (by omega)
        omega
/-- the reference's walk along a branch says the same as cu_Lg -/
theorem cu_free_iff (h : cu_OK n P lev own amt s1 s2) {c : Nat} (hc : c < n) : ∀ b, b < n → (cu_Lg P s1 s2 c b = true ↔ 1 ≤ c ∧ cu_An P c b = true ∧ ∀ d, 1 ≤ d → d < n → (s1 d = nI c ∨ s2 d = nI c) → cu_An P d b = false) := by
  intro b
  induction b using Nat.strongRecOn with
  | _ b ih =>
    intro hb
    by_cases h0 : b = 0
    · subst h0
      rw [cu_Lg_no h.P0]
      constructor
      · intro q; cases q
      · rintro ⟨h1, h2, -⟩
        have := cu_An_le 0 h2
        omega
    · have hp := h.pos (by omega) hb
      rw [cu_Lg_iff, ih (P b) hp (by omega)]
      constructor
      · rintro ⟨-, h1 | ⟨⟨h1, h2, h3⟩, h4, h5⟩⟩
        · subst h1
          refine ⟨by omega, cu_An_self P c, fun d hd hdn e => ?_⟩
          have hcd := h.spent (by omega) hdn hc e
          cases hq : cu_An P d c with
          | false => rfl
          | true => have := cu_An_le c hq; omega
        · refine ⟨h1, cu_An_iff.mpr (Or.inr ⟨hp, h2⟩), fun d hd hdn e => ?_⟩
          cases hq : cu_An P d b with
          | false => rfl
          | true =>
            rcases cu_An_iff.mp hq with h6 | ⟨-, h6⟩
            · subst h6
              rcases e with e | e
              · exact absurd e h4
              · exact absurd e h5
            · rw [h3 d hd hdn e] at h6
              cases h6
      · rintro ⟨h1, h2, h3⟩
        refine ⟨hp, ?_⟩
        by_cases hcb : c = b
        · exact Or.inl hcb
        · right
          refine ⟨⟨h1, ?_, fun d hd hdn e => ?_⟩, fun e => ?_, fun e => ?_⟩
          · rcases cu_An_iff.mp h2 with h6 | ⟨-, h6⟩
            · exact absurd h6 hcb
            · exact h6
          · cases hq : cu_An P d (P b) with
            | false => rfl
            | true =>
              have h7 := h3 d hd hdn e
              rw [cu_An_iff.mpr (Or.inr ⟨hp, hq⟩)] at h7
              cases h7
          · have h7 := h3 b (by omega) hb (Or.inl e)
            rw [cu_An_self] at h7
            cases h7
          · have h7 := h3 b (by omega) hb (Or.inr e)
            rw [cu_An_self] at h7
            cases h7
end
/-- the last block in both branches, as the reference finds it -/
def cu_mt (P : Nat → Nat) (a b : Nat) : Nat → Nat
  | 0 => 0
  | k + 1 => if cu_An P k a = true ∧ cu_An P k b = true then k else cu_mt P a b k
theorem cu_mt_eq {P : Nat → Nat} {a b q : Nat} (h1 : cu_An P q a = true) (h2 : cu_An P q b = true) (h3 : ∀ k, cu_An P k a = true → cu_An P k b = true → k ≤ q) : ∀ n, q < n → cu_mt P a b n = q := by
  intro n
  induction n with
  | zero => intro h; omega
  | succ k ih =>
    intro h
    rw [cu_mt]
    by_cases e : k = q
    · rw [e, if_pos ⟨h1, h2⟩]
    · rw [if_neg (fun z => by have := h3 k z.1 z.2; omega)]
      exact ih (by omega)
theorem cu_mt_lt {P : Nat → Nat} {a b : Nat} : ∀ n, 0 < n → cu_mt P a b n < n := by
  intro n
  induction n with
  | zero => intro h; omega
  | succ k ih =>
    intro _
    rw [cu_mt]
    by_cases e : cu_An P k a = true ∧ cu_An P k b = true
    · rw [if_pos e]; omega
    · rw [if_neg e]
      by_cases hk : k = 0
      · subst hk; simp [cu_mt]
      · have := ih (by omega); omega
theorem cu_mt_loc {P Q : Nat → Nat} {a b : Nat} (h : ∀ k, cu_An P k a = cu_An Q k a) (h' : ∀ k, cu_An P k b = cu_An Q k b) : ∀ n, cu_mt P a b n = cu_mt Q a b n := by
  intro n
  induction n with
  | zero => rfl
  | succ k ih => rw [cu_mt, cu_mt, ih, h, h']
end
section
/-! PURE: the ledger as an Int32 (cu_LG), the wealth as longs (cu_WL); bt .. b_sshr: rows of BITS.to-paste -/
def bt (x : Int32) (i : Nat) : Bool := x.toBitVec.getLsbD i
theorem b_ext {x y : Int32} (h : ∀ i, i < 32 → bt x i = bt y i) : x = y := Int32.toBitVec_inj.mp (BitVec.eq_of_getLsbD_eq (fun i hi => h i hi))
theorem b_or (x y : Int32) (i : Nat) : bt (x ||| y) i = (bt x i || bt y i) := by unfold bt; rw [Int32.toBitVec_or, BitVec.getLsbD_or]
theorem b_and (x y : Int32) (i : Nat) : bt (x &&& y) i = (bt x i && bt y i) := by unfold bt; rw [Int32.toBitVec_and, BitVec.getLsbD_and]
theorem b_xor (x y : Int32) (i : Nat) : bt (x ^^^ y) i = (bt x i ^^ bt y i) := by unfold bt; rw [Int32.toBitVec_xor, BitVec.getLsbD_xor]
theorem b_m1 : ∀ i, i < 32 → bt (-1) i = true := by decide +kernel
theorem b_0 (i : Nat) : bt 0 i = false := BitVec.getLsbD_zero
theorem s_l : ∀ n, n < 32 → ((nI n &&& 31).toBitVec.smod 32).toNat = n := by decide +kernel
theorem b_shl (n : Nat) (hn : n < 32) (x : Int32) {i : Nat} (hi : i < 32) : bt (x <<< (nI n &&& 31)) i = (decide (n ≤ i) && bt x (i - n)) := by
  unfold bt
  rw [Int32.toBitVec_shiftLeft]
  show (x.toBitVec <<< ((nI n &&& 31).toBitVec.smod 32).toNat).getLsbD i = _
  rw [s_l n hn, BitVec.getLsbD_shiftLeft]
  rcases Nat.lt_or_ge i n with h | h
  · simp [h, Nat.not_le.mpr h]
  · simp [hi, h, Nat.not_lt.mpr h]
theorem b_sshr (n : Nat) (hn : n < 32) (x : Int32) {i : Nat} (hi : i < 32) : bt (x >>> (nI n &&& 31)) i = if n + i < 32 then bt x (n + i) else bt x 31 := by
  unfold bt
  rw [Int32.toBitVec_shiftRight]
  show (x.toBitVec.sshiftRight ((nI n &&& 31).toBitVec.smod 32).toNat).getLsbD i = _
  rw [s_l n hn, BitVec.getLsbD_sshiftRight, BitVec.msb_eq_getLsbD_last]
  simp [hi]
theorem cu_b1 : ∀ i, i < 32 → bt (nI 1) i = decide (i = 0) := by decide +kernel
/-- the coin x goes, the coin x comes: as the code says it -/
def cu_tk (lg x : Int32) : Int32 := lg &&& ((nI 1 <<< (x &&& 31)) ^^^ (-1))
def cu_gv (lg x : Int32) : Int32 := lg ||| (nI 1 <<< (x &&& 31))
theorem cu_bsh {c k : Nat} (hc : c < 32) (hk : k < 32) : bt (nI 1 <<< (nI c &&& 31)) k = decide (k = c) := by
  rw [b_shl c hc _ hk]
  by_cases h : c ≤ k
  · rw [cu_b1 (k - c) (by omega)]
    by_cases e : k = c
    · simp [e]
    · have e2 : ¬ (k - c = 0) := by omega
      simp [e, e2]
  · have e : ¬ k = c := by omega
    simp [h, e]
theorem cu_bgv (lg : Int32) {c k : Nat} (hc : c < 32) (hk : k < 32) : bt (cu_gv lg (nI c)) k = (bt lg k || decide (k = c)) := by
  unfold cu_gv
  rw [b_or, cu_bsh hc hk]
theorem cu_btk (lg : Int32) {c k : Nat} (hc : c < 32) (hk : k < 32) : bt (cu_tk lg (nI c)) k = (bt lg k && !(decide (k = c))) := by
  unfold cu_tk
  rw [b_and, b_xor, cu_bsh hc hk, b_m1 k hk]
  simp
theorem cu_test (lg : Int32) {c : Nat} (hc : c < 32) : ((lg >>> (nI c &&& 31)) &&& nI 1 = 0) ↔ bt lg c = false := by
  constructor
  · intro h
    have h0 : bt ((lg >>> (nI c &&& 31)) &&& nI 1) 0 = bt 0 0 := by rw [h]
    rw [b_and, b_0, b_sshr c hc lg (by omega), cu_b1 0 (by omega)] at h0
    simpa [hc] using h0
  · intro h
    apply b_ext
    intro i hi
    rw [b_and, b_0, cu_b1 i hi]
    by_cases e : i = 0
    · subst e
      rw [b_sshr c hc lg (by omega)]
      simp [hc, h]
    · simp [e]
def cu_L1 (lg x : Int32) : Int32 := if x < 0 then lg else cu_tk lg x
def cu_G1 (lg x : Int32) : Int32 := if x < 0 then lg else cu_gv lg x
/-- block b applied to the ledger, and undone -/
def cu_apL (s1 s2 : Nat → Int32) (lg : Int32) (b : Nat) : Int32 := cu_gv (cu_L1 (cu_L1 lg (s1 b)) (s2 b)) (nI b)
def cu_unL (s1 s2 : Nat → Int32) (lg : Int32) (b : Nat) : Int32 := cu_G1 (cu_G1 (cu_tk lg (nI b)) (s1 b)) (s2 b)
/-- the ledger behind block b -/
def cu_LG (P : Nat → Nat) (s1 s2 : Nat → Int32) (b : Nat) : Int32 := if h : P b < b then cu_apL s1 s2 (cu_LG P s1 s2 (P b)) b else 0
termination_by b
theorem cu_LG_step {P : Nat → Nat} {s1 s2 : Nat → Int32} {b : Nat} (h : P b < b) : cu_LG P s1 s2 b = cu_apL s1 s2 (cu_LG P s1 s2 (P b)) b := by
  rw [cu_LG, dif_pos h]
theorem cu_LG_no {P : Nat → Nat} {s1 s2 : Nat → Int32} {b : Nat} (h : ¬ P b < b) : cu_LG P s1 s2 b = 0 := by
  rw [cu_LG, dif_neg h]
theorem cu_L1_m1 (lg : Int32) : cu_L1 lg (-1) = lg := if_pos cu_neg1
theorem cu_G1_m1 (lg : Int32) : cu_G1 lg (-1) = lg := if_pos cu_neg1
theorem cu_L1_n (lg : Int32) {c : Nat} (h : c < 2 ^ 31) : cu_L1 lg (nI c) = cu_tk lg (nI c) := if_neg (nI_pos h)
theorem cu_G1_n (lg : Int32) {c : Nat} (h : c < 2 ^ 31) : cu_G1 lg (nI c) = cu_gv lg (nI c) := if_neg (nI_pos h)
theorem cu_dec {a b : Nat} (ha : a < 2 ^ 31) (hb : b < 2 ^ 31) : decide (nI a = nI b) = decide (b = a) := by
  rw [decide_eq_decide, nI_eq ha hb]
  exact ⟨Eq.symm, Eq.symm⟩
theorem cu_decm {a : Nat} (ha : a < 2 ^ 31) : decide ((-1 : Int32) = nI a) = false := decide_eq_false (cu_m1 ha)
theorem cu_LG_bit {n : Nat} {P lev own amt : Nat → Nat} {s1 s2 : Nat → Int32} (h : cu_OK n P lev own amt s1 s2) {k : Nat} (hk : k < 32) : ∀ b, b < n → bt (cu_LG P s1 s2 b) k = cu_Lg P s1 s2 k b := by
  have hn := h.n20
  intro b
  induction b using Nat.strongRecOn with
  | _ b ih =>
    intro hb
    by_cases h0 : b = 0
    · subst h0
      rw [cu_LG_no h.P0, cu_Lg_no h.P0, b_0]
    · have hp := h.pos (by omega) hb
      have ih1 := ih (P b) hp (by omega)
      rw [cu_LG_step hp, cu_Lg_eq hp]
      unfold cu_apL
      rw [cu_bgv _ (by omega) hk]
      rcases h.sp (by omega) hb with ⟨e1, e2⟩ | ⟨c, e1, hc, hd⟩
      · rw [e1, e2, cu_L1_m1, cu_L1_m1, ih1, cu_decm (by omega), Bool.or_comm]
        simp
      · have hc2 := cu_Lg_le _ hc
        rcases hd with e2 | ⟨d, hdc, e2, hd⟩
        · rw [e1, e2, cu_L1_m1, cu_L1_n _ (by omega), cu_btk _ (by omega) hk, ih1, cu_decm (by omega), cu_dec (by omega) (by omega), Bool.or_comm]
          simp
        · have hd2 := cu_Lg_le _ hd
          rw [e1, e2, cu_L1_n _ (by omega), cu_L1_n _ (by omega), cu_btk _ (by omega) hk, cu_btk _ (by omega) hk, ih1, cu_dec (by omega) (by omega), cu_dec (by omega) (by omega), Bool.or_comm]
theorem cu_LG_un {n : Nat} {P lev own amt : Nat → Nat} {s1 s2 : Nat → Int32} (h : cu_OK n P lev own amt s1 s2) {b : Nat} (h0 : 0 < b) (hb : b < n) : cu_unL s1 s2 (cu_LG P s1 s2 b) b = cu_LG P s1 s2 (P b) := by
  have hn := h.n20
  have hp := h.pos h0 hb
  apply b_ext
  intro k hk
  rw [cu_LG_bit h hk (P b) (by omega)]
  unfold cu_unL
  have hbit := cu_LG_bit h hk b hb
  rw [cu_Lg_eq hp] at hbit
  have hbb : k = b → cu_Lg P s1 s2 k (P b) = false := fun e => cu_Lg_gt (by omega)
  rcases h.sp h0 hb with ⟨e1, e2⟩ | ⟨c, e1, hc, hd⟩
  · rw [e1, e2, cu_decm (by omega)] at hbit
    rw [e1, e2, cu_G1_m1, cu_G1_m1, cu_btk _ (by omega) hk, hbit]
    by_cases e : k = b
    · simp [e]
      exact cu_Lg_gt hp
    · simp [e]
  · have hc2 := cu_Lg_le _ hc
    rcases hd with e2 | ⟨d, hdc, e2, hd⟩
    · rw [e1, e2, cu_decm (by omega), cu_dec (by omega) (by omega)] at hbit
      rw [e1, e2, cu_G1_m1, cu_G1_n _ (by omega), cu_bgv _ (by omega) hk, cu_btk _ (by omega) hk, hbit]
      by_cases e : k = b
      · have e3 : ¬ k = c := by omega
        rw [hbb e]
        simp [e, e3]
        omega
      · by_cases e3 : k = c
        · subst e3
          simp [e, hc]
        · simp [e, e3]
    · have hd2 := cu_Lg_le _ hd
      rw [e1, e2, cu_dec (by omega) (by omega), cu_dec (by omega) (by omega)] at hbit
      rw [e1, e2, cu_G1_n _ (by omega), cu_G1_n _ (by omega), cu_bgv _ (by omega) hk, cu_bgv _ (by omega) hk, cu_btk _ (by omega) hk, hbit]
      by_cases e : k = b
      · rw [hbb e]
        simp [e]
        omega
      · by_cases e3 : k = c
        · subst e3
          simp [e, hc]
        · by_cases e4 : k = d
          · subst e4
            simp [e, hd]
          · simp [e, e3, e4]
theorem cu_LG_loc {P Q : Nat → Nat} {s1 s2 t1 t2 : Nat → Int32} : ∀ b, (∀ j, j ≤ b → P j = Q j ∧ s1 j = t1 j ∧ s2 j = t2 j) → cu_LG P s1 s2 b = cu_LG Q t1 t2 b := by
  intro b
  induction b using Nat.strongRecOn with
  | _ b ih =>
    intro h
    obtain ⟨hb1, hb2, hb3⟩ := h b (Nat.le_refl b)
    by_cases h2 : P b < b
    · rw [cu_LG_step h2, cu_LG_step (P := Q) (by rw [← hb1]; exact h2), ← hb1, ih (P b) h2 (fun j hj => h j (by omega))]
      unfold cu_apL
      rw [hb2, hb3]
    · rw [cu_LG_no h2, cu_LG_no (P := Q) (by rw [← hb1]; exact h2)]
/-- wealth: a coin goes, a coin comes -/
def cu_tW (own amt : Nat → Nat) (w : Nat → Int64) (c : Nat) : Nat → Int64 := vp_updL w (own c) (w (own c) - (nI (amt c)).toInt64)
def cu_gW (own amt : Nat → Nat) (w : Nat → Int64) (c : Nat) : Nat → Int64 := vp_updL w (own c) (w (own c) + (nI (amt c)).toInt64)
def cu_T1 (own amt : Nat → Nat) (w : Nat → Int64) (x : Int32) : Nat → Int64 := if x < 0 then w else cu_tW own amt w x.toNatClampNeg
def cu_H1 (own amt : Nat → Nat) (w : Nat → Int64) (x : Int32) : Nat → Int64 := if x < 0 then w else cu_gW own amt w x.toNatClampNeg
def cu_apW (s1 s2 : Nat → Int32) (own amt : Nat → Nat) (w : Nat → Int64) (b : Nat) : Nat → Int64 := cu_gW own amt (cu_T1 own amt (cu_T1 own amt w (s1 b)) (s2 b)) b
def cu_unW (s1 s2 : Nat → Int32) (own amt : Nat → Nat) (w : Nat → Int64) (b : Nat) : Nat → Int64 := cu_H1 own amt (cu_H1 own amt (cu_tW own amt w b) (s1 b)) (s2 b)
/-- what coin c is worth to the owner j -/
def cu_y (own amt : Nat → Nat) (c j : Nat) : Int64 := if j = own c then (nI (amt c)).toInt64 else 0
def cu_y1 (own amt : Nat → Nat) (x : Int32) (j : Nat) : Int64 := if x < 0 then 0 else cu_y own amt x.toNatClampNeg j
theorem cu_tW_at (own amt : Nat → Nat) (w : Nat → Int64) (c j : Nat) : cu_tW own amt w c j = w j - cu_y own amt c j := by
  unfold cu_tW vp_updL cu_y
  by_cases h : j = own c
  · simp [h]
  · simp [h]
theorem cu_gW_at (own amt : Nat → Nat) (w : Nat → Int64) (c j : Nat) : cu_gW own amt w c j = w j + cu_y own amt c j := by
  unfold cu_gW vp_updL cu_y
  by_cases h : j = own c
  · simp [h]
  · simp [h]
theorem cu_T1_at (own amt : Nat → Nat) (w : Nat → Int64) (x : Int32) (j : Nat) : cu_T1 own amt w x j = w j - cu_y1 own amt x j := by
  unfold cu_T1 cu_y1
  by_cases h : x < 0
  · simp [h]
  · rw [if_neg h, if_neg h, cu_tW_at]
theorem cu_H1_at (own amt : Nat → Nat) (w : Nat → Int64) (x : Int32) (j : Nat) : cu_H1 own amt w x j = w j + cu_y1 own amt x j := by
  unfold cu_H1 cu_y1
  by_cases h : x < 0
  · simp [h]
  · rw [if_neg h, if_neg h, cu_gW_at]
theorem cu_unW_ap (s1 s2 : Nat → Int32) (own amt : Nat → Nat) (w : Nat → Int64) (b : Nat) : cu_unW s1 s2 own amt (cu_apW s1 s2 own amt w b) b = w := by
  funext j
  unfold cu_unW cu_apW
  rw [cu_H1_at, cu_H1_at, cu_tW_at, cu_gW_at, cu_T1_at, cu_T1_at]
  generalize cu_y1 own amt (s1 b) j = x1
  generalize cu_y1 own amt (s2 b) j = x2
  generalize cu_y own amt b j = x3
  generalize w j = x4
  grind
def cu_WL (P : Nat → Nat) (s1 s2 : Nat → Int32) (own amt : Nat → Nat) (b : Nat) : Nat → Int64 := if h : P b < b then cu_apW s1 s2 own amt (cu_WL P s1 s2 own amt (P b)) b else fun _ => 0
termination_by b
theorem cu_WL_step {P : Nat → Nat} {s1 s2 : Nat → Int32} {own amt : Nat → Nat} {b : Nat} (h : P b < b) : cu_WL P s1 s2 own amt b = cu_apW s1 s2 own amt (cu_WL P s1 s2 own amt (P b)) b := by
  rw [cu_WL, dif_pos h]
theorem cu_WL_no {P : Nat → Nat} {s1 s2 : Nat → Int32} {own amt : Nat → Nat} {b : Nat} (h : ¬ P b < b) : cu_WL P s1 s2 own amt b = fun _ => 0 := by
  rw [cu_WL, dif_neg h]
theorem cu_WL_un {P : Nat → Nat} {s1 s2 : Nat → Int32} {own amt : Nat → Nat} {b : Nat} (h : P b < b) : cu_unW s1 s2 own amt (cu_WL P s1 s2 own amt b) b = cu_WL P s1 s2 own amt (P b) := by
  rw [cu_WL_step h, cu_unW_ap]
/-- a sum over the coins below n -/
def cu_sum (F : Nat → Nat) : Nat → Nat
  | 0 => 0
  | k + 1 => cu_sum F k + F k
theorem cu_sum_congr {F G : Nat → Nat} : ∀ n, (∀ c, c < n → F c = G c) → cu_sum F n = cu_sum G n := by
  intro n
  induction n with
  | zero => intro _; rfl
  | succ k ih =>
    intro h
    rw [cu_sum, cu_sum, ih (fun c hc => h c (by omega)), h k (by omega)]
theorem cu_sum_set {F G : Nat → Nat} {k : Nat} : ∀ n, k < n → (∀ c, c < n → c ≠ k → F c = G c) → cu_sum F n + G k = cu_sum G n + F k := by
  intro n
  induction n with
  | zero => intro h; omega
  | succ q ih =>
    intro hk h
    rw [cu_sum, cu_sum]
    by_cases e : k = q
    · subst e
      rw [cu_sum_congr k (fun c hc => h c (by omega) (by omega))]
      omega
    · have h1 := ih (by omega) (fun c hc => h c (by omega))
      have h2 := h q (by omega) (fun z => e z.symm)
      omega
theorem cu_sum_zero {F : Nat → Nat} : ∀ n, (∀ c, c < n → F c = 0) → cu_sum F n = 0 := by
  intro n
  induction n with
  | zero => intro _; rfl
  | succ k ih =>
    intro h
    rw [cu_sum, ih (fun c hc => h c (by omega)), h k (by omega)]
theorem cu_sum_le {F : Nat → Nat} {M : Nat} : ∀ n, (∀ c, c < n → F c ≤ M) → cu_sum F n ≤ n * M := by
  intro n
  induction n with
  | zero => intro _; simp [cu_sum]
  | succ k ih =>
    intro h
    have h1 := ih (fun c hc => h c (by omega))
    have h2 := h k (by omega)
    rw [cu_sum, Nat.succ_mul]
    omega
/-- the worth of the coin c behind block b, if it is the owner's -/
def cu_F (P : Nat → Nat) (s1 s2 : Nat → Int32) (own amt : Nat → Nat) (o : Int32) (b c : Nat) : Nat := if cu_Lg P s1 s2 c b = true ∧ nI (own c) = o then amt c else 0
def cu_z (own amt : Nat → Nat) (o : Int32) (c : Nat) : Nat := if nI (own c) = o then amt c else 0
theorem cu_y_z {own amt : Nat → Nat} {c j : Nat} (hj : j < 4) (ho : own c ≤ 3) (ha : amt c < 2 ^ 31) : cu_y own amt c j = lN (cu_z own amt (nI j) c) := by
  unfold cu_y cu_z
  by_cases h : j = own c
  · rw [if_pos h, if_pos (by rw [h]), nI_l ha]
  · rw [if_neg h, if_neg (fun z => h (cu_nI_inj z (by omega) (by omega)).symm)]
    rfl
theorem cu_alg {a x1 x2 xb s p : Nat} {w : Int64} (hw : w = lN p) (h : s + x1 + x2 = p + xb) : w - lN x1 - lN x2 + lN xb = lN s := by
  have h1 : lN s + lN x1 + lN x2 = lN p + lN xb := by rw [lN_add, lN_add, lN_add, h]
  rw [hw]
  generalize lN s = s at h1 ⊢
  generalize lN p = p at h1 ⊢
  generalize lN x1 = x1 at h1 ⊢
  generalize lN x2 = x2 at h1 ⊢
  generalize lN xb = xb at h1 ⊢
  grind
theorem cu_WL_sum {n : Nat} {P lev own amt : Nat → Nat} {s1 s2 : Nat → Int32} (h : cu_OK n P lev own amt s1 s2) {j : Nat} (hj : j < 4) : ∀ b, b < n → cu_WL P s1 s2 own amt b j = lN (cu_sum (cu_F P s1 s2 own amt (nI j) b) n) := by
  have hn := h.n20
  intro b
  induction b using Nat.strongRecOn with
  | _ b ih =>
    intro hb
    by_cases h0 : b = 0
    · subst h0
      rw [cu_WL_no h.P0, cu_sum_zero n (fun c _ => by unfold cu_F; rw [cu_Lg_no h.P0]; simp)]
      rfl
    · have hp := h.pos (by omega) hb
      have ih1 := ih (P b) hp (by omega)
      rw [cu_WL_step hp]
      unfold cu_apW
      rw [cu_gW_at, cu_T1_at, cu_T1_at]
      have ho := h.own_le (by omega) hb
      have ha := h.amt_lt hb
      rw [cu_y_z hj ho (by omega)]
      -- the coin that b makes
      have hG : cu_sum (cu_F P s1 s2 own amt (nI j) b) n + 0 = cu_sum (fun k => if k = b then 0 else cu_F P s1 s2 own amt (nI j) b k) n + cu_z own amt (nI j) b := by
        have h1 := cu_sum_set (F := cu_F P s1 s2 own amt (nI j) b) (G := fun k => if k = b then 0 else cu_F P s1 s2 own amt (nI j) b k) (k := b) n hb (fun c _ hc => by rw [if_neg hc])
        rw [if_pos rfl] at h1
        rw [h1]
        congr 1
        unfold cu_F cu_z
        rw [cu_Lg_iff.mpr ⟨hp, Or.inl rfl⟩]
        simp
      have hat : ∀ c, c < n → c ≠ b → s1 b ≠ nI c → s2 b ≠ nI c → (fun k => if k = b then 0 else cu_F P s1 s2 own amt (nI j) b k) c = cu_F P s1 s2 own amt (nI j) (P b) c := by
        intro c _ hcb q1 q2
        show (if c = b then 0 else cu_F P s1 s2 own amt (nI j) b c) = _
        rw [if_neg hcb]
        unfold cu_F
        rw [cu_Lg_eq hp]
        simp [hcb, q1, q2]
      have hb0 : (fun k => if k = b then 0 else cu_F P s1 s2 own amt (nI j) b k) b = cu_F P s1 s2 own amt (nI j) (P b) b := by
        show (if b = b then 0 else cu_F P s1 s2 own amt (nI j) b b) = _
        rw [if_pos rfl]
        unfold cu_F
        rw [cu_Lg_gt hp]
        simp
      have hgone : ∀ c, c ≠ b → (s1 b = nI c ∨ s2 b = nI c) → (fun k => if k = b then 0 else cu_F P s1 s2 own amt (nI j) b k) c = 0 := by
        intro c hcb q
        show (if c = b then 0 else cu_F P s1 s2 own amt (nI j) b c) = _
        rw [if_neg hcb]
        unfold cu_F
        rw [cu_Lg_eq hp]
        rcases q with q | q
        · simp [hcb, q]
        · simp [hcb, q]
      generalize hGe : (fun k => if k = b then 0 else cu_F P s1 s2 own amt (nI j) b k) = G at hG hat hb0 hgone
      rcases h.sp (by omega) hb with ⟨e1, e2⟩ | ⟨c, e1, hc, hd⟩
      · have y1 : cu_y1 own amt (s1 b) j = lN 0 := by rw [e1]; exact if_pos cu_neg1
        have y2 : cu_y1 own amt (s2 b) j = lN 0 := by rw [e2]; exact if_pos cu_neg1
        rw [y1, y2]
        refine cu_alg (a := 0) ih1 ?_
        have : cu_sum G n = cu_sum (cu_F P s1 s2 own amt (nI j) (P b)) n := by
          refine cu_sum_congr n (fun c hc => ?_)
          by_cases hcb : c = b
          · rw [hcb]; exact hb0
          · exact hat c hc hcb (by rw [e1]; exact cu_m1 (by omega)) (by rw [e2]; exact cu_m1 (by omega))
        omega
      · have hc2 := cu_Lg_le _ hc
        have hcF : cu_F P s1 s2 own amt (nI j) (P b) c = cu_z own amt (nI j) c := by unfold cu_F cu_z; rw [hc]; simp
        have y1 : cu_y1 own amt (s1 b) j = lN (cu_z own amt (nI j) c) := by
          rw [e1]
          unfold cu_y1
          rw [if_neg (nI_pos (by omega)), nI_clamp (by omega), cu_y_z hj (h.own_le (by omega) (by omega)) (by have := h.amt_lt (show c < n by omega); omega)]
        rcases hd with e2 | ⟨d, hdc, e2, hd⟩
        · have y2 : cu_y1 own amt (s2 b) j = lN 0 := by rw [e2]; exact if_pos cu_neg1
          rw [y1, y2]
          refine cu_alg (a := 0) ih1 ?_
          have h1 := cu_sum_set (F := G) (G := cu_F P s1 s2 own amt (nI j) (P b)) (k := c) n (by omega) (fun x hx hxc => by
            by_cases hxb : x = b
            · rw [hxb]; exact hb0
            · exact hat x hx hxb (by rw [e1]; exact fun z => hxc (cu_nI_inj z (by omega) (by omega)).symm) (by rw [e2]; exact cu_m1 (by omega)))
          rw [hgone c (by omega) (Or.inl e1), hcF] at h1
          omega
        · have hd2 := cu_Lg_le _ hd
          have hdF : cu_F P s1 s2 own amt (nI j) (P b) d = cu_z own amt (nI j) d := by unfold cu_F cu_z; rw [hd]; simp
          have y2 : cu_y1 own amt (s2 b) j = lN (cu_z own amt (nI j) d) := by
            rw [e2]
            unfold cu_y1
            rw [if_neg (nI_pos (by omega)), nI_clamp (by omega), cu_y_z hj (h.own_le (by omega) (by omega)) (by have := h.amt_lt (show d < n by omega); omega)]
          rw [y1, y2]
          refine cu_alg (a := 0) ih1 ?_
          have h1 := cu_sum_set (F := fun k => if k = c then 0 else cu_F P s1 s2 own amt (nI j) (P b) k) (G := cu_F P s1 s2 own amt (nI j) (P b)) (k := c) n (by omega) (fun x hx hxc => by rw [if_neg hxc])
          rw [if_pos rfl, hcF] at h1
          have h2 := cu_sum_set (F := G) (G := fun k => if k = c then 0 else cu_F P s1 s2 own amt (nI j) (P b) k) (k := d) n (by omega) (fun x hx hxd => by
            show G x = if x = c then 0 else cu_F P s1 s2 own amt (nI j) (P b) x
            by_cases hxc : x = c
            · rw [if_pos hxc, hxc]; exact hgone c (by omega) (Or.inl e1)
            · rw [if_neg hxc]
              by_cases hxb : x = b
              · rw [hxb]; exact hb0
              · exact hat x hx hxb (by rw [e1]; exact fun z => hxc (cu_nI_inj z (by omega) (by omega)).symm) (by rw [e2]; exact fun z => hxd (cu_nI_inj z (by omega) (by omega)).symm))
          rw [hgone d (by omega) (Or.inr e2), if_neg hdc, hdF] at h2
          omega
theorem cu_WL_loc {n : Nat} {P lev own amt Q own' amt' : Nat → Nat} {s1 s2 t1 t2 : Nat → Int32} (h : cu_OK n P lev own amt s1 s2) (hq : ∀ j, j < n → P j = Q j ∧ s1 j = t1 j ∧ s2 j = t2 j ∧ own j = own' j ∧ amt j = amt' j) : ∀ b, b < n → cu_WL P s1 s2 own amt b = cu_WL Q t1 t2 own' amt' b := by
  have hn := h.n20
  have hy : ∀ c j, c < n → cu_y own amt c j = cu_y own' amt' c j := by
    intro c j hc
    obtain ⟨-, -, -, q1, q2⟩ := hq c hc
    unfold cu_y
    rw [q1, q2]
  intro b
  induction b using Nat.strongRecOn with
  | _ b ih =>
    intro hb
    obtain ⟨hb1, hb2, hb3, -⟩ := hq b hb
    by_cases h0 : P b < b
    · rw [cu_WL_step h0, cu_WL_step (P := Q) (by rw [← hb1]; exact h0), ← hb1, ih (P b) h0 (by omega)]
      funext j
      unfold cu_apW
      rw [cu_gW_at, cu_T1_at, cu_T1_at, cu_gW_at, cu_T1_at, cu_T1_at, hy b j hb, ← hb2, ← hb3]
      have hy1 : ∀ x : Int32, (x = -1 ∨ ∃ c, c < n ∧ x = nI c) → cu_y1 own amt x j = cu_y1 own' amt' x j := by
        intro x hx
        unfold cu_y1
        rcases hx with hx | ⟨c, hc, hx⟩
        · rw [hx, if_pos cu_neg1, if_pos cu_neg1]
        · rw [hx, if_neg (nI_pos (by omega)), if_neg (nI_pos (by omega)), nI_clamp (by omega), hy c j hc]
      rcases h.sp (by omega) hb with ⟨e1, e2⟩ | ⟨c, e1, hc, hd⟩
      · rw [hy1 _ (Or.inl e1), hy1 _ (Or.inl e2)]
      · have hc2 := cu_Lg_le _ hc
        rw [hy1 _ (Or.inr ⟨c, by omega, e1⟩)]
        rcases hd with e2 | ⟨d, hdc, e2, hd⟩
        · rw [hy1 _ (Or.inl e2)]
        · have hd2 := cu_Lg_le _ hd
          rw [hy1 _ (Or.inr ⟨d, by omega, e2⟩)]
    · rw [cu_WL_no h0, cu_WL_no (P := Q) (by rw [← hb1]; exact h0)]
end
section
/-! PURE: the state of both sides (n, tip, undone, parents, heights, owners, amounts, first, second), and what the calls make of it -/
def cu_up (f : Nat → Nat) (k v : Nat) : Nat → Nat := fun j => if j = k then v else f j
theorem cu_up_s (f : Nat → Nat) (k v : Nat) : cu_up f k v k = v := if_pos rfl
theorem cu_up_n (f : Nat → Nat) {k j : Nat} (v : Nat) (h : j ≠ k) : cu_up f k v j = f j := if_neg h
theorem cu_up_nI (f : Nat → Nat) (k v : Nat) : upd (fun j => nI (f j)) k (nI v) = fun j => nI (cu_up f k v j) := by
  funext j
  unfold upd cu_up
  by_cases h : j = k
  · simp [h]
  · simp [h]
theorem cu_OK.add {n : Nat} {P lev own amt : Nat → Nat} {s1 s2 : Nat → Int32} (h : cu_OK n P lev own amt s1 s2) (hn : n < 20) {a o m : Nat} {x y : Int32} (ha : a < n) (ho : o ≤ 3) (hm : 1 ≤ m) (hm2 : m ≤ 100 * 2 ^ n) (hs : (x = -1 ∧ y = -1) ∨ ∃ c, x = nI c ∧ cu_Lg P s1 s2 c a = true ∧ (y = -1 ∨ ∃ d, d ≠ c ∧ y = nI d ∧ cu_Lg P s1 s2 d a = true)) :
    cu_OK (n + 1) (cu_up P n a) (cu_up lev n (lev a + 1)) (cu_up own n o) (cu_up amt n m) (upd s1 n x) (upd s2 n y) := by
  have hL : ∀ c b, b < n → cu_Lg (cu_up P n a) (upd s1 n x) (upd s2 n y) c b = cu_Lg P s1 s2 c b := by
    intro c b hb
    refine (cu_Lg_loc b (fun j hj => ?_)).symm
    have hjn : j ≠ n := by omega
    exact ⟨(cu_up_n P a hjn).symm, (pk_un hjn).symm, (pk_un hjn).symm⟩
  have h1n := h.1
  refine ⟨by omega, by omega, by rw [cu_up_n P a (by omega)]; exact h.2.2.1, by rw [cu_up_n lev _ (by omega)]; exact h.2.2.2.1, by rw [cu_up_n amt _ (by omega)]; exact h.2.2.2.2.1, fun b h0 hb => ?_⟩
  by_cases e : b = n
  · subst e
    rw [cu_up_s, cu_up_s, cu_up_s, cu_up_s, cu_up_n lev _ (by omega)]
    refine ⟨ha, rfl, ho, hm, hm2, ?_⟩
    unfold cu_sp
    rw [pk_us, pk_us, cu_up_s]
    rcases hs with hs | ⟨c, h1, h2, h3⟩
    · exact Or.inl hs
    · refine Or.inr ⟨c, h1, by rw [hL c a ha]; exact h2, ?_⟩
      rcases h3 with h3 | ⟨d, h3, h4, h5⟩
      · exact Or.inl h3
      · exact Or.inr ⟨d, h3, h4, by rw [hL d a ha]; exact h5⟩
  · have hbn : b < n := by omega
    obtain ⟨g1, g2, g3, g4, g5, g6⟩ := h.2.2.2.2.2 b h0 hbn
    rw [cu_up_n P a e, cu_up_n lev _ e, cu_up_n own _ e, cu_up_n amt _ e, cu_up_n lev _ (show P b ≠ n by omega)]
    refine ⟨g1, g2, g3, g4, g5, ?_⟩
    unfold cu_sp at g6 ⊢
    rw [pk_un e, pk_un e, cu_up_n P a e]
    rcases g6 with g6 | ⟨c, h1, h2, h3⟩
    · exact Or.inl g6
    · refine Or.inr ⟨c, h1, by rw [hL c _ (by omega)]; exact h2, ?_⟩
      rcases h3 with h3 | ⟨d, h3, h4, h5⟩
      · exact Or.inl h3
      · exact Or.inr ⟨d, h3, h4, by rw [hL d _ (by omega)]; exact h5⟩
theorem cu_OK.less {n : Nat} {P lev own amt : Nat → Nat} {s1 s2 : Nat → Int32} (h : cu_OK n P lev own amt s1 s2) {k : Nat} (h1 : 1 ≤ k) (h2 : k ≤ n) : cu_OK k P lev own amt s1 s2 :=
  ⟨h1, Nat.le_trans h2 h.2.1, h.2.2.1, h.2.2.2.1, h.2.2.2.2.1, fun b h0 hb => h.2.2.2.2.2 b h0 (by omega)⟩
abbrev cu_S : Type := Nat × Nat × Int32 × (Nat → Nat) × (Nat → Nat) × (Nat → Nat) × (Nat → Nat) × (Nat → Int32) × (Nat → Int32)
def cu_ok (S : cu_S) : Prop := match S with
  | (n, tip, _, P, lev, own, amt, s1, s2) => cu_OK n P lev own amt s1 s2 ∧ tip < n
/-- a block more: a its parent, o its owner, m its amount, x and y what it spends -/
def cu_add (S : cu_S) (a o m : Nat) (x y : Int32) : cu_S := match S with
  | (n, tip, und, P, lev, own, amt, s1, s2) => (n + 1, (if cu_up lev n (lev a + 1) tip < cu_up lev n (lev a + 1) n then n else tip), (if cu_up lev n (lev a + 1) tip < cu_up lev n (lev a + 1) n then nI (cu_up lev n (lev a + 1) tip - cu_up lev n (lev a + 1) (cu_mt (cu_up P n a) tip n (n + 1))) else und), cu_up P n a, cu_up lev n (lev a + 1), cu_up own n o, cu_up amt n m, upd s1 n x, upd s2 n y)
def cu_mint (S : cu_S) (p o a : Int32) : Int32 × cu_S := if S.1 = 20 then (-2, S) else if 0 ≤ p.toInt ∧ p.toInt < S.1 ∧ 0 ≤ o.toInt ∧ o.toInt ≤ 3 ∧ 1 ≤ a.toInt ∧ a.toInt ≤ 100 then (nI S.1, cu_add S p.toNatClampNeg o.toNatClampNeg a.toNatClampNeg (-1) (-1)) else (-1, S)
/-- the coin x is there behind block b -/
def cu_th (n : Nat) (P : Nat → Nat) (s1 s2 : Nat → Int32) (b : Nat) (x : Int32) : Bool := decide (0 < x.toInt ∧ x.toInt < n) && cu_Lg P s1 s2 x.toNatClampNeg b
def cu_am (amt : Nat → Nat) (f g : Int32) : Nat := if g = -1 then amt f.toNatClampNeg else amt f.toNatClampNeg + amt g.toNatClampNeg
def cu_sound (n : Nat) (P : Nat → Nat) (s1 s2 : Nat → Int32) (b : Nat) (f g : Int32) : Bool := cu_th n P s1 s2 b f && (decide (g = -1) || (cu_th n P s1 s2 b g && !(decide (g = f))))
def cu_pay (S : cu_S) (p o f g : Int32) : Int32 × cu_S := match S with
  | (n, tip, und, P, lev, own, amt, s1, s2) => if n = 20 then (-2, S) else if 0 ≤ p.toInt ∧ p.toInt < n ∧ 0 ≤ o.toInt ∧ o.toInt ≤ 3 then (if cu_sound n P s1 s2 p.toNatClampNeg f g = true then (nI n, cu_add S p.toNatClampNeg o.toNatClampNeg (cu_am amt f g) f g) else (-3, S)) else (-1, S)
def cu_forget (S : cu_S) (b : Int32) : Int32 × cu_S := match S with
  | (n, tip, und, P, lev, own, amt, s1, s2) => if 0 < b.toInt ∧ b.toInt = (n : Int) - 1 ∧ b.toInt ≠ (tip : Int) then (b, (n - 1, tip, und, P, lev, own, amt, s1, s2)) else (-4, S)
theorem cu_clamp {x : Int32} (h : 0 ≤ x.toInt) : (x.toNatClampNeg : Int) = x.toInt := by
  have : x.toNatClampNeg = x.toInt.toNat := rfl
  rw [this]
  omega
theorem cu_nIc {x : Int32} (h : 0 ≤ x.toInt) : x = nI x.toNatClampNeg := by
  have h1 := cu_clamp h
  have h2 : x.toInt < 2 ^ 31 := Int32.toInt_lt x
  apply Int32.toInt_inj.mp
  rw [nI_toInt (by omega)]
  omega
theorem cu_th_iff {n : Nat} {P : Nat → Nat} {s1 s2 : Nat → Int32} {b : Nat} {x : Int32} (hn : n ≤ 20) : cu_th n P s1 s2 b x = true ↔ ∃ c, 0 < c ∧ c < n ∧ x = nI c ∧ cu_Lg P s1 s2 c b = true := by
  unfold cu_th
  rw [Bool.and_eq_true, decide_eq_true_eq]
  constructor
  · rintro ⟨⟨h1, h2⟩, h3⟩
    have h4 := cu_clamp (x := x) (by omega)
    exact ⟨x.toNatClampNeg, by omega, by omega, cu_nIc (by omega), h3⟩
  · rintro ⟨c, h1, h2, rfl, h3⟩
    rw [nI_toInt (by omega), nI_clamp (by omega)]
    exact ⟨⟨by omega, by omega⟩, h3⟩
theorem cu_ok_add {n tip : Nat} {und : Int32} {P lev own amt : Nat → Nat} {s1 s2 : Nat → Int32} (ht : tip < n) {a o m : Nat} {x y : Int32} (h : cu_OK (n + 1) (cu_up P n a) (cu_up lev n (lev a + 1)) (cu_up own n o) (cu_up amt n m) (upd s1 n x) (upd s2 n y)) : cu_ok (cu_add (n, tip, und, P, lev, own, amt, s1, s2) a o m x y) := by
  refine ⟨h, ?_⟩
  by_cases e : cu_up lev n (lev a + 1) tip < cu_up lev n (lev a + 1) n
  · rw [if_pos e]; omega
  · rw [if_neg e]; omega
theorem cu_mint_OK {n : Nat} {P lev own amt : Nat → Nat} {s1 s2 : Nat → Int32} (h : cu_OK n P lev own amt s1 s2) (hn : n ≠ 20) {p o a : Int32} (hc : 0 ≤ p.toInt ∧ p.toInt < n ∧ 0 ≤ o.toInt ∧ o.toInt ≤ 3 ∧ 1 ≤ a.toInt ∧ a.toInt ≤ 100) :
    cu_OK (n + 1) (cu_up P n p.toNatClampNeg) (cu_up lev n (lev p.toNatClampNeg + 1)) (cu_up own n o.toNatClampNeg) (cu_up amt n a.toNatClampNeg) (upd s1 n (-1)) (upd s2 n (-1)) := by
  obtain ⟨h1, h2, h3, h4, h5, h6⟩ := hc
  have hp := cu_clamp h1
  have ho := cu_clamp h3
  have ha := cu_clamp (x := a) (by omega)
  have hn2 := h.n20
  have hpow : 1 ≤ 2 ^ n := Nat.one_le_two_pow
  exact h.add (by omega) (by omega) (by omega) (by omega) (by omega) (Or.inl ⟨rfl, rfl⟩)
theorem cu_ok_mint {S : cu_S} (h : cu_ok S) (p o a : Int32) : cu_ok (cu_mint S p o a).2 := by
  obtain ⟨n, tip, und, P, lev, own, amt, s1, s2⟩ := S
  unfold cu_mint
  by_cases hn : n = 20
  · rw [if_pos hn]; exact h
  · rw [if_neg hn]
    by_cases hc : 0 ≤ p.toInt ∧ p.toInt < n ∧ 0 ≤ o.toInt ∧ o.toInt ≤ 3 ∧ 1 ≤ a.toInt ∧ a.toInt ≤ 100
    · rw [if_pos hc]
      exact cu_ok_add h.2 (cu_mint_OK h.1 hn hc)
    · rw [if_neg hc]; exact h
theorem cu_pay_OK {n : Nat} {P lev own amt : Nat → Nat} {s1 s2 : Nat → Int32} (h : cu_OK n P lev own amt s1 s2) (hn : n ≠ 20) {p o f g : Int32} (hc : 0 ≤ p.toInt ∧ p.toInt < n ∧ 0 ≤ o.toInt ∧ o.toInt ≤ 3) (hs : cu_sound n P s1 s2 p.toNatClampNeg f g = true) :
    cu_OK (n + 1) (cu_up P n p.toNatClampNeg) (cu_up lev n (lev p.toNatClampNeg + 1)) (cu_up own n o.toNatClampNeg) (cu_up amt n (cu_am amt f g)) (upd s1 n f) (upd s2 n g) := by
  obtain ⟨h1, h2, h3, h4⟩ := hc
  have hp := cu_clamp h1
  have ho := cu_clamp h3
  have hn2 := h.n20
  have hn1 := h.1
  unfold cu_sound at hs
  rw [Bool.and_eq_true, Bool.or_eq_true, Bool.and_eq_true, decide_eq_true_eq, cu_th_iff hn2, cu_th_iff hn2] at hs
  obtain ⟨⟨c, hc0, hcn, rfl, hcL⟩, hg⟩ := hs
  have hc1 := h.amt_pos hc0 hcn
  have hc2 := (h.2.2.2.2.2 c hc0 hcn).2.2.2.2.1
  have hpc : 2 ^ c ≤ 2 ^ (n - 1) := Nat.pow_le_pow_right (by decide) (by omega)
  have hpn : 2 ^ n = 2 ^ (n - 1) * 2 := by rw [← Nat.pow_succ]; congr 1; omega
  rcases hg with rfl | ⟨⟨d, hd0, hdn, rfl, hdL⟩, hdc⟩
  · have e : cu_am amt (nI c) (-1) = amt c := by unfold cu_am; rw [if_pos rfl, nI_clamp (by omega)]
    rw [e]
    exact h.add (by omega) (by omega) (by omega) hc1 (by omega) (Or.inr ⟨c, rfl, hcL, Or.inl rfl⟩)
  · have e : cu_am amt (nI c) (nI d) = amt c + amt d := by unfold cu_am; rw [if_neg (fun z => cu_m1 (by omega) z.symm), nI_clamp (by omega), nI_clamp (by omega)]
    have hd2 := (h.2.2.2.2.2 d hd0 hdn).2.2.2.2.1
    have hpd : 2 ^ d ≤ 2 ^ (n - 1) := Nat.pow_le_pow_right (by decide) (by omega)
    rw [e]
    refine h.add (by omega) (by omega) (by omega) (by omega) (by omega) (Or.inr ⟨c, rfl, hcL, Or.inr ⟨d, ?_, rfl, hdL⟩⟩)
    intro z
    subst z
    simp at hdc
theorem cu_ok_pay {S : cu_S} (h : cu_ok S) (p o f g : Int32) : cu_ok (cu_pay S p o f g).2 := by
  obtain ⟨n, tip, und, P, lev, own, amt, s1, s2⟩ := S
  unfold cu_pay
  dsimp only
  by_cases hn : n = 20
  · rw [if_pos hn]; exact h
  · rw [if_neg hn]
    by_cases hc : 0 ≤ p.toInt ∧ p.toInt < n ∧ 0 ≤ o.toInt ∧ o.toInt ≤ 3
    · rw [if_pos hc]
      by_cases hs : cu_sound n P s1 s2 p.toNatClampNeg f g = true
      · rw [if_pos hs]
        exact cu_ok_add h.2 (cu_pay_OK h.1 hn hc hs)
      · rw [if_neg hs]; exact h
    · rw [if_neg hc]; exact h
theorem cu_ok_forget {S : cu_S} (h : cu_ok S) (b : Int32) : cu_ok (cu_forget S b).2 := by
  obtain ⟨n, tip, und, P, lev, own, amt, s1, s2⟩ := S
  have h1 := h.1.1
  have h2 := h.2
  unfold cu_forget
  dsimp only
  by_cases hc : 0 < b.toInt ∧ b.toInt = (n : Int) - 1 ∧ b.toInt ≠ (tip : Int)
  · rw [if_pos hc]
    exact ⟨h.1.less (by omega) (by omega), show tip < n - 1 by omega⟩
  · rw [if_neg hc]; exact h
end
section
/-! PURE: the greatest coin first -/
def cu_scan (f : Nat → Bool) (amt : Nat → Nat) : Nat → Nat
  | 0 => 0
  | k + 1 => if f k = true ∧ (cu_scan f amt k = 0 ∨ amt (cu_scan f amt k) < amt k) then k else cu_scan f amt k
theorem cu_scan_ok {f : Nat → Bool} {amt : Nat → Nat} (h0 : f 0 = false) : ∀ n, (cu_scan f amt n ≠ 0 → f (cu_scan f amt n) = true ∧ cu_scan f amt n < n) ∧ (cu_scan f amt n = 0 → ∀ k, k < n → f k = false) := by
  intro n
  induction n with
  | zero => exact ⟨fun h => absurd rfl h, fun _ k hk => by omega⟩
  | succ k ih =>
    obtain ⟨ih1, ih2⟩ := ih
    rw [cu_scan]
    by_cases hc : f k = true ∧ (cu_scan f amt k = 0 ∨ amt (cu_scan f amt k) < amt k)
    · rw [if_pos hc]
      refine ⟨fun _ => ⟨hc.1, by omega⟩, fun e => ?_⟩
      subst e
      rw [h0] at hc
      exact absurd hc.1 (by decide)
    · rw [if_neg hc]
      refine ⟨fun h => ⟨(ih1 h).1, by have := (ih1 h).2; omega⟩, fun e j hj => ?_⟩
      by_cases hjk : j = k
      · subst hjk
        cases hq : f j with
        | false => rfl
        | true => exact absurd ⟨hq, Or.inl e⟩ hc
      · exact ih2 e j (by omega)
theorem cu_scan_lt {f : Nat → Bool} {amt : Nat → Nat} : ∀ n, 0 < n → cu_scan f amt n < n := by
  intro n
  induction n with
  | zero => intro h; omega
  | succ k ih =>
    intro _
    rw [cu_scan]
    by_cases hc : f k = true ∧ (cu_scan f amt k = 0 ∨ amt (cu_scan f amt k) < amt k)
    · rw [if_pos hc]; omega
    · rw [if_neg hc]
      by_cases hk : k = 0
      · subst hk; simp [cu_scan]
      · have := ih (by omega); omega
/-- the coins that may be taken still -/
def cu_cn (cand U : Nat → Bool) (c : Nat) : Bool := cand c && !(U c)
def cu_U1 (U : Nat → Bool) (b : Nat) : Nat → Bool := fun c => U c || decide (c = b)
/-- as the reference does it: fuel, the coins taken, their sum, their number -/
def cu_gr (cand : Nat → Bool) (amt : Nat → Nat) (n : Nat) (A : Int) : Nat → (Nat → Bool) → Nat → Nat → Int32
  | 0, _, _, _ => -4
  | f + 1, U, s, t => if A ≤ (s : Int) then nI t else if cu_scan (cu_cn cand U) amt n = 0 then -4 else cu_gr cand amt n A f (cu_U1 U (cu_scan (cu_cn cand U) amt n)) (s + amt (cu_scan (cu_cn cand U) amt n)) (t + 1)
def cu_rs (cand : Nat → Bool) (w : Nat → Nat) (n : Nat) (U : Nat → Bool) : Nat := cu_sum (fun c => if cu_cn cand U c = true then w c else 0) n
theorem cu_rs_step {cand U : Nat → Bool} {w : Nat → Nat} {n b : Nat} (hb : b < n) (h : cu_cn cand U b = true) : cu_rs cand w n U = cu_rs cand w n (cu_U1 U b) + w b := by
  have h1 := cu_sum_set (F := fun c => if cu_cn cand U c = true then w c else 0) (G := fun c => if cu_cn cand (cu_U1 U b) c = true then w c else 0) (k := b) n hb (fun c _ hc => by
    have e : cu_cn cand (cu_U1 U b) c = cu_cn cand U c := by unfold cu_cn cu_U1; simp [hc]
    rw [e])
  have e : cu_cn cand (cu_U1 U b) b = false := by unfold cu_cn cu_U1; simp
  rw [e, h] at h1
  simpa [cu_rs] using h1
theorem cu_rs_0 {cand U : Nat → Bool} {w : Nat → Nat} {n : Nat} (h : ∀ k, k < n → cu_cn cand U k = false) : cu_rs cand w n U = 0 := cu_sum_zero n (fun c hc => by rw [h c hc]; simp)
theorem cu_gr_done {cand : Nat → Bool} {amt : Nat → Nat} {n : Nat} {A : Int} {f : Nat} {U : Nat → Bool} {s t : Nat} (h : A ≤ (s : Int)) : cu_gr cand amt n A (f + 1) U s t = nI t := by
  rw [cu_gr, if_pos h]
theorem cu_gr_step {cand : Nat → Bool} {amt : Nat → Nat} {n : Nat} {A : Int} {f : Nat} {U : Nat → Bool} {s t b : Nat} (h : ¬ A ≤ (s : Int)) (hb : cu_scan (cu_cn cand U) amt n = b) (h0 : b ≠ 0) : cu_gr cand amt n A (f + 1) U s t = cu_gr cand amt n A f (cu_U1 U b) (s + amt b) (t + 1) := by
  rw [cu_gr, if_neg h, if_neg (by rw [hb]; exact h0), hb]
theorem cu_gr_none {cand : Nat → Bool} {amt : Nat → Nat} {n : Nat} {A : Int} {f : Nat} {U : Nat → Bool} {s t : Nat} (h : ¬ A ≤ (s : Int)) (hb : cu_scan (cu_cn cand U) amt n = 0) : cu_gr cand amt n A (f + 1) U s t = -4 := by
  rw [cu_gr, if_neg h, if_pos hb]
theorem cu_cn_0 {cand U : Nat → Bool} (h0 : cand 0 = false) : cu_cn cand U 0 = false := by unfold cu_cn; rw [h0]; rfl
/-- too much is asked: none -/
theorem cu_gr_no {cand : Nat → Bool} {amt : Nat → Nat} {n : Nat} {A : Int} (h0 : cand 0 = false) : ∀ (f : Nat) (U : Nat → Bool) (s t : Nat), (s : Int) + cu_rs cand amt n U < A → cu_gr cand amt n A f U s t = -4 := by
  intro f
  induction f with
  | zero => intro U s t _; rfl
  | succ f ih =>
    intro U s t h
    have hA : ¬ A ≤ (s : Int) := by omega
    by_cases hb : cu_scan (cu_cn cand U) amt n = 0
    · exact cu_gr_none hA hb
    · obtain ⟨h1, h2⟩ := (cu_scan_ok (amt := amt) (cu_cn_0 (U := U) h0) n).1 hb
      rw [cu_gr_step hA rfl hb]
      have h3 := cu_rs_step (w := amt) h2 h1
      exact ih _ _ _ (by omega)
/-- enough is left: there is a coin to take -/
theorem cu_gr_some {cand : Nat → Bool} {amt : Nat → Nat} {n : Nat} {A : Int} (h0 : cand 0 = false) {U : Nat → Bool} {s : Nat} (h : ¬ A ≤ (s : Int)) (h1 : A ≤ (s : Int) + cu_rs cand amt n U) : cu_scan (cu_cn cand U) amt n ≠ 0 := by
  intro e
  have h2 := (cu_scan_ok (amt := amt) (cu_cn_0 (U := U) h0) n).2 e
  rw [cu_rs_0 h2] at h1
  omega
def cu_cand (P : Nat → Nat) (s1 s2 : Nat → Int32) (own : Nat → Nat) (o : Int32) (b : Nat) (c : Nat) : Bool := cu_Lg P s1 s2 c b && decide (nI (own c) = o)
theorem cu_cand_0 {P : Nat → Nat} {s1 s2 : Nat → Int32} {own : Nat → Nat} {o : Int32} {b : Nat} : cu_cand P s1 s2 own o b 0 = false := by unfold cu_cand; rw [cu_Lg_0]; rfl
theorem cu_rs_all {P : Nat → Nat} {s1 s2 : Nat → Int32} {own amt : Nat → Nat} {o : Int32} {b n : Nat} : cu_rs (cu_cand P s1 s2 own o b) amt n (fun _ => false) = cu_sum (cu_F P s1 s2 own amt o b) n := by
  refine cu_sum_congr n (fun c _ => ?_)
  unfold cu_cn cu_cand cu_F
  simp
def cu_few (S : cu_S) (o a : Int32) : Int32 := match S with
  | (n, tip, _, P, _, own, amt, s1, s2) => if 0 ≤ o.toInt ∧ o.toInt ≤ 3 then cu_gr (cu_cand P s1 s2 own o tip) amt n a.toInt 20 (fun _ => false) 0 0 else -1
/-- how many coins are left: fewer than the blocks -/
theorem cu_rs_lt {cand U : Nat → Bool} (h0 : cand 0 = false) {n : Nat} (hn : 0 < n) : cu_rs cand (fun _ => 1) n U < n := by
  have h1 := cu_sum_set (F := fun c => if cu_cn cand U c = true then 1 else 0) (G := fun c => if c = 0 then 1 else if cu_cn cand U c = true then 1 else 0) (k := 0) n hn (fun c _ hc => by rw [if_neg hc])
  rw [if_pos rfl, cu_cn_0 h0] at h1
  have h2 := cu_sum_le (F := fun c => if c = 0 then 1 else if cu_cn cand U c = true then 1 else 0) (M := 1) n (fun c _ => by
    by_cases hc : c = 0
    · simp [hc]
    · by_cases hq : cu_cn cand U c = true
      · simp [hc, hq]
      · simp [hc, hq])
  have h3 : cu_rs cand (fun _ => 1) n U + 1 = cu_sum (fun c => if c = 0 then 1 else if cu_cn cand U c = true then 1 else 0) n := by
    simpa [cu_rs] using h1
  omega
/-- the sum of all stays small -/
theorem cu_F_small {n : Nat} {P lev own amt : Nat → Nat} {s1 s2 : Nat → Int32} (h : cu_OK n P lev own amt s1 s2) (o : Int32) (b : Nat) : cu_sum (cu_F P s1 s2 own amt o b) n ≤ 20 * 2 ^ 26 := by
  have h1 := cu_sum_le (F := cu_F P s1 s2 own amt o b) (M := 2 ^ 26) n (fun c hc => by
    have := h.amt_lt hc
    unfold cu_F
    by_cases hq : cu_Lg P s1 s2 c b = true ∧ nI (own c) = o
    · rw [if_pos hq]; omega
    · rw [if_neg hq]; omega)
  have h2 := h.n20
  have h3 : n * 2 ^ 26 ≤ 20 * 2 ^ 26 := Nat.mul_le_mul_right _ h2
  exact Nat.le_trans h1 h3
/-- an owner out of range has nothing -/
theorem cu_F_out {n : Nat} {P lev own amt : Nat → Nat} {s1 s2 : Nat → Int32} (h : cu_OK n P lev own amt s1 s2) {o : Int32} (ho : o.toInt < 0 ∨ 3 < o.toInt) (b : Nat) : cu_sum (cu_F P s1 s2 own amt o b) n = 0 := by
  refine cu_sum_zero n (fun c hc => ?_)
  unfold cu_F
  rw [if_neg]
  rintro ⟨h1, h2⟩
  have h3 := cu_Lg_le _ h1
  have h4 := h.own_le (by omega) hc
  rw [← h2, nI_toInt (by omega)] at ho
  omega
/-- how many coins are there -/
def cu_cnt (f : Nat → Bool) : Nat → Nat
  | 0 => 0
  | k + 1 => if f k = true then cu_cnt f k + 1 else cu_cnt f k
theorem cu_cnt_le {f : Nat → Bool} : ∀ n, cu_cnt f n ≤ n := by
  intro n
  induction n with
  | zero => exact Nat.le_refl 0
  | succ k ih =>
    rw [cu_cnt]
    by_cases h : f k = true
    · rw [if_pos h]; omega
    · rw [if_neg h]; omega
end
section
/-! ROWS over the kit's rows: loops, arrays at a Nat, branches on Nats, a call with the whole world of its object -/
def cu_In (D : va_G) (cl : List vw_C) (tys : List (ClassId × FieldType)) (ws : va_W) (sz : Nat) : State → Prop := fun U => U.heap.size = sz ∧ va_P D cl ws U.heap ∧ va_K D cl tys U ∧ va_D (fun _ => True) ws
def cu_Out (D : va_G) (cl : List vw_C) (tys : List (ClassId × FieldType)) (A : Nat → Prop) (ws : va_W) : State → Prop := fun t => va_P D cl ws t.heap ∧ va_K D cl tys t ∧ va_D A ws
section
variable {p : Program} {l : Launch} {e : Env} {R : Room} {s : State} {m : MethodId} {args : Array Value} {below : List Frame} {meth : Method} {c : Code} {H : Heap} {locs : List Loc} {cells slots : Nat} {Q : State → Prop}
variable {cc : ByteArray} {pc : Nat} {ls : Array Slot} {rest : List Value} {D : va_G} {cl : List vw_C} {A : Nat → Prop} {a : Nat} {tys : List (ClassId × FieldType)} {ws : va_W} {H0 : Heap}
theorem cu_loop {σ : Type} {st : List Value} (I : σ → Heap → List Loc → Array Slot → Prop) (μ : σ → Nat) (step : ∀ (x : σ) (H : Heap) (locs : List Loc) (ls : Array Slot), I x H locs ls → (∀ (x' : σ) (H' : Heap) (locs' : List Loc) (ls' : Array Slot), I x' H' locs' ls' → μ x' < μ x → W p l e R s m args below meth c H' locs' cells slots Q (F0 m pc ls' st)) → W p l e R s m args below meth c H locs cells slots Q (F0 m pc ls st)) (x : σ) (h : I x H locs ls) : W p l e R s m args below meth c H locs cells slots Q (F0 m pc ls st) := by
  have key : ∀ (k : Nat) (x : σ) (H : Heap) (locs : List Loc) (ls : Array Slot), μ x < k → I x H locs ls → W p l e R s m args below meth c H locs cells slots Q (F0 m pc ls st) := by
    intro k
    induction k with
    | zero => intro x H locs ls h; omega
    | succ k ih =>
      intro x H locs ls hk hI
      exact step x H locs ls hI (fun x' H' locs' ls' hI' hlt => ih x' H' locs' ls' (by omega) hI')
  exact key (μ x + 1) x H locs ls (by omega) h
theorem cu_top {x y : Int32} (h : x = y) (k : W p l e R s m args below meth c H locs cells slots Q (F0 m pc ls (.int y :: rest))) : W p l e R s m args below meth c H locs cells slots Q (F0 m pc ls (.int x :: rest)) := by
  rw [h]; exact k
theorem cu_topl {x y : Int64} (h : x = y) (k : W p l e R s m args below meth c H locs cells slots Q (F0 m pc ls (.long y :: rest))) : W p l e R s m args below meth c H locs cells slots Q (F0 m pc ls (.long x :: rest)) := by
  rw [h]; exact k
theorem cu_bald (hx : p.tables.exec = Jvm.exec) (hb : c.code = cc) (hK : va_K D cl tys s) (hP : va_P D cl ws H) (q0 t0 : Nat) {cA : ClassId} {n : Nat} {f : Nat → Int32} (ha : ws[q0]? = some (a, .inl (cA, n, .inl f))) (ht : tys[t0]? = some (cA, .byte)) (k : Nat) (hk : k < n) (hn : n < 2 ^ 31) {v : Int32} (hv : f k = v) (hdg : decode cc pc = .ok (.baload, 1))
    (kk : W p l e R s m args below meth c H locs cells slots Q (F0 m (pc + 1) ls (.int v :: rest))) : W p l e R s m args below meth c H locs cells slots Q (F0 m pc ls (.int (nI k) :: .ref a :: rest)) := by
  subst hv
  refine va_bald hx hb hK hP q0 t0 ha ht (vp_in_nI hk hn) hdg ?_
  rw [nI_clamp (by omega)]; exact kk
theorem cu_iald (hx : p.tables.exec = Jvm.exec) (hb : c.code = cc) (hK : va_K D cl tys s) (hP : va_P D cl ws H) (q0 t0 : Nat) {cA : ClassId} {n : Nat} {f : Nat → Int32} (ha : ws[q0]? = some (a, .inl (cA, n, .inl f))) (ht : tys[t0]? = some (cA, .int)) (k : Nat) (hk : k < n) (hn : n < 2 ^ 31) {v : Int32} (hv : f k = v) (hdg : decode cc pc = .ok (.iaload, 1))
    (kk : W p l e R s m args below meth c H locs cells slots Q (F0 m (pc + 1) ls (.int v :: rest))) : W p l e R s m args below meth c H locs cells slots Q (F0 m pc ls (.int (nI k) :: .ref a :: rest)) := by
  subst hv
  refine va_iald hx hb hK hP q0 t0 ha ht (vp_in_nI hk hn) hdg ?_
  rw [nI_clamp (by omega)]; exact kk
theorem cu_zald (hx : p.tables.exec = Jvm.exec) (hb : c.code = cc) (hK : va_K D cl tys s) (hP : va_P D cl ws H) (q0 t0 : Nat) {cA : ClassId} {n : Nat} {f : Nat → Int32} (ha : ws[q0]? = some (a, .inl (cA, n, .inl f))) (ht : tys[t0]? = some (cA, .boolean)) (k : Nat) (hk : k < n) (hn : n < 2 ^ 31) {v : Int32} (hv : f k = v) (hdg : decode cc pc = .ok (.baload, 1))
    (kk : W p l e R s m args below meth c H locs cells slots Q (F0 m (pc + 1) ls (.int v :: rest))) : W p l e R s m args below meth c H locs cells slots Q (F0 m pc ls (.int (nI k) :: .ref a :: rest)) := by
  subst hv
  refine va_zald hx hb hK hP q0 t0 ha ht (vp_in_nI hk hn) hdg ?_
  rw [nI_clamp (by omega)]; exact kk
theorem cu_lald (hx : p.tables.exec = Jvm.exec) (hb : c.code = cc) (hK : va_K D cl tys s) (hP : va_P D cl ws H) (q0 t0 : Nat) {cA : ClassId} {n : Nat} {f : Nat → Int64} (ha : ws[q0]? = some (a, .inl (cA, n, .inr (.inl f)))) (ht : tys[t0]? = some (cA, .long)) (k : Nat) (hk : k < n) (hn : n < 2 ^ 31) {v : Int64} (hv : f k = v) (hdg : decode cc pc = .ok (.laload, 1))
    (kk : W p l e R s m args below meth c H locs cells slots Q (F0 m (pc + 1) ls (.long v :: rest))) : W p l e R s m args below meth c H locs cells slots Q (F0 m pc ls (.int (nI k) :: .ref a :: rest)) := by
  subst hv
  refine va_lald hx hb hK hP q0 t0 ha ht (vp_in_nI hk hn) hdg ?_
  rw [nI_clamp (by omega)]; exact kk
theorem cu_bast (hx : p.tables.exec = Jvm.exec) (hb : c.code = cc) (hK : va_K D cl tys s) (hP : va_P D cl ws H) (hD : va_D A ws) (hS : va_S A H0 H locs) (q0 t0 : Nat) {cA : ClassId} {n : Nat} {f : Nat → Int32} (ha : ws[q0]? = some (a, .inl (cA, n, .inl f))) (ht : tys[t0]? = some (cA, .byte)) (k : Nat) (hk : k < n) (hn : n < 2 ^ 31) {x : Int32} {f' : Nat → Int32} (hf : upd f k (vp_nar .byte x) = f') (hdg : decode cc pc = .ok (.bastore, 1))
    (kk : ∀ (H1 : Heap) (locs1 : List Loc), va_P D cl (ws.set q0 (a, .inl (cA, n, .inl f'))) H1 → va_D A (ws.set q0 (a, .inl (cA, n, .inl f'))) → va_S A H0 H1 locs1 → W p l e R s m args below meth c H1 locs1 cells slots Q (F0 m (pc + 1) ls rest)) : W p l e R s m args below meth c H locs cells slots Q (F0 m pc ls (.int x :: .int (nI k) :: .ref a :: rest)) := by
  subst hf
  refine va_bast hx hb hK hP hD hS q0 t0 ha ht (vp_in_nI hk hn) hdg ?_
  rw [nI_clamp (by omega)]; exact kk
theorem cu_zast (hx : p.tables.exec = Jvm.exec) (hb : c.code = cc) (hK : va_K D cl tys s) (hP : va_P D cl ws H) (hD : va_D A ws) (hS : va_S A H0 H locs) (q0 t0 : Nat) {cA : ClassId} {n : Nat} {f : Nat → Int32} (ha : ws[q0]? = some (a, .inl (cA, n, .inl f))) (ht : tys[t0]? = some (cA, .boolean)) (k : Nat) (hk : k < n) (hn : n < 2 ^ 31) {x : Int32} {f' : Nat → Int32} (hf : upd f k (vp_nar .boolean x) = f') (hdg : decode cc pc = .ok (.bastore, 1))
    (kk : ∀ (H1 : Heap) (locs1 : List Loc), va_P D cl (ws.set q0 (a, .inl (cA, n, .inl f'))) H1 → va_D A (ws.set q0 (a, .inl (cA, n, .inl f'))) → va_S A H0 H1 locs1 → W p l e R s m args below meth c H1 locs1 cells slots Q (F0 m (pc + 1) ls rest)) : W p l e R s m args below meth c H locs cells slots Q (F0 m pc ls (.int x :: .int (nI k) :: .ref a :: rest)) := by
  subst hf
  refine va_zast hx hb hK hP hD hS q0 t0 ha ht (vp_in_nI hk hn) hdg ?_
  rw [nI_clamp (by omega)]; exact kk
theorem cu_iast (hx : p.tables.exec = Jvm.exec) (hb : c.code = cc) (hK : va_K D cl tys s) (hP : va_P D cl ws H) (hD : va_D A ws) (hS : va_S A H0 H locs) (q0 t0 : Nat) {cA : ClassId} {n : Nat} {f : Nat → Int32} (ha : ws[q0]? = some (a, .inl (cA, n, .inl f))) (ht : tys[t0]? = some (cA, .int)) (k : Nat) (hk : k < n) (hn : n < 2 ^ 31) {x : Int32} {f' : Nat → Int32} (hf : upd f k x = f') (hdg : decode cc pc = .ok (.iastore, 1))
    (kk : ∀ (H1 : Heap) (locs1 : List Loc), va_P D cl (ws.set q0 (a, .inl (cA, n, .inl f'))) H1 → va_D A (ws.set q0 (a, .inl (cA, n, .inl f'))) → va_S A H0 H1 locs1 → W p l e R s m args below meth c H1 locs1 cells slots Q (F0 m (pc + 1) ls rest)) : W p l e R s m args below meth c H locs cells slots Q (F0 m pc ls (.int x :: .int (nI k) :: .ref a :: rest)) := by
  subst hf
  refine va_iast hx hb hK hP hD hS q0 t0 ha ht (vp_in_nI hk hn) hdg ?_
  rw [nI_clamp (by omega)]; exact kk
theorem cu_last (hx : p.tables.exec = Jvm.exec) (hb : c.code = cc) (hK : va_K D cl tys s) (hP : va_P D cl ws H) (hD : va_D A ws) (hS : va_S A H0 H locs) (q0 t0 : Nat) {cA : ClassId} {n : Nat} {f : Nat → Int64} (ha : ws[q0]? = some (a, .inl (cA, n, .inr (.inl f)))) (ht : tys[t0]? = some (cA, .long)) (k : Nat) (hk : k < n) (hn : n < 2 ^ 31) {x : Int64} {f' : Nat → Int64} (hf : vp_updL f k x = f') (hdg : decode cc pc = .ok (.lastore, 1))
    (kk : ∀ (H1 : Heap) (locs1 : List Loc), va_P D cl (ws.set q0 (a, .inl (cA, n, .inr (.inl f')))) H1 → va_D A (ws.set q0 (a, .inl (cA, n, .inr (.inl f')))) → va_S A H0 H1 locs1 → W p l e R s m args below meth c H1 locs1 cells slots Q (F0 m (pc + 1) ls rest)) : W p l e R s m args below meth c H locs cells slots Q (F0 m pc ls (.long x :: .int (nI k) :: .ref a :: rest)) := by
  subst hf
  refine va_last hx hb hK hP hD hS q0 t0 ha ht (vp_in_nI hk hn) hdg ?_
  rw [nI_clamp (by omega)]; exact kk
section
variable {j k tgt : Nat} {off : Int}
theorem cu_icmp_eq (hj : j < 2 ^ 31) (hk : k < 2 ^ 31) (hx : p.tables.exec = Jvm.exec) (hb : c.code = cc) (hdg : decode cc pc = .ok (.if_icmp .eq off, 3)) (ht : (pc : Int) + off = (tgt : Int)) (kt : j = k → W p l e R s m args below meth c H locs cells slots Q (F0 m tgt ls rest)) (kf : ¬ j = k → W p l e R s m args below meth c H locs cells slots Q (F0 m (pc + 3) ls rest)) : W p l e R s m args below meth c H locs cells slots Q (F0 m pc ls (.int (nI k) :: .int (nI j) :: rest)) :=
  lv_icmp_eq hx hb hdg ht (fun h => kt ((nI_eq hj hk).mp h)) (fun h => kf (fun z => h ((nI_eq hj hk).mpr z)))
theorem cu_icmp_ne (hj : j < 2 ^ 31) (hk : k < 2 ^ 31) (hx : p.tables.exec = Jvm.exec) (hb : c.code = cc) (hdg : decode cc pc = .ok (.if_icmp .ne off, 3)) (ht : (pc : Int) + off = (tgt : Int)) (kt : ¬ j = k → W p l e R s m args below meth c H locs cells slots Q (F0 m tgt ls rest)) (kf : j = k → W p l e R s m args below meth c H locs cells slots Q (F0 m (pc + 3) ls rest)) : W p l e R s m args below meth c H locs cells slots Q (F0 m pc ls (.int (nI k) :: .int (nI j) :: rest)) :=
  lv_icmp_ne hx hb hdg ht (fun h => kt (fun z => h ((nI_eq hj hk).mpr z))) (fun h => kf ((nI_eq hj hk).mp h))
theorem cu_icmp_lt (hj : j < 2 ^ 31) (hk : k < 2 ^ 31) (hx : p.tables.exec = Jvm.exec) (hb : c.code = cc) (hdg : decode cc pc = .ok (.if_icmp .lt off, 3)) (ht : (pc : Int) + off = (tgt : Int)) (kt : j < k → W p l e R s m args below meth c H locs cells slots Q (F0 m tgt ls rest)) (kf : ¬ j < k → W p l e R s m args below meth c H locs cells slots Q (F0 m (pc + 3) ls rest)) : W p l e R s m args below meth c H locs cells slots Q (F0 m pc ls (.int (nI k) :: .int (nI j) :: rest)) :=
  lv_icmp_lt hx hb hdg ht (fun h => kt ((nI_ltI hj hk).mp h)) (fun h => kf (fun z => h ((nI_ltI hj hk).mpr z)))
theorem cu_icmp_ge (hj : j < 2 ^ 31) (hk : k < 2 ^ 31) (hx : p.tables.exec = Jvm.exec) (hb : c.code = cc) (hdg : decode cc pc = .ok (.if_icmp .ge off, 3)) (ht : (pc : Int) + off = (tgt : Int)) (kt : k ≤ j → W p l e R s m args below meth c H locs cells slots Q (F0 m tgt ls rest)) (kf : ¬ k ≤ j → W p l e R s m args below meth c H locs cells slots Q (F0 m (pc + 3) ls rest)) : W p l e R s m args below meth c H locs cells slots Q (F0 m pc ls (.int (nI k) :: .int (nI j) :: rest)) :=
  lv_icmp_ge hx hb hdg ht (fun h => kt ((nI_leI hk hj).mp h)) (fun h => kf (fun z => h ((nI_leI hk hj).mpr z)))
theorem cu_icmp_gt (hj : j < 2 ^ 31) (hk : k < 2 ^ 31) (hx : p.tables.exec = Jvm.exec) (hb : c.code = cc) (hdg : decode cc pc = .ok (.if_icmp .gt off, 3)) (ht : (pc : Int) + off = (tgt : Int)) (kt : k < j → W p l e R s m args below meth c H locs cells slots Q (F0 m tgt ls rest)) (kf : ¬ k < j → W p l e R s m args below meth c H locs cells slots Q (F0 m (pc + 3) ls rest)) : W p l e R s m args below meth c H locs cells slots Q (F0 m pc ls (.int (nI k) :: .int (nI j) :: rest)) :=
  lv_icmp_gt hx hb hdg ht (fun h => kt ((nI_ltI hk hj).mp h)) (fun h => kf (fun z => h ((nI_ltI hk hj).mpr z)))
theorem cu_icmp_le (hj : j < 2 ^ 31) (hk : k < 2 ^ 31) (hx : p.tables.exec = Jvm.exec) (hb : c.code = cc) (hdg : decode cc pc = .ok (.if_icmp .le off, 3)) (ht : (pc : Int) + off = (tgt : Int)) (kt : j ≤ k → W p l e R s m args below meth c H locs cells slots Q (F0 m tgt ls rest)) (kf : ¬ j ≤ k → W p l e R s m args below meth c H locs cells slots Q (F0 m (pc + 3) ls rest)) : W p l e R s m args below meth c H locs cells slots Q (F0 m pc ls (.int (nI k) :: .int (nI j) :: rest)) :=
  lv_icmp_le hx hb hdg ht (fun h => kt ((nI_leI hj hk).mp h)) (fun h => kf (fun z => h ((nI_leI hj hk).mpr z)))
theorem cu_if_eq (hj : j < 2 ^ 31) (hx : p.tables.exec = Jvm.exec) (hb : c.code = cc) (hdg : decode cc pc = .ok (.ifCond .eq off, 3)) (ht : (pc : Int) + off = (tgt : Int)) (kt : j = 0 → W p l e R s m args below meth c H locs cells slots Q (F0 m tgt ls rest)) (kf : ¬ j = 0 → W p l e R s m args below meth c H locs cells slots Q (F0 m (pc + 3) ls rest)) : W p l e R s m args below meth c H locs cells slots Q (F0 m pc ls (.int (nI j) :: rest)) :=
  lv_if_eq hx hb hdg ht (fun h => kt (cu_nI_inj (h.trans nI_0.symm) hj (by decide))) (fun h => kf (fun z => h (by rw [z]; exact nI_0)))
theorem cu_if_ne (hj : j < 2 ^ 31) (hx : p.tables.exec = Jvm.exec) (hb : c.code = cc) (hdg : decode cc pc = .ok (.ifCond .ne off, 3)) (ht : (pc : Int) + off = (tgt : Int)) (kt : ¬ j = 0 → W p l e R s m args below meth c H locs cells slots Q (F0 m tgt ls rest)) (kf : j = 0 → W p l e R s m args below meth c H locs cells slots Q (F0 m (pc + 3) ls rest)) : W p l e R s m args below meth c H locs cells slots Q (F0 m pc ls (.int (nI j) :: rest)) :=
  lv_if_ne hx hb hdg ht (fun h => kt (fun z => h (by rw [z]; exact nI_0))) (fun h => kf (cu_nI_inj (h.trans nI_0.symm) hj (by decide)))
theorem cu_if_le (hj : j < 2 ^ 31) (hx : p.tables.exec = Jvm.exec) (hb : c.code = cc) (hdg : decode cc pc = .ok (.ifCond .le off, 3)) (ht : (pc : Int) + off = (tgt : Int)) (kt : j = 0 → W p l e R s m args below meth c H locs cells slots Q (F0 m tgt ls rest)) (kf : ¬ j = 0 → W p l e R s m args below meth c H locs cells slots Q (F0 m (pc + 3) ls rest)) : W p l e R s m args below meth c H locs cells slots Q (F0 m pc ls (.int (nI j) :: rest)) :=
  lv_if_le hx hb hdg ht (fun h => kt ((Nat.eq_zero_or_pos j).elim id (fun z => absurd h (nI_nle z hj)))) (fun h => kf (fun z => h (by rw [z]; decide)))
theorem cu_if_lt (hj : j < 2 ^ 31) (hx : p.tables.exec = Jvm.exec) (hb : c.code = cc) (hdg : decode cc pc = .ok (.ifCond .lt off, 3)) (kf : W p l e R s m args below meth c H locs cells slots Q (F0 m (pc + 3) ls rest)) (ht : (pc : Int) + off = (tgt : Int)) : W p l e R s m args below meth c H locs cells slots Q (F0 m pc ls (.int (nI j) :: rest)) :=
  lv_if_lt (tgt := tgt) hx hb hdg ht (fun h => absurd h (nI_pos hj)) (fun _ => kf)
end
theorem cu_blind {av : List Value} {sz : Nat} : FrameBlind (va_Pc av (cu_In D cl tys ws sz)) := by
  intro v U g mk q
  obtain ⟨q0, q1, qP, qK, qD⟩ := q
  exact ⟨q0, q1, qP, va_K.moved (u := U) (U := U.calling g mk v) (Vm.Alike.refl U.vm) qK, qD⟩
theorem cu_preV (hK : va_K D cl tys s) (hP : va_P D cl ws H) (hD : va_D A ws) {b ci : Nat} {As : List Value} {q : vw_C} {fs : List Value} (hc : cl[ci]? = some q) (he : ws[0]? = some (b, .inr (ci, fs))) : PreV s H q.1 b (va_Pc (.ref b :: As) (cu_In D cl tys ws H.size)) As :=
  ⟨cu_blind, va_recv hK hP (ci := ci) (q0 := 0) hc he, fun U hU hW => ⟨rfl, by rw [hU], by rw [hU]; exact hP, va_K.moved hW.alike hK, hD.weaken (fun _ _ _ _ => trivial)⟩⟩
theorem cu_freeW (hD : va_D A ws) (hS : va_S A H0 H locs) (hA : ∀ q, H0.size ≤ q → A q) : ∀ q, va_A ws H.size q → A q := by
  intro q h
  rcases h with ⟨k, e, h⟩ | h
  · exact hD.2 k (q, e) h
  · exact hA q (Nat.le_trans hS.1 h)
section
variable {y : MethodName} {bytes : ByteArray} {maxL nL n index : Nat} {ret : Option FieldType} {wc : List Cond} {rm : Room} {Ts : List Cond} {own : String} {b ci : Nat} {As : List Value} {q : vw_C} {fs : List Value}
theorem cu_calli {S : Type} {post : Int32 → S → Prop} {wsN : S → va_W} (hM : Met l y wc rm (va_Pc (.ref b :: As) (cu_In D cl tys ws H.size)) (va_Qi post (fun u => cu_Out D cl tys (va_A ws H.size) (wsN u)) (va_A ws H.size)) 0 0 (va_A ws H.size)) (S0 : CallFix p m c cc nL s args Ts own) (cw : CallW R s args own q.1 index y bytes maxL ret wc rm 0 0 n) (hK : va_K D cl tys s) (hP : va_P D cl ws H) (hD : va_D A ws) (hS : va_S A s.heap H locs) (hA : ∀ q, s.heap.size ≤ q → A q) (hc : cl[ci]? = some q) (he : ws[0]? = some (b, .inr (ci, fs))) (hf : cells ≤ R.cells ∧ slots ≤ R.slots) (hn : As.length = n) (hsize : ls.size = nL) {st0 : List Value} (hstack : st0 = As.reverse ++ .ref b :: rest) (hroom : (rest.map fun v => v.category).sum ≤ 8) (hdg : decode cc pc = .ok (.invokevirtual index, 3))
    (kk : ∀ (r : Int32) (u : S) (H1 : Heap) (locs1 : List Loc), post r u → va_P D cl (wsN u) H1 → va_D A (wsN u) → va_S A s.heap H1 locs1 → W p l e R s m args below meth c H1 locs1 cells slots Q (F0 m (pc + 3) ls (.int r :: rest))) : W p l e R s m args below meth c H locs cells slots Q (F0 m pc ls st0) := by
  have hF := cu_freeW hD hS hA
  refine va_calli (va_runV (As := As) (rest := rest) S0 hM cw (cu_preV hK hP hD hc he) rfl hn hsize hstack (lv_room hroom) hdg hf) hS (fun q _ h => hF q h) hF (fun r u t H1 locs1 ht hvm hw hB hz1 hk1 hS1 => ?_)
  obtain ⟨hP1, hK1, hD1⟩ := hB
  rw [ht] at hP1
  exact kk r u H1 locs1 hw hP1 (hD1.weaken (fun k q _ h => hF q.1 h)) hS1
theorem cu_calll {S : Type} {post : Int64 → S → Prop} {wsN : S → va_W} (hM : Met l y wc rm (va_Pc (.ref b :: As) (cu_In D cl tys ws H.size)) (va_Ql post (fun u => cu_Out D cl tys (va_A ws H.size) (wsN u)) (va_A ws H.size)) 0 0 (va_A ws H.size)) (S0 : CallFix p m c cc nL s args Ts own) (cw : CallW R s args own q.1 index y bytes maxL ret wc rm 0 0 n) (hK : va_K D cl tys s) (hP : va_P D cl ws H) (hD : va_D A ws) (hS : va_S A s.heap H locs) (hA : ∀ q, s.heap.size ≤ q → A q) (hc : cl[ci]? = some q) (he : ws[0]? = some (b, .inr (ci, fs))) (hf : cells ≤ R.cells ∧ slots ≤ R.slots) (hn : As.length = n) (hsize : ls.size = nL) {st0 : List Value} (hstack : st0 = As.reverse ++ .ref b :: rest) (hroom : (rest.map fun v => v.category).sum ≤ 8) (hdg : decode cc pc = .ok (.invokevirtual index, 3))
    (kk : ∀ (r : Int64) (u : S) (H1 : Heap) (locs1 : List Loc), post r u → va_P D cl (wsN u) H1 → va_D A (wsN u) → va_S A s.heap H1 locs1 → W p l e R s m args below meth c H1 locs1 cells slots Q (F0 m (pc + 3) ls (.long r :: rest))) : W p l e R s m args below meth c H locs cells slots Q (F0 m pc ls st0) := by
  have hF := cu_freeW hD hS hA
  refine va_calll (va_runV (As := As) (rest := rest) S0 hM cw (cu_preV hK hP hD hc he) rfl hn hsize hstack (lv_room hroom) hdg hf) hS (fun q _ h => hF q h) hF (fun r u t H1 locs1 ht hvm hw hB hz1 hk1 hS1 => ?_)
  obtain ⟨hP1, hK1, hD1⟩ := hB
  rw [ht] at hP1
  exact kk r u H1 locs1 hw hP1 (hD1.weaken (fun k q _ h => hF q.1 h)) hS1
theorem cu_callv {S : Type} {post : S → Prop} {wsN : S → va_W} (hM : Met l y wc rm (va_Pc (.ref b :: As) (cu_In D cl tys ws H.size)) (va_Qv post (fun u => cu_Out D cl tys (va_A ws H.size) (wsN u)) (va_A ws H.size)) 0 0 (va_A ws H.size)) (S0 : CallFix p m c cc nL s args Ts own) (cw : CallW R s args own q.1 index y bytes maxL ret wc rm 0 0 n) (hK : va_K D cl tys s) (hP : va_P D cl ws H) (hD : va_D A ws) (hS : va_S A s.heap H locs) (hA : ∀ q, s.heap.size ≤ q → A q) (hc : cl[ci]? = some q) (he : ws[0]? = some (b, .inr (ci, fs))) (hf : cells ≤ R.cells ∧ slots ≤ R.slots) (hn : As.length = n) (hsize : ls.size = nL) {st0 : List Value} (hstack : st0 = As.reverse ++ .ref b :: rest) (hroom : (rest.map fun v => v.category).sum ≤ 8) (hdg : decode cc pc = .ok (.invokevirtual index, 3))
    (kk : ∀ (u : S) (H1 : Heap) (locs1 : List Loc), post u → va_P D cl (wsN u) H1 → va_D A (wsN u) → va_S A s.heap H1 locs1 → W p l e R s m args below meth c H1 locs1 cells slots Q (F0 m (pc + 3) ls rest)) : W p l e R s m args below meth c H locs cells slots Q (F0 m pc ls st0) := by
  have hF := cu_freeW hD hS hA
  refine va_callv (va_runV (As := As) (rest := rest) S0 hM cw (cu_preV hK hP hD hc he) rfl hn hsize hstack (lv_room hroom) hdg hf) hS (fun q _ h => hF q h) hF (fun u t H1 locs1 ht hvm hw hB hz1 hk1 hS1 => ?_)
  obtain ⟨hP1, hK1, hD1⟩ := hB
  rw [ht] at hP1
  exact kk u H1 locs1 hw hP1 (hD1.weaken (fun k q _ h => hF q.1 h)) hS1
end
end
/-! THE WORLDS: the object of ChainUndo with its arrays, that of the reference with its own -/
abbrev vwCl : List vw_C := [(RX0, TX0, 13), (RX1, TX1, 9)]
def XW (ad : Nat → Nat) (cB cI cL : ClassId) (n at_ : Nat) (lg : Int32) (tip : Nat) (und : Int32) (P lev own amt : Nat → Nat) (s1 s2 wu : Nat → Int32) (wl : Nat → Int64) : va_W :=
  [(ad 0, .inr (0, [.int (nI n), .ref (ad 1), .ref (ad 2), .ref (ad 3), .ref (ad 4), .ref (ad 5), .ref (ad 6), .int (nI at_), .int lg, .ref (ad 7), .ref (ad 8), .int (nI tip), .int und])),
   (ad 1, .inl (cB, 20, .inl (fun j => nI (P j)))), (ad 2, .inl (cB, 20, .inl (fun j => nI (lev j)))), (ad 3, .inl (cB, 20, .inl (fun j => nI (own j)))), (ad 4, .inl (cI, 20, .inl (fun j => nI (amt j)))), (ad 5, .inl (cB, 20, .inl s1)), (ad 6, .inl (cB, 20, .inl s2)), (ad 7, .inl (cL, 4, .inr (.inl wl))), (ad 8, .inl (cB, 20, .inl wu))]
abbrev XT (cB cI cL : ClassId) : List (ClassId × FieldType) := [(cB, .byte), (cI, .int), (cL, .long)]
def cu_MP (P : Nat → Nat) : Nat → Int32 := fun j => if j = 0 then -1 else nI (P j)
def MW (ad : Nat → Nat) (cI cZ : ClassId) (n tip : Nat) (und : Int32) (P own amt : Nat → Nat) (s1 s2 tk : Nat → Int32) : va_W :=
  [(ad 0, .inr (1, [.int (nI n), .ref (ad 1), .ref (ad 2), .ref (ad 3), .ref (ad 4), .ref (ad 5), .ref (ad 6), .int (nI tip), .int und])),
   (ad 1, .inl (cI, 20, .inl (cu_MP P))), (ad 2, .inl (cI, 20, .inl (fun j => nI (own j)))), (ad 3, .inl (cI, 20, .inl (fun j => nI (amt j)))), (ad 4, .inl (cI, 20, .inl s1)), (ad 5, .inl (cI, 20, .inl s2)), (ad 6, .inl (cZ, 20, .inl tk))]
abbrev MT (cI cZ : ClassId) : List (ClassId × FieldType) := [(cI, .int), (cZ, .boolean)]
theorem cu_MP_0 (P : Nat → Nat) : cu_MP P 0 = -1 := rfl
theorem cu_MP_s (P : Nat → Nat) {j : Nat} (h : 0 < j) : cu_MP P j = nI (P j) := if_neg (by omega)
theorem cu_MP_up (P : Nat → Nat) {k v : Nat} (h : 0 < k) : upd (cu_MP P) k (nI v) = cu_MP (cu_up P k v) := by
  funext j
  unfold upd cu_MP cu_up
  by_cases h1 : j = k
  · have h2 : ¬ j = 0 := by omega
    simp [h1]
    intro h3
    omega
  · simp [h1]
theorem cu_nb : ∀ k, k < 100 → vp_nar .byte (nI k) = nI k := by decide +kernel
theorem cu_nbm : vp_nar .byte (-1) = -1 := by decide +kernel
theorem cu_i2b : ∀ k, k < 100 → (nI k).toInt8.toInt32 = nI k := by decide +kernel
theorem cu_i2bm : (-1 : Int32).toInt8.toInt32 = -1 := by decide +kernel
def cu_bI (b : Bool) : Int32 := if b = true then nI 1 else nI 0
theorem cu_bI_t {b : Bool} (h : b = true) : nI 1 = cu_bI b := (if_pos h).symm
theorem cu_bI_f {b : Bool} (h : b = false) : nI 0 = cu_bI b := by rw [h]; rfl
theorem cu_narZ (b : Bool) : narrow .boolean (.int (cu_bI b)) = .int (cu_bI b) := by cases b <;> decide +kernel
theorem cu_inc (t : Nat) : nI t + Int32.ofInt 1 = nI (t + 1) := by
  rw [show Int32.ofInt 1 = 1 from by decide]; exact nI_1 t
theorem cu_inc5 (t : Nat) : nI t + Int32.ofInt 5 = nI (t + 5) := by
  rw [show Int32.ofInt 5 = nI 5 from by decide]; exact nI_add t 5
theorem cu_dec1 (t : Nat) : nI (t + 1) + Int32.ofInt (-1) = nI t := by
  rw [show Int32.ofInt (-1) = -1 from by decide]; exact pk_m1 t
section
variable {p : Program} {l : Launch} {e : Env} {R : Room} {s : State} {m : MethodId} {args : Array Value} {below : List Frame} {meth : Method} {c : Code} {H : Heap} {locs : List Loc} {cells slots : Nat} {Q : State → Prop}
variable {cc : ByteArray} {pc : Nat} {ls : Array Slot} {rest : List Value} {tgt : Nat} {off : Int} {x y : Int32} {i j : Int}
theorem cu_cut {pc1 : Nat} {st1 : List Value} {g : JFrame} (I : Heap → List Loc → Array Slot → Prop) (k : ∀ (H1 : Heap) (locs1 : List Loc) (ls1 : Array Slot), I H1 locs1 ls1 → W p l e R s m args below meth c H1 locs1 cells slots Q (F0 m pc1 ls1 st1)) (main : (∀ (H1 : Heap) (locs1 : List Loc) (ls1 : Array Slot), I H1 locs1 ls1 → W p l e R s m args below meth c H1 locs1 cells slots Q (F0 m pc1 ls1 st1)) → W p l e R s m args below meth c H locs cells slots Q g) : W p l e R s m args below meth c H locs cells slots Q g := main k
theorem cuB_if_eq {b : Bool} (hx : p.tables.exec = Jvm.exec) (hb : c.code = cc) (hdg : decode cc pc = .ok (.ifCond .eq off, 3)) (ht : (pc : Int) + off = (tgt : Int)) (kt : b = false → W p l e R s m args below meth c H locs cells slots Q (F0 m tgt ls rest)) (kf : b = true → W p l e R s m args below meth c H locs cells slots Q (F0 m (pc + 3) ls rest)) : W p l e R s m args below meth c H locs cells slots Q (F0 m pc ls (.int (cu_bI b) :: rest)) :=
  lv_if_eq hx hb hdg ht (fun h => kt (by cases b with | false => rfl | true => exact absurd h (by decide))) (fun h => kf (by cases b with | false => exact absurd rfl h | true => rfl))
theorem cuB_if_ne {b : Bool} (hx : p.tables.exec = Jvm.exec) (hb : c.code = cc) (hdg : decode cc pc = .ok (.ifCond .ne off, 3)) (ht : (pc : Int) + off = (tgt : Int)) (kt : b = true → W p l e R s m args below meth c H locs cells slots Q (F0 m tgt ls rest)) (kf : b = false → W p l e R s m args below meth c H locs cells slots Q (F0 m (pc + 3) ls rest)) : W p l e R s m args below meth c H locs cells slots Q (F0 m pc ls (.int (cu_bI b) :: rest)) :=
  lv_if_ne hx hb hdg ht (fun h => kt (by cases b with | false => exact absurd rfl h | true => rfl)) (fun h => kf (by cases b with | false => rfl | true => exact absurd h (by decide)))
theorem cuI_icmp_lt (hi : x.toInt = i) (hj : y.toInt = j) (hx : p.tables.exec = Jvm.exec) (hb : c.code = cc) (hdg : decode cc pc = .ok (.if_icmp .lt off, 3)) (ht : (pc : Int) + off = (tgt : Int)) (kt : i < j → W p l e R s m args below meth c H locs cells slots Q (F0 m tgt ls rest)) (kf : ¬ i < j → W p l e R s m args below meth c H locs cells slots Q (F0 m (pc + 3) ls rest)) : W p l e R s m args below meth c H locs cells slots Q (F0 m pc ls (.int y :: .int x :: rest)) := by
  subst hi; subst hj
  exact lv_icmp_lt hx hb hdg ht (fun h => kt (Int32.lt_iff_toInt_lt.mp h)) (fun h => kf (fun z => h (Int32.lt_iff_toInt_lt.mpr z)))
theorem cuI_icmp_ge (hi : x.toInt = i) (hj : y.toInt = j) (hx : p.tables.exec = Jvm.exec) (hb : c.code = cc) (hdg : decode cc pc = .ok (.if_icmp .ge off, 3)) (ht : (pc : Int) + off = (tgt : Int)) (kt : j ≤ i → W p l e R s m args below meth c H locs cells slots Q (F0 m tgt ls rest)) (kf : ¬ j ≤ i → W p l e R s m args below meth c H locs cells slots Q (F0 m (pc + 3) ls rest)) : W p l e R s m args below meth c H locs cells slots Q (F0 m pc ls (.int y :: .int x :: rest)) := by
  subst hi; subst hj
  exact lv_icmp_ge hx hb hdg ht (fun h => kt (Int32.le_iff_toInt_le.mp h)) (fun h => kf (fun z => h (Int32.le_iff_toInt_le.mpr z)))
theorem cuI_icmp_gt (hi : x.toInt = i) (hj : y.toInt = j) (hx : p.tables.exec = Jvm.exec) (hb : c.code = cc) (hdg : decode cc pc = .ok (.if_icmp .gt off, 3)) (ht : (pc : Int) + off = (tgt : Int)) (kt : j < i → W p l e R s m args below meth c H locs cells slots Q (F0 m tgt ls rest)) (kf : ¬ j < i → W p l e R s m args below meth c H locs cells slots Q (F0 m (pc + 3) ls rest)) : W p l e R s m args below meth c H locs cells slots Q (F0 m pc ls (.int y :: .int x :: rest)) := by
  subst hi; subst hj
  exact lv_icmp_gt hx hb hdg ht (fun h => kt (Int32.lt_iff_toInt_lt.mp h)) (fun h => kf (fun z => h (Int32.lt_iff_toInt_lt.mpr z)))
theorem cuI_icmp_le (hi : x.toInt = i) (hj : y.toInt = j) (hx : p.tables.exec = Jvm.exec) (hb : c.code = cc) (hdg : decode cc pc = .ok (.if_icmp .le off, 3)) (ht : (pc : Int) + off = (tgt : Int)) (kt : i ≤ j → W p l e R s m args below meth c H locs cells slots Q (F0 m tgt ls rest)) (kf : ¬ i ≤ j → W p l e R s m args below meth c H locs cells slots Q (F0 m (pc + 3) ls rest)) : W p l e R s m args below meth c H locs cells slots Q (F0 m pc ls (.int y :: .int x :: rest)) := by
  subst hi; subst hj
  exact lv_icmp_le hx hb hdg ht (fun h => kt (Int32.le_iff_toInt_le.mp h)) (fun h => kf (fun z => h (Int32.le_iff_toInt_le.mpr z)))
theorem cuI_if_lt (hx : p.tables.exec = Jvm.exec) (hb : c.code = cc) (hdg : decode cc pc = .ok (.ifCond .lt off, 3)) (ht : (pc : Int) + off = (tgt : Int)) (kt : x.toInt < 0 → W p l e R s m args below meth c H locs cells slots Q (F0 m tgt ls rest)) (kf : ¬ x.toInt < 0 → W p l e R s m args below meth c H locs cells slots Q (F0 m (pc + 3) ls rest)) : W p l e R s m args below meth c H locs cells slots Q (F0 m pc ls (.int x :: rest)) :=
  lv_if_lt hx hb hdg ht (fun h => kt (Int32.lt_iff_toInt_lt.mp h)) (fun h => kf (fun z => h (Int32.lt_iff_toInt_lt.mpr z)))
theorem cuI_if_le (hx : p.tables.exec = Jvm.exec) (hb : c.code = cc) (hdg : decode cc pc = .ok (.ifCond .le off, 3)) (ht : (pc : Int) + off = (tgt : Int)) (kt : x.toInt ≤ 0 → W p l e R s m args below meth c H locs cells slots Q (F0 m tgt ls rest)) (kf : ¬ x.toInt ≤ 0 → W p l e R s m args below meth c H locs cells slots Q (F0 m (pc + 3) ls rest)) : W p l e R s m args below meth c H locs cells slots Q (F0 m pc ls (.int x :: rest)) :=
  lv_if_le hx hb hdg ht (fun h => kt (Int32.le_iff_toInt_le.mp h)) (fun h => kf (fun z => h (Int32.le_iff_toInt_le.mpr z)))
theorem cuI_if_ge (hx : p.tables.exec = Jvm.exec) (hb : c.code = cc) (hdg : decode cc pc = .ok (.ifCond .ge off, 3)) (ht : (pc : Int) + off = (tgt : Int)) (kt : 0 ≤ x.toInt → W p l e R s m args below meth c H locs cells slots Q (F0 m tgt ls rest)) (kf : ¬ 0 ≤ x.toInt → W p l e R s m args below meth c H locs cells slots Q (F0 m (pc + 3) ls rest)) : W p l e R s m args below meth c H locs cells slots Q (F0 m pc ls (.int x :: rest)) :=
  lv_if_ge hx hb hdg ht (fun h => kt (Int32.le_iff_toInt_le.mp h)) (fun h => kf (fun z => h (Int32.le_iff_toInt_le.mpr z)))
end
end
section
/-! more rows: tests of places, the last common block, the way up, what the calls answer -/
def cu_in (n : Nat) (x : Int32) : Bool := decide (0 ≤ x.toInt ∧ x.toInt < n)
def cu_thb (n : Nat) (lg x : Int32) : Bool := decide (0 < x.toInt ∧ x.toInt < n) && bt lg x.toNatClampNeg
theorem cu_in_of {n : Nat} {x : Int32} (hn : n ≤ 20) (h : cu_in n x = true) : ∃ k, k < n ∧ x = nI k := by
  have h1 := of_decide_eq_true h
  have h2 := cu_clamp h1.1
  exact ⟨x.toNatClampNeg, by omega, cu_nIc h1.1⟩
theorem cu_in_n {n k : Nat} (hn : n ≤ 20) (h : k < n) : cu_in n (nI k) = true := by
  unfold cu_in
  rw [nI_toInt (by omega)]
  exact decide_eq_true (by omega)
theorem cu_rng {n : Nat} {x : Int32} (h0 : 0 ≤ x.toInt) (h : x.toInt < (n : Int)) : ∃ k, k < n ∧ x = nI k := by
  have h2 := cu_clamp h0
  exact ⟨x.toNatClampNeg, by omega, cu_nIc h0⟩
theorem cu_testt (lg : Int32) {c : Nat} (hc : c < 32) (h : ¬ (lg >>> (nI c &&& 31)) &&& nI 1 = 0) : bt lg c = true := by
  cases hq : bt lg c with
  | true => rfl
  | false => exact absurd ((cu_test lg hc).mpr hq) h
theorem cu_th_bt {n : Nat} {P lev own amt : Nat → Nat} {s1 s2 : Nat → Int32} (h : cu_OK n P lev own amt s1 s2) {b : Nat} (hb : b < n) (x : Int32) : cu_thb n (cu_LG P s1 s2 b) x = cu_th n P s1 s2 b x := by
  have hn := h.n20
  unfold cu_thb cu_th
  by_cases hc : 0 < x.toInt ∧ x.toInt < n
  · have h2 := cu_clamp (x := x) (by omega)
    rw [decide_eq_true hc, cu_LG_bit h (by omega) b hb]
  · rw [decide_eq_false hc, Bool.false_and, Bool.false_and]
theorem cu_th_n {n : Nat} {P : Nat → Nat} {s1 s2 : Nat → Int32} {b k : Nat} (hn : n ≤ 20) (hk : 0 < k) (hkn : k < n) : cu_th n P s1 s2 b (nI k) = cu_Lg P s1 s2 k b := by
  unfold cu_th
  rw [nI_toInt (by omega), nI_clamp (by omega), decide_eq_true (by omega), Bool.true_and]
theorem cu_An_0 {n : Nat} {P lev own amt : Nat → Nat} {s1 s2 : Nat → Int32} (h : cu_OK n P lev own amt s1 s2) : ∀ b, b < n → cu_An P 0 b = true := by
  intro b
  induction b using Nat.strongRecOn with
  | _ b ih =>
    intro hb
    by_cases h0 : b = 0
    · rw [h0]; exact cu_An_self P 0
    · have hp := h.pos (by omega) hb
      exact cu_An_iff.mpr (Or.inr ⟨hp, ih (P b) hp (by omega)⟩)
theorem cu_mt_both {P : Nat → Nat} {a b k : Nat} (h1 : cu_An P k a = true) (h2 : cu_An P k b = true) : ∀ n, k < n → cu_An P (cu_mt P a b n) a = true ∧ cu_An P (cu_mt P a b n) b = true := by
  intro n
  induction n with
  | zero => intro h; omega
  | succ q ih =>
    intro hk
    rw [cu_mt]
    by_cases e : cu_An P q a = true ∧ cu_An P q b = true
    · rw [if_pos e]; exact e
    · rw [if_neg e]
      by_cases hkq : k = q
      · rw [hkq] at h1 h2; exact absurd ⟨h1, h2⟩ e
      · exact ih (by omega)
theorem cu_mt_An {n : Nat} {P lev own amt : Nat → Nat} {s1 s2 : Nat → Int32} (h : cu_OK n P lev own amt s1 s2) {a b : Nat} (ha : a < n) (hb : b < n) : cu_An P (cu_mt P a b n) a = true ∧ cu_An P (cu_mt P a b n) b = true :=
  cu_mt_both (cu_An_0 h a ha) (cu_An_0 h b hb) n (by omega)
/-- the reference's and the class's way to the last common block: a step down of the higher one -/
theorem cu_part_step {n : Nat} {P lev own amt : Nat → Nat} {s1 s2 : Nat → Int32} (h : cu_OK n P lev own amt s1 s2) {x y : Nat} (hx : x < n) (hy : y < n) (hne : x ≠ y) (hl : lev y ≤ lev x) : 0 < x ∧ P x < x ∧ ∀ k, (cu_An P k x = true ∧ cu_An P k y = true) ↔ (cu_An P k (P x) = true ∧ cu_An P k y = true) := by
  have hx0 : 0 < x := by
    rcases Nat.eq_zero_or_pos x with e | e
    · exfalso
      rw [e, h.2.2.2.1] at hl
      exact hne (by rw [e, h.lev_pos hy (by omega)])
    · exact e
  have hp := h.pos hx0 hx
  refine ⟨hx0, hp, fun k => ⟨fun ⟨h1, h2⟩ => ⟨?_, h2⟩, fun ⟨h1, h2⟩ => ⟨cu_An_iff.mpr (Or.inr ⟨hp, h1⟩), h2⟩⟩⟩
  rcases cu_An_iff.mp h1 with e | ⟨-, e⟩
  · exfalso
    rw [e] at h2
    rcases cu_An_lev h y hy h2 with z | z
    · exact hne z
    · omega
  · exact e
theorem cu_part_end {n : Nat} {P : Nat → Nat} {a b x : Nat} (hx : x < n) (h : ∀ k, (cu_An P k a = true ∧ cu_An P k b = true) ↔ (cu_An P k x = true ∧ cu_An P k x = true)) : cu_mt P a b n = x := by
  have h1 := (h x).mpr ⟨cu_An_self P x, cu_An_self P x⟩
  exact cu_mt_eq h1.1 h1.2 (fun k h2 h3 => cu_An_le x ((h k).mp ⟨h2, h3⟩).1) n hx
def cu_it (P : Nat → Nat) : Nat → Nat → Nat
  | 0, b => b
  | i + 1, b => P (cu_it P i b)
theorem cu_p1 (j : Nat) : nI (j + 1) - nI 1 = nI j := by
  rw [pk_sub (by omega)]; rfl
theorem cu_decI (x : Int32) : x + Int32.ofInt (-1) = x - nI 1 := by
  rw [show Int32.ofInt (-1) = -(nI 1) from by decide +kernel, Int32.sub_eq_add_neg]
def cu_ci (own : Nat → Nat) (x : Int32) : Prop := x = -1 ∨ ∃ c, x = nI c ∧ c < 20 ∧ own c < 4
theorem cu_OK.ci {n : Nat} {P lev own amt : Nat → Nat} {s1 s2 : Nat → Int32} (h : cu_OK n P lev own amt s1 s2) {b : Nat} (h0 : 0 < b) (hb : b < n) : cu_ci own (s1 b) ∧ cu_ci own (s2 b) := by
  have hn := h.n20
  have hp := h.pos h0 hb
  have key : ∀ c, cu_Lg P s1 s2 c (P b) = true → c < 20 ∧ own c < 4 := by
    intro c hc
    have h1 := cu_Lg_le _ hc
    have h2 := h.own_le (b := c) (by omega) (by omega)
    omega
  rcases h.sp h0 hb with ⟨e1, e2⟩ | ⟨c, e1, hc, hd⟩
  · exact ⟨Or.inl e1, Or.inl e2⟩
  · refine ⟨Or.inr ⟨c, e1, key c hc⟩, ?_⟩
    rcases hd with e2 | ⟨d, -, e2, hd⟩
    · exact Or.inl e2
    · exact Or.inr ⟨d, e2, key d hd⟩
/-- the class's world behind a call, by the state -/
def XS (ad : Nat → Nat) (cB cI cL : ClassId) (S : cu_S) (wu : Nat → Int32) : va_W := match S with
  | (n, tip, und, P, lev, own, amt, s1, s2) => XW ad cB cI cL n tip (cu_LG P s1 s2 tip) tip und P lev own amt s1 s2 wu (cu_WL P s1 s2 own amt tip)
def MS (ad : Nat → Nat) (cI cZ : ClassId) (S : cu_S) (tk : Nat → Int32) : va_W := match S with
  | (n, tip, und, P, _, own, amt, s1, s2) => MW ad cI cZ n tip und P own amt s1 s2 tk
section
variable {n tip : Nat} {und : Int32} {P lev own amt : Nat → Nat} {s1 s2 : Nat → Int32}
theorem cu_add_t {a o m : Nat} {x y : Int32} (h : cu_up lev n (lev a + 1) tip < cu_up lev n (lev a + 1) n) : cu_add (n, tip, und, P, lev, own, amt, s1, s2) a o m x y = (n + 1, n, nI (cu_up lev n (lev a + 1) tip - cu_up lev n (lev a + 1) (cu_mt (cu_up P n a) tip n (n + 1))), cu_up P n a, cu_up lev n (lev a + 1), cu_up own n o, cu_up amt n m, upd s1 n x, upd s2 n y) := by
  unfold cu_add
  dsimp only
  rw [if_pos h, if_pos h]
theorem cu_add_f {a o m : Nat} {x y : Int32} (h : ¬ cu_up lev n (lev a + 1) tip < cu_up lev n (lev a + 1) n) : cu_add (n, tip, und, P, lev, own, amt, s1, s2) a o m x y = (n + 1, tip, und, cu_up P n a, cu_up lev n (lev a + 1), cu_up own n o, cu_up amt n m, upd s1 n x, upd s2 n y) := by
  unfold cu_add
  dsimp only
  rw [if_neg h, if_neg h]
theorem cu_mint_full {p o a : Int32} (h : n = 20) : cu_mint (n, tip, und, P, lev, own, amt, s1, s2) p o a = (-2, (n, tip, und, P, lev, own, amt, s1, s2)) := if_pos h
theorem cu_mint_bad {p o a : Int32} (h : n ≠ 20) (hc : ¬ (0 ≤ p.toInt ∧ p.toInt < n ∧ 0 ≤ o.toInt ∧ o.toInt ≤ 3 ∧ 1 ≤ a.toInt ∧ a.toInt ≤ 100)) : cu_mint (n, tip, und, P, lev, own, amt, s1, s2) p o a = (-1, (n, tip, und, P, lev, own, amt, s1, s2)) := (if_neg h).trans (if_neg hc)
theorem cu_mint_ok {a o m : Nat} (h : n < 20) (ha : a < n) (ho : o ≤ 3) (h1 : 1 ≤ m) (h2 : m ≤ 100) : cu_mint (n, tip, und, P, lev, own, amt, s1, s2) (nI a) (nI o) (nI m) = (nI n, cu_add (n, tip, und, P, lev, own, amt, s1, s2) a o m (-1) (-1)) := by
  unfold cu_mint
  dsimp only
  rw [if_neg (by omega), nI_toInt (by omega), nI_toInt (by omega), nI_toInt (by omega), nI_clamp (by omega), nI_clamp (by omega), nI_clamp (by omega), if_pos (by omega)]
theorem cu_pay_full {p o f g : Int32} (h : n = 20) : cu_pay (n, tip, und, P, lev, own, amt, s1, s2) p o f g = (-2, (n, tip, und, P, lev, own, amt, s1, s2)) := if_pos h
theorem cu_pay_bad {p o f g : Int32} (h : n ≠ 20) (hc : ¬ (0 ≤ p.toInt ∧ p.toInt < n ∧ 0 ≤ o.toInt ∧ o.toInt ≤ 3)) : cu_pay (n, tip, und, P, lev, own, amt, s1, s2) p o f g = (-1, (n, tip, und, P, lev, own, amt, s1, s2)) := (if_neg h).trans (if_neg hc)
theorem cu_pay_uns {a o : Nat} {f g : Int32} (h : n < 20) (ha : a < n) (ho : o ≤ 3) (hs : cu_sound n P s1 s2 a f g = false) : cu_pay (n, tip, und, P, lev, own, amt, s1, s2) (nI a) (nI o) f g = (-3, (n, tip, und, P, lev, own, amt, s1, s2)) := by
  unfold cu_pay
  dsimp only
  rw [if_neg (by omega), nI_toInt (by omega), nI_toInt (by omega), if_pos (by omega), nI_clamp (by omega), if_neg (by rw [hs]; decide)]
theorem cu_pay_ok {a o : Nat} {f g : Int32} (h : n < 20) (ha : a < n) (ho : o ≤ 3) (hs : cu_sound n P s1 s2 a f g = true) : cu_pay (n, tip, und, P, lev, own, amt, s1, s2) (nI a) (nI o) f g = (nI n, cu_add (n, tip, und, P, lev, own, amt, s1, s2) a o (cu_am amt f g) f g) := by
  unfold cu_pay
  dsimp only
  rw [if_neg (by omega), nI_toInt (by omega), nI_toInt (by omega), if_pos (by omega), nI_clamp (by omega), nI_clamp (by omega), if_pos hs]
theorem cu_forget_no {b : Int32} (h : ¬ (0 < b.toInt ∧ b.toInt = (n : Int) - 1 ∧ b.toInt ≠ (tip : Int))) : cu_forget (n, tip, und, P, lev, own, amt, s1, s2) b = (-4, (n, tip, und, P, lev, own, amt, s1, s2)) := if_neg h
theorem cu_forget_ok {b : Int32} (h : 0 < b.toInt ∧ b.toInt = (n : Int) - 1 ∧ b.toInt ≠ (tip : Int)) : cu_forget (n, tip, und, P, lev, own, amt, s1, s2) b = (b, (n - 1, tip, und, P, lev, own, amt, s1, s2)) := if_pos h
/-- the new block changes nothing behind the tip -/
theorem cu_LG_add (ht : tip < n) {a : Nat} {x y : Int32} : cu_LG P s1 s2 tip = cu_LG (cu_up P n a) (upd s1 n x) (upd s2 n y) tip :=
  cu_LG_loc tip (fun j hj => by
    have hjn : j ≠ n := by omega
    exact ⟨(cu_up_n P a hjn).symm, (pk_un hjn).symm, (pk_un hjn).symm⟩)
theorem cu_WL_add (h : cu_OK n P lev own amt s1 s2) (ht : tip < n) {a o m : Nat} {x y : Int32} : cu_WL P s1 s2 own amt tip = cu_WL (cu_up P n a) (upd s1 n x) (upd s2 n y) (cu_up own n o) (cu_up amt n m) tip :=
  cu_WL_loc h (fun j hj => by
    have hjn : j ≠ n := by omega
    exact ⟨(cu_up_n P a hjn).symm, (pk_un hjn).symm, (pk_un hjn).symm, (cu_up_n own o hjn).symm, (cu_up_n amt m hjn).symm⟩) tip ht
end
def cu_ht (n : Nat) (lev : Nat → Nat) (x : Int32) : Int32 := if cu_in n x = true then nI (lev x.toNatClampNeg) else -1
def cu_amo (n : Nat) (amt : Nat → Nat) (x : Int32) : Int32 := if cu_in n x = true then nI (amt x.toNatClampNeg) else nI 0
def cu_mee (n : Nat) (P : Nat → Nat) (x y : Int32) : Int32 := if cu_in n x = true ∧ cu_in n y = true then nI (cu_mt P x.toNatClampNeg y.toNatClampNeg n) else -1
theorem cu_ht_n {n k : Nat} {lev : Nat → Nat} (hn : n ≤ 20) (h : k < n) : nI (lev k) = cu_ht n lev (nI k) := by
  unfold cu_ht; rw [if_pos (cu_in_n hn h), nI_clamp (by omega)]
theorem cu_ht_o {n : Nat} {lev : Nat → Nat} {x : Int32} (h : cu_in n x = false) : (-1) = cu_ht n lev x := by
  unfold cu_ht; rw [h]; rfl
theorem cu_amo_n {n k : Nat} {amt : Nat → Nat} (hn : n ≤ 20) (h : k < n) : nI (amt k) = cu_amo n amt (nI k) := by
  unfold cu_amo; rw [if_pos (cu_in_n hn h), nI_clamp (by omega)]
theorem cu_amo_o {n : Nat} {amt : Nat → Nat} {x : Int32} (h : cu_in n x = false) : nI 0 = cu_amo n amt x := by
  unfold cu_amo; rw [h]; rfl
theorem cu_mee_n {n j k : Nat} {P : Nat → Nat} (hn : n ≤ 20) (hj : j < n) (h : k < n) : nI (cu_mt P j k n) = cu_mee n P (nI j) (nI k) := by
  unfold cu_mee; rw [if_pos ⟨cu_in_n hn hj, cu_in_n hn h⟩, nI_clamp (by omega), nI_clamp (by omega)]
theorem cu_mee_1 {n : Nat} {P : Nat → Nat} {x y : Int32} (h : cu_in n x = false) : (-1) = cu_mee n P x y := by
  unfold cu_mee; rw [if_neg (by rw [h]; exact fun z => absurd z.1 (by decide))]
theorem cu_mee_2 {n : Nat} {P : Nat → Nat} {x y : Int32} (h : cu_in n y = false) : (-1) = cu_mee n P x y := by
  unfold cu_mee; rw [if_neg (by rw [h]; exact fun z => absurd z.2 (by decide))]
theorem cu_lle (a : Int32) {k : Nat} (hk : k < 2 ^ 62) : a.toInt64 ≤ lN k ↔ a.toInt ≤ (k : Int) := by
  rw [Int64.le_iff_toInt_le, pk_lT (by omega), Int32.toInt_toInt64]
section
variable {p : Program} {l : Launch} {e : Env} {R : Room} {s : State} {m : MethodId} {args : Array Value} {below : List Frame} {meth : Method} {c : Code} {locs : List Loc} {cells slots : Nat} {Q : State → Prop} {g : JFrame}
theorem cu_start (k : ∀ (H : Heap) (locs : List Loc), H = s.heap → locs = [] → W p l e R s m args below meth c H locs cells slots Q g) : W p l e R s m args below meth c s.heap [] cells slots Q g := k _ _ rfl rfl
end
section
variable {n tip : Nat} {und : Int32} {P lev own amt : Nat → Nat} {s1 s2 : Nat → Int32}
theorem cu_OK.amt_pow (h : cu_OK n P lev own amt s1 s2) {k : Nat} (h0 : 0 < k) (hk : k < n) : 2 * amt k ≤ 100 * 2 ^ n := by
  have h1 := (h.2.2.2.2.2 k h0 hk).2.2.2.2.1
  have h2 : 2 ^ k ≤ 2 ^ (n - 1) := Nat.pow_le_pow_right (by decide) (by omega)
  have h3 : 2 ^ n = 2 ^ (n - 1) * 2 := by rw [← Nat.pow_succ]; congr 1; omega
  omega
theorem cu_OK.add0 (h : cu_OK n P lev own amt s1 s2) (hn : n < 20) {a o m : Nat} (ha : a < n) (ho : o ≤ 3) (hm : 1 ≤ m) (hm2 : m ≤ 100) : cu_OK (n + 1) (cu_up P n a) (cu_up lev n (lev a + 1)) (cu_up own n o) (cu_up amt n m) (upd s1 n (-1)) (upd s2 n (-1)) := by
  have hpow : 1 ≤ 2 ^ n := Nat.one_le_two_pow
  exact h.add hn ha ho hm (by omega) (Or.inl ⟨rfl, rfl⟩)
theorem cu_OK.add1 (h : cu_OK n P lev own amt s1 s2) (hn : n < 20) {a o k : Nat} (ha : a < n) (ho : o ≤ 3) (h0 : 0 < k) (hk : k < n) (hL : cu_Lg P s1 s2 k a = true) : cu_OK (n + 1) (cu_up P n a) (cu_up lev n (lev a + 1)) (cu_up own n o) (cu_up amt n (amt k)) (upd s1 n (nI k)) (upd s2 n (-1)) := by
  have h1 := h.amt_pow h0 hk
  exact h.add hn ha ho (h.amt_pos h0 hk) (by omega) (Or.inr ⟨k, rfl, hL, Or.inl rfl⟩)
theorem cu_OK.add2 (h : cu_OK n P lev own amt s1 s2) (hn : n < 20) {a o k j : Nat} (ha : a < n) (ho : o ≤ 3) (h0 : 0 < k) (hk : k < n) (hL : cu_Lg P s1 s2 k a = true) (j0 : 0 < j) (hj : j < n) (hL2 : cu_Lg P s1 s2 j a = true) (hne : j ≠ k) : cu_OK (n + 1) (cu_up P n a) (cu_up lev n (lev a + 1)) (cu_up own n o) (cu_up amt n (amt k + amt j)) (upd s1 n (nI k)) (upd s2 n (nI j)) := by
  have h1 := h.amt_pow h0 hk
  have h2 := h.amt_pow j0 hj
  have h3 := h.amt_pos h0 hk
  exact h.add hn ha ho (by omega) (by omega) (Or.inr ⟨k, rfl, hL, Or.inr ⟨j, hne, rfl, hL2⟩⟩)
theorem cu_am_1 {amt : Nat → Nat} {k : Nat} (h : k < 2 ^ 31) : cu_am amt (nI k) (-1) = amt k := by unfold cu_am; rw [if_pos rfl, nI_clamp h]
theorem cu_am_2 {amt : Nat → Nat} {k j : Nat} (h : k < 2 ^ 31) (hj : j < 2 ^ 31) : cu_am amt (nI k) (nI j) = amt k + amt j := by unfold cu_am; rw [if_neg (fun z => cu_m1 hj z.symm), nI_clamp h, nI_clamp hj]
end
end
section
/-! contracts: printed by gen/make.py -/
set_option maxHeartbeats 4000000 in
set_option maxRecDepth 100000 in
/-- isBlock(x) -/
theorem mX_isBlock (l : Launch) (D : va_G) (ad : Nat → Nat) (cB cI cL : ClassId) (sz : Nat) (n at_ : Nat) (lg : Int32) (tip : Nat) (und : Int32) (P lev own amt : Nat → Nat) (s1 s2 wu : Nat → Int32) (wl : Nat → Int64) (x : Int32) (hn : n ≤ 20) : Met l yX0_isBlock (ws_ yX0_isBlock cX0_isBlock 2 (some .boolean)) ({ frames := 0, cells := 0, slots := 0, locals := 0 }) (va_Pc [.ref (ad 0), .int x] (cu_In D vwCl (XT cB cI cL) (XW ad cB cI cL n at_ lg tip und P lev own amt s1 s2 wu wl) sz)) (va_Qi (fun (r : Int32) (u : Unit) => r = cu_bI (cu_in n x)) (fun u => cu_Out D vwCl (XT cB cI cL) (va_A (XW ad cB cI cL n at_ lg tip und P lev own amt s1 s2 wu wl) sz) (XW ad cB cI cL n at_ lg tip und P lev own amt s1 s2 wu wl)) (va_A (XW ad cB cI cL n at_ lg tip und P lev own amt s1 s2 wu wl) sz)) 0 0 (va_A (XW ad cB cI cL n at_ lg tip und P lev own amt s1 s2 wu wl) sz) := by
  refine Met.ofW (cc := cX0_isBlock) (maxL := 2) (ret := (some .boolean)) (by decide) rfl ?_
  intro p e s m args below meth c s₁ B hml hv
  obtain ⟨rfl, hsz, hP, hK, hD0⟩ := hv
  have hx := B.exec
  have hb := B.bytes
  have hr := B.returns
  have hts := atoms_spec (ws := ws_ yX0_isBlock cX0_isBlock 2 (some .boolean)) B.pre
  have hts : ∀ w ∈ lw_all, w.before _ s = true := fun w h => hts w (List.mem_cons_of_mem _ h)
  have hown : s.vm.findClass RX0 = some m.cls := findClass_of_methodNamed B.named
  have hlocks := B.notSynchronized
  subst hsz
  have hD := hD0.self (sz := s.heap.size)
  generalize hAe : va_A (XW ad cB cI cL n at_ lg tip und P lev own amt s1 s2 wu wl) s.heap.size = A at hD ⊢
  have hA : ∀ q : Nat, s.heap.size ≤ q → A q := fun q h => by rw [← hAe]; exact Or.inr h
  have hl := lv_entry ([.ref (ad 0), .int x]) (n := 2) (Nat.le_of_ble_eq_true rfl)
  rw [lg_entry_eq]
  generalize (lg_sl ([.ref (ad 0), .int x]) ++ List.replicate (2 - (lg_sl ([.ref (ad 0), .int x])).length) Slot.unset).toArray = ls at hl ⊢
  have hl : lv_has ls 2 [(0, .ref (ad 0)), (1, .int x)] := hl
  refine cu_start (fun H locs eH eL => ?_)
  have hP : va_P D vwCl (XW ad cB cI cL n at_ lg tip und P lev own amt s1 s2 wu wl) H := by rw [eH]; exact hP
  have hS : va_S A s.heap H locs := by rw [eH, eL]; exact va_S.rf
  refine lv_iload_n hx hb dX0_isBlock_0 rfl (lv_at hl 1 rfl) ?_
  refine cuI_if_lt (tgt := 16) hx hb dX0_isBlock_1 (by decide) (fun c1 => ?_) (fun c1 => ?_)
  · refine lv_iconst (v := nI 0) hx hb dX0_isBlock_16 (by decide) ?_
    exact W.zret (v := nI 0) hx hb hr rfl (fun t_ ht_ hW => ⟨⟨nI 0, (), rfl, cu_bI_f (decide_eq_false (by omega)), by rw [ht_]; exact hP, va_K.moved hW.alike hK, hD⟩, hS.F ht_⟩) hS.2.2 dX0_isBlock_17
  · refine lv_iload_n hx hb dX0_isBlock_4 rfl (lv_at hl 1 rfl) ?_
    refine lv_aload_n hx hb dX0_isBlock_5 rfl (lv_at hl 0 rfl) ?_
    refine va_get (D := D) (ci := 0) (v := .int (nI n)) (C := RX0) (T := TX0) (N := 13) hx hb hts in_X0 hown hK hP 0 rfl rfl 0 (by decide) (hts _ q28) (fun _ h9 => h9) rfl dX0_isBlock_6 ?_
    refine cuI_icmp_ge (tgt := 16) (i := (x).toInt) (j := (n : Int)) rfl (nI_toInt (by omega)) hx hb dX0_isBlock_9 (by decide) (fun c9 => ?_) (fun c9 => ?_)
    · refine lv_iconst (v := nI 0) hx hb dX0_isBlock_16 (by decide) ?_
      exact W.zret (v := nI 0) hx hb hr rfl (fun t_ ht_ hW => ⟨⟨nI 0, (), rfl, cu_bI_f (decide_eq_false (by omega)), by rw [ht_]; exact hP, va_K.moved hW.alike hK, hD⟩, hS.F ht_⟩) hS.2.2 dX0_isBlock_17
    · refine lv_iconst (v := nI 1) hx hb dX0_isBlock_12 (by decide) ?_
      refine lv_goto (tgt := 17) hx hb dX0_isBlock_13 (by decide) ?_
      exact W.zret (v := nI 1) hx hb hr rfl (fun t_ ht_ hW => ⟨⟨nI 1, (), rfl, cu_bI_t (decide_eq_true (by omega)), by rw [ht_]; exact hP, va_K.moved hW.alike hK, hD⟩, hS.F ht_⟩) hS.2.2 dX0_isBlock_17
set_option maxHeartbeats 4000000 in
set_option maxRecDepth 100000 in
/-- isThere(x) -/
theorem mX_isThere (l : Launch) (D : va_G) (ad : Nat → Nat) (cB cI cL : ClassId) (sz : Nat) (n at_ : Nat) (lg : Int32) (tip : Nat) (und : Int32) (P lev own amt : Nat → Nat) (s1 s2 wu : Nat → Int32) (wl : Nat → Int64) (x : Int32) (hn : n ≤ 20) : Met l yX0_isThere (ws_ yX0_isThere cX0_isThere 2 (some .boolean)) ({ frames := 0, cells := 0, slots := 0, locals := 0 }) (va_Pc [.ref (ad 0), .int x] (cu_In D vwCl (XT cB cI cL) (XW ad cB cI cL n at_ lg tip und P lev own amt s1 s2 wu wl) sz)) (va_Qi (fun (r : Int32) (u : Unit) => r = cu_bI (cu_thb n lg x)) (fun u => cu_Out D vwCl (XT cB cI cL) (va_A (XW ad cB cI cL n at_ lg tip und P lev own amt s1 s2 wu wl) sz) (XW ad cB cI cL n at_ lg tip und P lev own amt s1 s2 wu wl)) (va_A (XW ad cB cI cL n at_ lg tip und P lev own amt s1 s2 wu wl) sz)) 0 0 (va_A (XW ad cB cI cL n at_ lg tip und P lev own amt s1 s2 wu wl) sz) := by
  refine Met.ofW (cc := cX0_isThere) (maxL := 2) (ret := (some .boolean)) (by decide) rfl ?_
  intro p e s m args below meth c s₁ B hml hv
  obtain ⟨rfl, hsz, hP, hK, hD0⟩ := hv
  have hx := B.exec
  have hb := B.bytes
  have hr := B.returns
  have hts := atoms_spec (ws := ws_ yX0_isThere cX0_isThere 2 (some .boolean)) B.pre
  have hts : ∀ w ∈ lw_all, w.before _ s = true := fun w h => hts w (List.mem_cons_of_mem _ h)
  have hown : s.vm.findClass RX0 = some m.cls := findClass_of_methodNamed B.named
  have hlocks := B.notSynchronized
  subst hsz
  have hD := hD0.self (sz := s.heap.size)
  generalize hAe : va_A (XW ad cB cI cL n at_ lg tip und P lev own amt s1 s2 wu wl) s.heap.size = A at hD ⊢
  have hA : ∀ q : Nat, s.heap.size ≤ q → A q := fun q h => by rw [← hAe]; exact Or.inr h
  have hl := lv_entry ([.ref (ad 0), .int x]) (n := 2) (Nat.le_of_ble_eq_true rfl)
  rw [lg_entry_eq]
  generalize (lg_sl ([.ref (ad 0), .int x]) ++ List.replicate (2 - (lg_sl ([.ref (ad 0), .int x])).length) Slot.unset).toArray = ls at hl ⊢
  have hl : lv_has ls 2 [(0, .ref (ad 0)), (1, .int x)] := hl
  refine cu_start (fun H locs eH eL => ?_)
  have hP : va_P D vwCl (XW ad cB cI cL n at_ lg tip und P lev own amt s1 s2 wu wl) H := by rw [eH]; exact hP
  have hS : va_S A s.heap H locs := by rw [eH, eL]; exact va_S.rf
  refine lv_iload_n hx hb dX0_isThere_0 rfl (lv_at hl 1 rfl) ?_
  refine cuI_if_le (tgt := 27) hx hb dX0_isThere_1 (by decide) (fun c1 => ?_) (fun c1 => ?_)
  · refine lv_iconst (v := nI 0) hx hb dX0_isThere_27 (by decide) ?_
    exact W.zret (v := nI 0) hx hb hr rfl (fun t_ ht_ hW => ⟨⟨nI 0, (), rfl, cu_bI_f (by unfold cu_thb; rw [decide_eq_false (by omega)]; rfl), by rw [ht_]; exact hP, va_K.moved hW.alike hK, hD⟩, hS.F ht_⟩) hS.2.2 dX0_isThere_28
  · refine lv_iload_n hx hb dX0_isThere_4 rfl (lv_at hl 1 rfl) ?_
    refine lv_aload_n hx hb dX0_isThere_5 rfl (lv_at hl 0 rfl) ?_
    refine va_get (D := D) (ci := 0) (v := .int (nI n)) (C := RX0) (T := TX0) (N := 13) hx hb hts in_X0 hown hK hP 0 rfl rfl 0 (by decide) (hts _ q28) (fun _ h9 => h9) rfl dX0_isThere_6 ?_
    refine cuI_icmp_ge (tgt := 27) (i := (x).toInt) (j := (n : Int)) rfl (nI_toInt (by omega)) hx hb dX0_isThere_9 (by decide) (fun c9 => ?_) (fun c9 => ?_)
    · refine lv_iconst (v := nI 0) hx hb dX0_isThere_27 (by decide) ?_
      exact W.zret (v := nI 0) hx hb hr rfl (fun t_ ht_ hW => ⟨⟨nI 0, (), rfl, cu_bI_f (by unfold cu_thb; rw [decide_eq_false (by omega)]; rfl), by rw [ht_]; exact hP, va_K.moved hW.alike hK, hD⟩, hS.F ht_⟩) hS.2.2 dX0_isThere_28
    · obtain ⟨k, hk, rfl⟩ := cu_rng (n := n) (x := x) (by omega) (by omega)
      refine lv_aload_n hx hb dX0_isThere_12 rfl (lv_at hl 0 rfl) ?_
      refine va_get (D := D) (ci := 0) (v := .int lg) (C := RX0) (T := TX0) (N := 13) hx hb hts in_X0 hown hK hP 0 rfl rfl 8 (by decide) (hts _ q36) (fun _ h9 => h9) rfl dX0_isThere_13 ?_
      refine lv_iload_n hx hb dX0_isThere_16 rfl (lv_at hl 1 rfl) ?_
      refine lv_ishr hx hb dX0_isThere_17 ?_
      refine lv_iconst (v := nI 1) hx hb dX0_isThere_18 (by decide) ?_
      refine lv_iand hx hb dX0_isThere_19 ?_
      refine lv_if_eq (tgt := 27) hx hb dX0_isThere_20 (by decide) (fun c20 => ?_) (fun c20 => ?_)
      · refine lv_iconst (v := nI 0) hx hb dX0_isThere_27 (by decide) ?_
        exact W.zret (v := nI 0) hx hb hr rfl (fun t_ ht_ hW => ⟨⟨nI 0, (), rfl, cu_bI_f (by unfold cu_thb; rw [nI_clamp (by omega), (cu_test lg (by omega)).mp c20, Bool.and_false]), by rw [ht_]; exact hP, va_K.moved hW.alike hK, hD⟩, hS.F ht_⟩) hS.2.2 dX0_isThere_28
      · refine lv_iconst (v := nI 1) hx hb dX0_isThere_23 (by decide) ?_
        refine lv_goto (tgt := 28) hx hb dX0_isThere_24 (by decide) ?_
        exact W.zret (v := nI 1) hx hb hr rfl (fun t_ ht_ hW => ⟨⟨nI 1, (), rfl, cu_bI_t (by unfold cu_thb; rw [nI_clamp (by omega), cu_testt lg (by omega) c20, decide_eq_true (by omega)]; rfl), by rw [ht_]; exact hP, va_K.moved hW.alike hK, hD⟩, hS.F ht_⟩) hS.2.2 dX0_isThere_28
set_option maxHeartbeats 4000000 in
set_option maxRecDepth 100000 in
/-- takeCoin -/
theorem mX_takeCoin (l : Launch) (D : va_G) (ad : Nat → Nat) (cB cI cL : ClassId) (sz : Nat) (n at_ : Nat) (lg : Int32) (tip : Nat) (und : Int32) (P lev own amt : Nat → Nat) (s1 s2 wu : Nat → Int32) (wl : Nat → Int64) (k : Nat) (hk : k < 20) (ho : own k < 4) : Met l yX0_takeCoin (ws_ yX0_takeCoin cX0_takeCoin 2 none) ({ frames := 0, cells := 0, slots := 0, locals := 0 }) (va_Pc [.ref (ad 0), .int (nI k)] (cu_In D vwCl (XT cB cI cL) (XW ad cB cI cL n at_ lg tip und P lev own amt s1 s2 wu wl) sz)) (va_Qv (fun (u : Unit) => True) (fun u => cu_Out D vwCl (XT cB cI cL) (va_A (XW ad cB cI cL n at_ lg tip und P lev own amt s1 s2 wu wl) sz) (XW ad cB cI cL n at_ (cu_tk lg (nI k)) tip und P lev own amt s1 s2 wu (cu_tW own amt wl k))) (va_A (XW ad cB cI cL n at_ lg tip und P lev own amt s1 s2 wu wl) sz)) 0 0 (va_A (XW ad cB cI cL n at_ lg tip und P lev own amt s1 s2 wu wl) sz) := by
  refine Met.ofW (cc := cX0_takeCoin) (maxL := 2) (ret := none) (by decide) rfl ?_
  intro p e s m args below meth c s₁ B hml hv
  obtain ⟨rfl, hsz, hP, hK, hD0⟩ := hv
  have hx := B.exec
  have hb := B.bytes
  have hr := B.returns
  have hts := atoms_spec (ws := ws_ yX0_takeCoin cX0_takeCoin 2 none) B.pre
  have hts : ∀ w ∈ lw_all, w.before _ s = true := fun w h => hts w (List.mem_cons_of_mem _ h)
  have hown : s.vm.findClass RX0 = some m.cls := findClass_of_methodNamed B.named
  have hlocks := B.notSynchronized
  subst hsz
  have hD := hD0.self (sz := s.heap.size)
  generalize hAe : va_A (XW ad cB cI cL n at_ lg tip und P lev own amt s1 s2 wu wl) s.heap.size = A at hD ⊢
  have hA : ∀ q : Nat, s.heap.size ≤ q → A q := fun q h => by rw [← hAe]; exact Or.inr h
  have hl := lv_entry ([.ref (ad 0), .int (nI k)]) (n := 2) (Nat.le_of_ble_eq_true rfl)
  rw [lg_entry_eq]
  generalize (lg_sl ([.ref (ad 0), .int (nI k)]) ++ List.replicate (2 - (lg_sl ([.ref (ad 0), .int (nI k)])).length) Slot.unset).toArray = ls at hl ⊢
  have hl : lv_has ls 2 [(0, .ref (ad 0)), (1, .int (nI k))] := hl
  refine cu_start (fun H locs eH eL => ?_)
  have hP : va_P D vwCl (XW ad cB cI cL n at_ lg tip und P lev own amt s1 s2 wu wl) H := by rw [eH]; exact hP
  have hS : va_S A s.heap H locs := by rw [eH, eL]; exact va_S.rf
  refine lv_aload_n hx hb dX0_takeCoin_0 rfl (lv_at hl 0 rfl) ?_
  refine lv_dup hx hb dX0_takeCoin_1 rfl ?_
  refine va_get (D := D) (ci := 0) (v := .int lg) (C := RX0) (T := TX0) (N := 13) hx hb hts in_X0 hown hK hP 0 rfl rfl 8 (by decide) (hts _ q36) (fun _ h9 => h9) rfl dX0_takeCoin_2 ?_
  refine lv_iconst (v := nI 1) hx hb dX0_takeCoin_5 (by decide) ?_
  refine lv_iload_n hx hb dX0_takeCoin_6 rfl (lv_at hl 1 rfl) ?_
  refine lv_ishl hx hb dX0_takeCoin_7 ?_
  refine lv_iconst (v := (-1)) hx hb dX0_takeCoin_8 (by decide) ?_
  refine lv_ixor hx hb dX0_takeCoin_9 ?_
  refine lv_iand hx hb dX0_takeCoin_10 ?_
  refine va_put (D := D) (ci := 0) (v := .int (lg &&& (((nI 1) <<< ((nI k) &&& 31)) ^^^ (-1)))) (ty := .int) (C := RX0) (T := TX0) (N := 13) hx hb hts in_X0 tyX0 tyX0_ok nmX0 hown hK hP hD hS 0 rfl rfl 8 (by decide) (hts _ q36) (fun _ h9 => h9) rfl (by decide +kernel) rfl rfl (Nat.le_of_ble_eq_true rfl) dX0_takeCoin_11 (fun H locs hP hD hS => ?_)
  have hP : va_P D vwCl (XW ad cB cI cL n at_ (cu_tk lg (nI k)) tip und P lev own amt s1 s2 wu wl) H := hP
  have hD : va_D A (XW ad cB cI cL n at_ (cu_tk lg (nI k)) tip und P lev own amt s1 s2 wu wl) := hD
  refine lv_aload_n hx hb dX0_takeCoin_14 rfl (lv_at hl 0 rfl) ?_
  refine va_get (D := D) (ci := 0) (v := .ref (ad 7)) (C := RX0) (T := TX0) (N := 13) hx hb hts in_X0 hown hK hP 0 rfl rfl 9 (by decide) (hts _ q37) (fun _ h9 => h9) rfl dX0_takeCoin_15 ?_
  refine lv_aload_n hx hb dX0_takeCoin_18 rfl (lv_at hl 0 rfl) ?_
  refine va_get (D := D) (ci := 0) (v := .ref (ad 3)) (C := RX0) (T := TX0) (N := 13) hx hb hts in_X0 hown hK hP 0 rfl rfl 3 (by decide) (hts _ q31) (fun _ h9 => h9) rfl dX0_takeCoin_19 ?_
  refine lv_iload_n hx hb dX0_takeCoin_22 rfl (lv_at hl 1 rfl) ?_
  refine cu_bald (v := nI (own k)) hx hb hK hP 3 0 rfl rfl k (by omega) (Nat.le_of_ble_eq_true rfl) rfl dX0_takeCoin_23 ?_
  refine lv_dup2_11 hx hb dX0_takeCoin_24 rfl rfl ?_
  refine cu_lald (v := wl (own k)) hx hb hK hP 7 2 rfl rfl (own k) ho (Nat.le_of_ble_eq_true rfl) rfl dX0_takeCoin_25 ?_
  refine lv_aload_n hx hb dX0_takeCoin_26 rfl (lv_at hl 0 rfl) ?_
  refine va_get (D := D) (ci := 0) (v := .ref (ad 4)) (C := RX0) (T := TX0) (N := 13) hx hb hts in_X0 hown hK hP 0 rfl rfl 4 (by decide) (hts _ q32) (fun _ h9 => h9) rfl dX0_takeCoin_27 ?_
  refine lv_iload_n hx hb dX0_takeCoin_30 rfl (lv_at hl 1 rfl) ?_
  refine cu_iald (v := nI (amt k)) hx hb hK hP 4 1 rfl rfl k (by omega) (Nat.le_of_ble_eq_true rfl) rfl dX0_takeCoin_31 ?_
  refine lv_i2l (v := (nI (amt k)).toInt64) hx hb dX0_takeCoin_32 rfl ?_
  refine lv_lsub hx hb dX0_takeCoin_33 ?_
  refine cu_last (f' := cu_tW own amt wl k) hx hb hK hP hD hS 7 2 rfl rfl (own k) ho (Nat.le_of_ble_eq_true rfl) rfl dX0_takeCoin_34 (fun H locs hP hD hS => ?_)
  have hP : va_P D vwCl (XW ad cB cI cL n at_ (cu_tk lg (nI k)) tip und P lev own amt s1 s2 wu (cu_tW own amt wl k)) H := hP
  have hD : va_D A (XW ad cB cI cL n at_ (cu_tk lg (nI k)) tip und P lev own amt s1 s2 wu (cu_tW own amt wl k)) := hD
  exact W.vret hx hb hr (fun t_ ht_ hW => ⟨⟨(), rfl, trivial, by rw [ht_]; exact hP, va_K.moved hW.alike hK, hD⟩, hS.F ht_⟩) hS.2.2 dX0_takeCoin_35
set_option maxHeartbeats 4000000 in
set_option maxRecDepth 100000 in
/-- giveCoin -/
theorem mX_giveCoin (l : Launch) (D : va_G) (ad : Nat → Nat) (cB cI cL : ClassId) (sz : Nat) (n at_ : Nat) (lg : Int32) (tip : Nat) (und : Int32) (P lev own amt : Nat → Nat) (s1 s2 wu : Nat → Int32) (wl : Nat → Int64) (k : Nat) (hk : k < 20) (ho : own k < 4) : Met l yX0_giveCoin (ws_ yX0_giveCoin cX0_giveCoin 2 none) ({ frames := 0, cells := 0, slots := 0, locals := 0 }) (va_Pc [.ref (ad 0), .int (nI k)] (cu_In D vwCl (XT cB cI cL) (XW ad cB cI cL n at_ lg tip und P lev own amt s1 s2 wu wl) sz)) (va_Qv (fun (u : Unit) => True) (fun u => cu_Out D vwCl (XT cB cI cL) (va_A (XW ad cB cI cL n at_ lg tip und P lev own amt s1 s2 wu wl) sz) (XW ad cB cI cL n at_ (cu_gv lg (nI k)) tip und P lev own amt s1 s2 wu (cu_gW own amt wl k))) (va_A (XW ad cB cI cL n at_ lg tip und P lev own amt s1 s2 wu wl) sz)) 0 0 (va_A (XW ad cB cI cL n at_ lg tip und P lev own amt s1 s2 wu wl) sz) := by
  refine Met.ofW (cc := cX0_giveCoin) (maxL := 2) (ret := none) (by decide) rfl ?_
  intro p e s m args below meth c s₁ B hml hv
  obtain ⟨rfl, hsz, hP, hK, hD0⟩ := hv
  have hx := B.exec
  have hb := B.bytes
  have hr := B.returns
  have hts := atoms_spec (ws := ws_ yX0_giveCoin cX0_giveCoin 2 none) B.pre
  have hts : ∀ w ∈ lw_all, w.before _ s = true := fun w h => hts w (List.mem_cons_of_mem _ h)
  have hown : s.vm.findClass RX0 = some m.cls := findClass_of_methodNamed B.named
  have hlocks := B.notSynchronized
  subst hsz
  have hD := hD0.self (sz := s.heap.size)
  generalize hAe : va_A (XW ad cB cI cL n at_ lg tip und P lev own amt s1 s2 wu wl) s.heap.size = A at hD ⊢
  have hA : ∀ q : Nat, s.heap.size ≤ q → A q := fun q h => by rw [← hAe]; exact Or.inr h
  have hl := lv_entry ([.ref (ad 0), .int (nI k)]) (n := 2) (Nat.le_of_ble_eq_true rfl)
  rw [lg_entry_eq]
  generalize (lg_sl ([.ref (ad 0), .int (nI k)]) ++ List.replicate (2 - (lg_sl ([.ref (ad 0), .int (nI k)])).length) Slot.unset).toArray = ls at hl ⊢
  have hl : lv_has ls 2 [(0, .ref (ad 0)), (1, .int (nI k))] := hl
  refine cu_start (fun H locs eH eL => ?_)
  have hP : va_P D vwCl (XW ad cB cI cL n at_ lg tip und P lev own amt s1 s2 wu wl) H := by rw [eH]; exact hP
  have hS : va_S A s.heap H locs := by rw [eH, eL]; exact va_S.rf
  refine lv_aload_n hx hb dX0_giveCoin_0 rfl (lv_at hl 0 rfl) ?_
  refine lv_dup hx hb dX0_giveCoin_1 rfl ?_
  refine va_get (D := D) (ci := 0) (v := .int lg) (C := RX0) (T := TX0) (N := 13) hx hb hts in_X0 hown hK hP 0 rfl rfl 8 (by decide) (hts _ q36) (fun _ h9 => h9) rfl dX0_giveCoin_2 ?_
  refine lv_iconst (v := nI 1) hx hb dX0_giveCoin_5 (by decide) ?_
  refine lv_iload_n hx hb dX0_giveCoin_6 rfl (lv_at hl 1 rfl) ?_
  refine lv_ishl hx hb dX0_giveCoin_7 ?_
  refine lv_ior hx hb dX0_giveCoin_8 ?_
  refine va_put (D := D) (ci := 0) (v := .int (lg ||| ((nI 1) <<< ((nI k) &&& 31)))) (ty := .int) (C := RX0) (T := TX0) (N := 13) hx hb hts in_X0 tyX0 tyX0_ok nmX0 hown hK hP hD hS 0 rfl rfl 8 (by decide) (hts _ q36) (fun _ h9 => h9) rfl (by decide +kernel) rfl rfl (Nat.le_of_ble_eq_true rfl) dX0_giveCoin_9 (fun H locs hP hD hS => ?_)
  have hP : va_P D vwCl (XW ad cB cI cL n at_ (cu_gv lg (nI k)) tip und P lev own amt s1 s2 wu wl) H := hP
  have hD : va_D A (XW ad cB cI cL n at_ (cu_gv lg (nI k)) tip und P lev own amt s1 s2 wu wl) := hD
  refine lv_aload_n hx hb dX0_giveCoin_12 rfl (lv_at hl 0 rfl) ?_
  refine va_get (D := D) (ci := 0) (v := .ref (ad 7)) (C := RX0) (T := TX0) (N := 13) hx hb hts in_X0 hown hK hP 0 rfl rfl 9 (by decide) (hts _ q37) (fun _ h9 => h9) rfl dX0_giveCoin_13 ?_
  refine lv_aload_n hx hb dX0_giveCoin_16 rfl (lv_at hl 0 rfl) ?_
  refine va_get (D := D) (ci := 0) (v := .ref (ad 3)) (C := RX0) (T := TX0) (N := 13) hx hb hts in_X0 hown hK hP 0 rfl rfl 3 (by decide) (hts _ q31) (fun _ h9 => h9) rfl dX0_giveCoin_17 ?_
  refine lv_iload_n hx hb dX0_giveCoin_20 rfl (lv_at hl 1 rfl) ?_
  refine cu_bald (v := nI (own k)) hx hb hK hP 3 0 rfl rfl k (by omega) (Nat.le_of_ble_eq_true rfl) rfl dX0_giveCoin_21 ?_
  refine lv_dup2_11 hx hb dX0_giveCoin_22 rfl rfl ?_
  refine cu_lald (v := wl (own k)) hx hb hK hP 7 2 rfl rfl (own k) ho (Nat.le_of_ble_eq_true rfl) rfl dX0_giveCoin_23 ?_
  refine lv_aload_n hx hb dX0_giveCoin_24 rfl (lv_at hl 0 rfl) ?_
  refine va_get (D := D) (ci := 0) (v := .ref (ad 4)) (C := RX0) (T := TX0) (N := 13) hx hb hts in_X0 hown hK hP 0 rfl rfl 4 (by decide) (hts _ q32) (fun _ h9 => h9) rfl dX0_giveCoin_25 ?_
  refine lv_iload_n hx hb dX0_giveCoin_28 rfl (lv_at hl 1 rfl) ?_
  refine cu_iald (v := nI (amt k)) hx hb hK hP 4 1 rfl rfl k (by omega) (Nat.le_of_ble_eq_true rfl) rfl dX0_giveCoin_29 ?_
  refine lv_i2l (v := (nI (amt k)).toInt64) hx hb dX0_giveCoin_30 rfl ?_
  refine lv_ladd hx hb dX0_giveCoin_31 ?_
  refine cu_last (f' := cu_gW own amt wl k) hx hb hK hP hD hS 7 2 rfl rfl (own k) ho (Nat.le_of_ble_eq_true rfl) rfl dX0_giveCoin_32 (fun H locs hP hD hS => ?_)
  have hP : va_P D vwCl (XW ad cB cI cL n at_ (cu_gv lg (nI k)) tip und P lev own amt s1 s2 wu (cu_gW own amt wl k)) H := hP
  have hD : va_D A (XW ad cB cI cL n at_ (cu_gv lg (nI k)) tip und P lev own amt s1 s2 wu (cu_gW own amt wl k)) := hD
  exact W.vret hx hb hr (fun t_ ht_ hW => ⟨⟨(), rfl, trivial, by rw [ht_]; exact hP, va_K.moved hW.alike hK, hD⟩, hS.F ht_⟩) hS.2.2 dX0_giveCoin_33
set_option maxHeartbeats 4000000 in
set_option maxRecDepth 100000 in
/-- apply(b) -/
theorem mX_apply (l : Launch) (D : va_G) (ad : Nat → Nat) (cB cI cL : ClassId) (sz : Nat) (n at_ : Nat) (lg : Int32) (tip : Nat) (und : Int32) (P lev own amt : Nat → Nat) (s1 s2 wu : Nat → Int32) (wl : Nat → Int64) (b : Nat) (hb20 : b < 20) (hob : own b < 4) (h_s1 : cu_ci own (s1 b)) (h_s2 : cu_ci own (s2 b)) : Met l yX0_apply (ws_ yX0_apply cX0_apply 2 none) ({ frames := 1, cells := 0, slots := 0, locals := 21 }) (va_Pc [.ref (ad 0), .int (nI b)] (cu_In D vwCl (XT cB cI cL) (XW ad cB cI cL n at_ lg tip und P lev own amt s1 s2 wu wl) sz)) (va_Qv (fun (u : Unit) => True) (fun u => cu_Out D vwCl (XT cB cI cL) (va_A (XW ad cB cI cL n at_ lg tip und P lev own amt s1 s2 wu wl) sz) (XW ad cB cI cL n at_ (cu_apL s1 s2 lg b) tip und P lev own amt s1 s2 wu (cu_apW s1 s2 own amt wl b))) (va_A (XW ad cB cI cL n at_ lg tip und P lev own amt s1 s2 wu wl) sz)) 0 0 (va_A (XW ad cB cI cL n at_ lg tip und P lev own amt s1 s2 wu wl) sz) := by
  refine Met.ofW (cc := cX0_apply) (maxL := 2) (ret := none) (by decide) rfl ?_
  intro p e s m args below meth c s₁ B hml hv
  obtain ⟨rfl, hsz, hP, hK, hD0⟩ := hv
  have hx := B.exec
  have hb := B.bytes
  have hr := B.returns
  have hts := atoms_spec (ws := ws_ yX0_apply cX0_apply 2 none) B.pre
  have hts : ∀ w ∈ lw_all, w.before _ s = true := fun w h => hts w (List.mem_cons_of_mem _ h)
  have hown : s.vm.findClass RX0 = some m.cls := findClass_of_methodNamed B.named
  have hlocks := B.notSynchronized
  subst hsz
  have hD := hD0.self (sz := s.heap.size)
  generalize hAe : va_A (XW ad cB cI cL n at_ lg tip und P lev own amt s1 s2 wu wl) s.heap.size = A at hD ⊢
  have hA : ∀ q : Nat, s.heap.size ≤ q → A q := fun q h => by rw [← hAe]; exact Or.inr h
  have hl := lv_entry ([.ref (ad 0), .int (nI b)]) (n := 2) (Nat.le_of_ble_eq_true rfl)
  rw [lg_entry_eq]
  generalize (lg_sl ([.ref (ad 0), .int (nI b)]) ++ List.replicate (2 - (lg_sl ([.ref (ad 0), .int (nI b)])).length) Slot.unset).toArray = ls at hl ⊢
  have hl : lv_has ls 2 [(0, .ref (ad 0)), (1, .int (nI b))] := hl
  refine cu_start (fun H locs eH eL => ?_)
  have hP : va_P D vwCl (XW ad cB cI cL n at_ lg tip und P lev own amt s1 s2 wu wl) H := by rw [eH]; exact hP
  have hS : va_S A s.heap H locs := by rw [eH, eL]; exact va_S.rf
  refine lv_aload_n hx hb dX0_apply_0 rfl (lv_at hl 0 rfl) ?_
  refine va_get (D := D) (ci := 0) (v := .ref (ad 5)) (C := RX0) (T := TX0) (N := 13) hx hb hts in_X0 hown hK hP 0 rfl rfl 5 (by decide) (hts _ q33) (fun _ h9 => h9) rfl dX0_apply_1 ?_
  refine lv_iload_n hx hb dX0_apply_4 rfl (lv_at hl 1 rfl) ?_
  refine cu_bald (v := s1 b) hx hb hK hP 5 0 rfl rfl b (by omega) (Nat.le_of_ble_eq_true rfl) rfl dX0_apply_5 ?_
  refine lv_if_lt (tgt := 19) hx hb dX0_apply_6 (by decide) (fun c6 => ?_) (fun c6 => ?_)
  · have hP : va_P D vwCl (XW ad cB cI cL n at_ (cu_L1 lg (s1 b)) tip und P lev own amt s1 s2 wu (cu_T1 own amt wl (s1 b))) H := (by unfold cu_L1 cu_T1; rw [if_pos c6, if_pos c6]; exact hP)
    have hD : va_D A (XW ad cB cI cL n at_ (cu_L1 lg (s1 b)) tip und P lev own amt s1 s2 wu (cu_T1 own amt wl (s1 b))) := (by unfold cu_L1 cu_T1; rw [if_pos c6, if_pos c6]; exact hD)
    refine lv_aload_n hx hb dX0_apply_19 rfl (lv_at hl 0 rfl) ?_
    refine va_get (D := D) (ci := 0) (v := .ref (ad 6)) (C := RX0) (T := TX0) (N := 13) hx hb hts in_X0 hown hK hP 0 rfl rfl 6 (by decide) (hts _ q34) (fun _ h9 => h9) rfl dX0_apply_20 ?_
    refine lv_iload_n hx hb dX0_apply_23 rfl (lv_at hl 1 rfl) ?_
    refine cu_bald (v := s2 b) hx hb hK hP 6 0 rfl rfl b (by omega) (Nat.le_of_ble_eq_true rfl) rfl dX0_apply_24 ?_
    refine lv_if_lt (tgt := 38) hx hb dX0_apply_25 (by decide) (fun c25 => ?_) (fun c25 => ?_)
    · have hP : va_P D vwCl (XW ad cB cI cL n at_ (cu_L1 (cu_L1 lg (s1 b)) (s2 b)) tip und P lev own amt s1 s2 wu (cu_T1 own amt (cu_T1 own amt wl (s1 b)) (s2 b))) H := (by unfold cu_L1 cu_T1; rw [if_pos c25, if_pos c25]; exact hP)
      have hD : va_D A (XW ad cB cI cL n at_ (cu_L1 (cu_L1 lg (s1 b)) (s2 b)) tip und P lev own amt s1 s2 wu (cu_T1 own amt (cu_T1 own amt wl (s1 b)) (s2 b))) := (by unfold cu_L1 cu_T1; rw [if_pos c25, if_pos c25]; exact hD)
      refine lv_aload_n hx hb dX0_apply_38 rfl (lv_at hl 0 rfl) ?_
      refine lv_iload_n hx hb dX0_apply_39 rfl (lv_at hl 1 rfl) ?_
      refine cu_callv (As := [.int (nI b)]) (rest := []) (mX_giveCoin l D ad cB cI cL H.size n at_ (cu_L1 (cu_L1 lg (s1 b)) (s2 b)) tip und P lev own amt s1 s2 wu (cu_T1 own amt (cu_T1 own amt wl (s1 b)) (s2 b)) b hb20 hob) ⟨hx, hb, hml, hown, hts⟩ (cwV 1 hts (lw_V q99 q101 qs6 q18 q102) rfl rfl rfl (by decide +kernel) ⟨Nat.le_of_ble_eq_true rfl, Nat.le_of_ble_eq_true rfl⟩) hK hP hD hS hA (ci := 0) rfl rfl ⟨Nat.le_of_ble_eq_true rfl, Nat.le_of_ble_eq_true rfl⟩ rfl hl.1 rfl (Nat.le_of_ble_eq_true rfl) dX0_apply_40 (fun u40 H locs hw40 hP hD hS => ?_)
      have hP : va_P D vwCl (XW ad cB cI cL n at_ (cu_gv (cu_L1 (cu_L1 lg (s1 b)) (s2 b)) (nI b)) tip und P lev own amt s1 s2 wu (cu_gW own amt (cu_T1 own amt (cu_T1 own amt wl (s1 b)) (s2 b)) b)) H := hP
      have hD : va_D A (XW ad cB cI cL n at_ (cu_gv (cu_L1 (cu_L1 lg (s1 b)) (s2 b)) (nI b)) tip und P lev own amt s1 s2 wu (cu_gW own amt (cu_T1 own amt (cu_T1 own amt wl (s1 b)) (s2 b)) b)) := hD
      exact W.vret hx hb hr (fun t_ ht_ hW => ⟨⟨(), rfl, trivial, by rw [ht_]; exact hP, va_K.moved hW.alike hK, hD⟩, hS.F ht_⟩) hS.2.2 dX0_apply_43
    · obtain ⟨k_s2, e_s2, hk_s2, ho_s2⟩ : ∃ c, s2 b = nI c ∧ c < 20 ∧ own c < 4 := h_s2.resolve_left (fun z => c25 (by rw [z]; exact cu_neg1))
      refine lv_aload_n hx hb dX0_apply_28 rfl (lv_at hl 0 rfl) ?_
      refine lv_aload_n hx hb dX0_apply_29 rfl (lv_at hl 0 rfl) ?_
      refine va_get (D := D) (ci := 0) (v := .ref (ad 6)) (C := RX0) (T := TX0) (N := 13) hx hb hts in_X0 hown hK hP 0 rfl rfl 6 (by decide) (hts _ q34) (fun _ h9 => h9) rfl dX0_apply_30 ?_
      refine lv_iload_n hx hb dX0_apply_33 rfl (lv_at hl 1 rfl) ?_
      refine cu_bald (v := nI k_s2) hx hb hK hP 6 0 rfl rfl b (by omega) (Nat.le_of_ble_eq_true rfl) e_s2 dX0_apply_34 ?_
      refine cu_callv (As := [.int (nI k_s2)]) (rest := []) (mX_takeCoin l D ad cB cI cL H.size n at_ (cu_L1 lg (s1 b)) tip und P lev own amt s1 s2 wu (cu_T1 own amt wl (s1 b)) k_s2 hk_s2 ho_s2) ⟨hx, hb, hml, hown, hts⟩ (cwV 1 hts (lw_V q95 q97 qs5 q18 q98) rfl rfl rfl (by decide +kernel) ⟨Nat.le_of_ble_eq_true rfl, Nat.le_of_ble_eq_true rfl⟩) hK hP hD hS hA (ci := 0) rfl rfl ⟨Nat.le_of_ble_eq_true rfl, Nat.le_of_ble_eq_true rfl⟩ rfl hl.1 rfl (Nat.le_of_ble_eq_true rfl) dX0_apply_35 (fun u35 H locs hw35 hP hD hS => ?_)
      have hP : va_P D vwCl (XW ad cB cI cL n at_ (cu_tk (cu_L1 lg (s1 b)) (nI k_s2)) tip und P lev own amt s1 s2 wu (cu_tW own amt (cu_T1 own amt wl (s1 b)) k_s2)) H := hP
      have hD : va_D A (XW ad cB cI cL n at_ (cu_tk (cu_L1 lg (s1 b)) (nI k_s2)) tip und P lev own amt s1 s2 wu (cu_tW own amt (cu_T1 own amt wl (s1 b)) k_s2)) := hD
      have hP : va_P D vwCl (XW ad cB cI cL n at_ (cu_L1 (cu_L1 lg (s1 b)) (s2 b)) tip und P lev own amt s1 s2 wu (cu_T1 own amt (cu_T1 own amt wl (s1 b)) (s2 b))) H := (by unfold cu_L1 cu_T1; rw [e_s2, if_neg (nI_pos (by omega)), if_neg (nI_pos (by omega)), nI_clamp (by omega)]; exact hP)
      have hD : va_D A (XW ad cB cI cL n at_ (cu_L1 (cu_L1 lg (s1 b)) (s2 b)) tip und P lev own amt s1 s2 wu (cu_T1 own amt (cu_T1 own amt wl (s1 b)) (s2 b))) := (by unfold cu_L1 cu_T1; rw [e_s2, if_neg (nI_pos (by omega)), if_neg (nI_pos (by omega)), nI_clamp (by omega)]; exact hD)
      refine lv_aload_n hx hb dX0_apply_38 rfl (lv_at hl 0 rfl) ?_
      refine lv_iload_n hx hb dX0_apply_39 rfl (lv_at hl 1 rfl) ?_
      refine cu_callv (As := [.int (nI b)]) (rest := []) (mX_giveCoin l D ad cB cI cL H.size n at_ (cu_L1 (cu_L1 lg (s1 b)) (s2 b)) tip und P lev own amt s1 s2 wu (cu_T1 own amt (cu_T1 own amt wl (s1 b)) (s2 b)) b hb20 hob) ⟨hx, hb, hml, hown, hts⟩ (cwV 1 hts (lw_V q99 q101 qs6 q18 q102) rfl rfl rfl (by decide +kernel) ⟨Nat.le_of_ble_eq_true rfl, Nat.le_of_ble_eq_true rfl⟩) hK hP hD hS hA (ci := 0) rfl rfl ⟨Nat.le_of_ble_eq_true rfl, Nat.le_of_ble_eq_true rfl⟩ rfl hl.1 rfl (Nat.le_of_ble_eq_true rfl) dX0_apply_40 (fun u40 H locs hw40 hP hD hS => ?_)
      have hP : va_P D vwCl (XW ad cB cI cL n at_ (cu_gv (cu_L1 (cu_L1 lg (s1 b)) (s2 b)) (nI b)) tip und P lev own amt s1 s2 wu (cu_gW own amt (cu_T1 own amt (cu_T1 own amt wl (s1 b)) (s2 b)) b)) H := hP
      have hD : va_D A (XW ad cB cI cL n at_ (cu_gv (cu_L1 (cu_L1 lg (s1 b)) (s2 b)) (nI b)) tip und P lev own amt s1 s2 wu (cu_gW own amt (cu_T1 own amt (cu_T1 own amt wl (s1 b)) (s2 b)) b)) := hD
      exact W.vret hx hb hr (fun t_ ht_ hW => ⟨⟨(), rfl, trivial, by rw [ht_]; exact hP, va_K.moved hW.alike hK, hD⟩, hS.F ht_⟩) hS.2.2 dX0_apply_43
  · obtain ⟨k_s1, e_s1, hk_s1, ho_s1⟩ : ∃ c, s1 b = nI c ∧ c < 20 ∧ own c < 4 := h_s1.resolve_left (fun z => c6 (by rw [z]; exact cu_neg1))
    refine lv_aload_n hx hb dX0_apply_9 rfl (lv_at hl 0 rfl) ?_
    refine lv_aload_n hx hb dX0_apply_10 rfl (lv_at hl 0 rfl) ?_
    refine va_get (D := D) (ci := 0) (v := .ref (ad 5)) (C := RX0) (T := TX0) (N := 13) hx hb hts in_X0 hown hK hP 0 rfl rfl 5 (by decide) (hts _ q33) (fun _ h9 => h9) rfl dX0_apply_11 ?_
    refine lv_iload_n hx hb dX0_apply_14 rfl (lv_at hl 1 rfl) ?_
    refine cu_bald (v := nI k_s1) hx hb hK hP 5 0 rfl rfl b (by omega) (Nat.le_of_ble_eq_true rfl) e_s1 dX0_apply_15 ?_
    refine cu_callv (As := [.int (nI k_s1)]) (rest := []) (mX_takeCoin l D ad cB cI cL H.size n at_ lg tip und P lev own amt s1 s2 wu wl k_s1 hk_s1 ho_s1) ⟨hx, hb, hml, hown, hts⟩ (cwV 1 hts (lw_V q95 q97 qs5 q18 q98) rfl rfl rfl (by decide +kernel) ⟨Nat.le_of_ble_eq_true rfl, Nat.le_of_ble_eq_true rfl⟩) hK hP hD hS hA (ci := 0) rfl rfl ⟨Nat.le_of_ble_eq_true rfl, Nat.le_of_ble_eq_true rfl⟩ rfl hl.1 rfl (Nat.le_of_ble_eq_true rfl) dX0_apply_16 (fun u16 H locs hw16 hP hD hS => ?_)
    have hP : va_P D vwCl (XW ad cB cI cL n at_ (cu_tk lg (nI k_s1)) tip und P lev own amt s1 s2 wu (cu_tW own amt wl k_s1)) H := hP
    have hD : va_D A (XW ad cB cI cL n at_ (cu_tk lg (nI k_s1)) tip und P lev own amt s1 s2 wu (cu_tW own amt wl k_s1)) := hD
    have hP : va_P D vwCl (XW ad cB cI cL n at_ (cu_L1 lg (s1 b)) tip und P lev own amt s1 s2 wu (cu_T1 own amt wl (s1 b))) H := (by unfold cu_L1 cu_T1; rw [e_s1, if_neg (nI_pos (by omega)), if_neg (nI_pos (by omega)), nI_clamp (by omega)]; exact hP)
    have hD : va_D A (XW ad cB cI cL n at_ (cu_L1 lg (s1 b)) tip und P lev own amt s1 s2 wu (cu_T1 own amt wl (s1 b))) := (by unfold cu_L1 cu_T1; rw [e_s1, if_neg (nI_pos (by omega)), if_neg (nI_pos (by omega)), nI_clamp (by omega)]; exact hD)
    refine lv_aload_n hx hb dX0_apply_19 rfl (lv_at hl 0 rfl) ?_
    refine va_get (D := D) (ci := 0) (v := .ref (ad 6)) (C := RX0) (T := TX0) (N := 13) hx hb hts in_X0 hown hK hP 0 rfl rfl 6 (by decide) (hts _ q34) (fun _ h9 => h9) rfl dX0_apply_20 ?_
    refine lv_iload_n hx hb dX0_apply_23 rfl (lv_at hl 1 rfl) ?_
    refine cu_bald (v := s2 b) hx hb hK hP 6 0 rfl rfl b (by omega) (Nat.le_of_ble_eq_true rfl) rfl dX0_apply_24 ?_
    refine lv_if_lt (tgt := 38) hx hb dX0_apply_25 (by decide) (fun c25 => ?_) (fun c25 => ?_)
    · have hP : va_P D vwCl (XW ad cB cI cL n at_ (cu_L1 (cu_L1 lg (s1 b)) (s2 b)) tip und P lev own amt s1 s2 wu (cu_T1 own amt (cu_T1 own amt wl (s1 b)) (s2 b))) H := (by unfold cu_L1 cu_T1; rw [if_pos c25, if_pos c25]; exact hP)
      have hD : va_D A (XW ad cB cI cL n at_ (cu_L1 (cu_L1 lg (s1 b)) (s2 b)) tip und P lev own amt s1 s2 wu (cu_T1 own amt (cu_T1 own amt wl (s1 b)) (s2 b))) := (by unfold cu_L1 cu_T1; rw [if_pos c25, if_pos c25]; exact hD)
      refine lv_aload_n hx hb dX0_apply_38 rfl (lv_at hl 0 rfl) ?_
      refine lv_iload_n hx hb dX0_apply_39 rfl (lv_at hl 1 rfl) ?_
      refine cu_callv (As := [.int (nI b)]) (rest := []) (mX_giveCoin l D ad cB cI cL H.size n at_ (cu_L1 (cu_L1 lg (s1 b)) (s2 b)) tip und P lev own amt s1 s2 wu (cu_T1 own amt (cu_T1 own amt wl (s1 b)) (s2 b)) b hb20 hob) ⟨hx, hb, hml, hown, hts⟩ (cwV 1 hts (lw_V q99 q101 qs6 q18 q102) rfl rfl rfl (by decide +kernel) ⟨Nat.le_of_ble_eq_true rfl, Nat.le_of_ble_eq_true rfl⟩) hK hP hD hS hA (ci := 0) rfl rfl ⟨Nat.le_of_ble_eq_true rfl, Nat.le_of_ble_eq_true rfl⟩ rfl hl.1 rfl (Nat.le_of_ble_eq_true rfl) dX0_apply_40 (fun u40 H locs hw40 hP hD hS => ?_)
      have hP : va_P D vwCl (XW ad cB cI cL n at_ (cu_gv (cu_L1 (cu_L1 lg (s1 b)) (s2 b)) (nI b)) tip und P lev own amt s1 s2 wu (cu_gW own amt (cu_T1 own amt (cu_T1 own amt wl (s1 b)) (s2 b)) b)) H := hP
      have hD : va_D A (XW ad cB cI cL n at_ (cu_gv (cu_L1 (cu_L1 lg (s1 b)) (s2 b)) (nI b)) tip und P lev own amt s1 s2 wu (cu_gW own amt (cu_T1 own amt (cu_T1 own amt wl (s1 b)) (s2 b)) b)) := hD
      exact W.vret hx hb hr (fun t_ ht_ hW => ⟨⟨(), rfl, trivial, by rw [ht_]; exact hP, va_K.moved hW.alike hK, hD⟩, hS.F ht_⟩) hS.2.2 dX0_apply_43
    · obtain ⟨k_s2, e_s2, hk_s2, ho_s2⟩ : ∃ c, s2 b = nI c ∧ c < 20 ∧ own c < 4 := h_s2.resolve_left (fun z => c25 (by rw [z]; exact cu_neg1))
      refine lv_aload_n hx hb dX0_apply_28 rfl (lv_at hl 0 rfl) ?_
      refine lv_aload_n hx hb dX0_apply_29 rfl (lv_at hl 0 rfl) ?_
      refine va_get (D := D) (ci := 0) (v := .ref (ad 6)) (C := RX0) (T := TX0) (N := 13) hx hb hts in_X0 hown hK hP 0 rfl rfl 6 (by decide) (hts _ q34) (fun _ h9 => h9) rfl dX0_apply_30 ?_
      refine lv_iload_n hx hb dX0_apply_33 rfl (lv_at hl 1 rfl) ?_
      refine cu_bald (v := nI k_s2) hx hb hK hP 6 0 rfl rfl b (by omega) (Nat.le_of_ble_eq_true rfl) e_s2 dX0_apply_34 ?_
      refine cu_callv (As := [.int (nI k_s2)]) (rest := []) (mX_takeCoin l D ad cB cI cL H.size n at_ (cu_L1 lg (s1 b)) tip und P lev own amt s1 s2 wu (cu_T1 own amt wl (s1 b)) k_s2 hk_s2 ho_s2) ⟨hx, hb, hml, hown, hts⟩ (cwV 1 hts (lw_V q95 q97 qs5 q18 q98) rfl rfl rfl (by decide +kernel) ⟨Nat.le_of_ble_eq_true rfl, Nat.le_of_ble_eq_true rfl⟩) hK hP hD hS hA (ci := 0) rfl rfl ⟨Nat.le_of_ble_eq_true rfl, Nat.le_of_ble_eq_true rfl⟩ rfl hl.1 rfl (Nat.le_of_ble_eq_true rfl) dX0_apply_35 (fun u35 H locs hw35 hP hD hS => ?_)
      have hP : va_P D vwCl (XW ad cB cI cL n at_ (cu_tk (cu_L1 lg (s1 b)) (nI k_s2)) tip und P lev own amt s1 s2 wu (cu_tW own amt (cu_T1 own amt wl (s1 b)) k_s2)) H := hP
      have hD : va_D A (XW ad cB cI cL n at_ (cu_tk (cu_L1 lg (s1 b)) (nI k_s2)) tip und P lev own amt s1 s2 wu (cu_tW own amt (cu_T1 own amt wl (s1 b)) k_s2)) := hD
      have hP : va_P D vwCl (XW ad cB cI cL n at_ (cu_L1 (cu_L1 lg (s1 b)) (s2 b)) tip und P lev own amt s1 s2 wu (cu_T1 own amt (cu_T1 own amt wl (s1 b)) (s2 b))) H := (by unfold cu_L1 cu_T1; rw [e_s2, if_neg (nI_pos (by omega)), if_neg (nI_pos (by omega)), nI_clamp (by omega)]; exact hP)
      have hD : va_D A (XW ad cB cI cL n at_ (cu_L1 (cu_L1 lg (s1 b)) (s2 b)) tip und P lev own amt s1 s2 wu (cu_T1 own amt (cu_T1 own amt wl (s1 b)) (s2 b))) := (by unfold cu_L1 cu_T1; rw [e_s2, if_neg (nI_pos (by omega)), if_neg (nI_pos (by omega)), nI_clamp (by omega)]; exact hD)
      refine lv_aload_n hx hb dX0_apply_38 rfl (lv_at hl 0 rfl) ?_
      refine lv_iload_n hx hb dX0_apply_39 rfl (lv_at hl 1 rfl) ?_
      refine cu_callv (As := [.int (nI b)]) (rest := []) (mX_giveCoin l D ad cB cI cL H.size n at_ (cu_L1 (cu_L1 lg (s1 b)) (s2 b)) tip und P lev own amt s1 s2 wu (cu_T1 own amt (cu_T1 own amt wl (s1 b)) (s2 b)) b hb20 hob) ⟨hx, hb, hml, hown, hts⟩ (cwV 1 hts (lw_V q99 q101 qs6 q18 q102) rfl rfl rfl (by decide +kernel) ⟨Nat.le_of_ble_eq_true rfl, Nat.le_of_ble_eq_true rfl⟩) hK hP hD hS hA (ci := 0) rfl rfl ⟨Nat.le_of_ble_eq_true rfl, Nat.le_of_ble_eq_true rfl⟩ rfl hl.1 rfl (Nat.le_of_ble_eq_true rfl) dX0_apply_40 (fun u40 H locs hw40 hP hD hS => ?_)
      have hP : va_P D vwCl (XW ad cB cI cL n at_ (cu_gv (cu_L1 (cu_L1 lg (s1 b)) (s2 b)) (nI b)) tip und P lev own amt s1 s2 wu (cu_gW own amt (cu_T1 own amt (cu_T1 own amt wl (s1 b)) (s2 b)) b)) H := hP
      have hD : va_D A (XW ad cB cI cL n at_ (cu_gv (cu_L1 (cu_L1 lg (s1 b)) (s2 b)) (nI b)) tip und P lev own amt s1 s2 wu (cu_gW own amt (cu_T1 own amt (cu_T1 own amt wl (s1 b)) (s2 b)) b)) := hD
      exact W.vret hx hb hr (fun t_ ht_ hW => ⟨⟨(), rfl, trivial, by rw [ht_]; exact hP, va_K.moved hW.alike hK, hD⟩, hS.F ht_⟩) hS.2.2 dX0_apply_43
set_option maxHeartbeats 4000000 in
set_option maxRecDepth 100000 in
/-- undo(b) -/
theorem mX_undo (l : Launch) (D : va_G) (ad : Nat → Nat) (cB cI cL : ClassId) (sz : Nat) (n at_ : Nat) (lg : Int32) (tip : Nat) (und : Int32) (P lev own amt : Nat → Nat) (s1 s2 wu : Nat → Int32) (wl : Nat → Int64) (b : Nat) (hb20 : b < 20) (hob : own b < 4) (h_s1 : cu_ci own (s1 b)) (h_s2 : cu_ci own (s2 b)) : Met l yX0_undo (ws_ yX0_undo cX0_undo 2 none) ({ frames := 1, cells := 0, slots := 0, locals := 21 }) (va_Pc [.ref (ad 0), .int (nI b)] (cu_In D vwCl (XT cB cI cL) (XW ad cB cI cL n at_ lg tip und P lev own amt s1 s2 wu wl) sz)) (va_Qv (fun (u : Unit) => True) (fun u => cu_Out D vwCl (XT cB cI cL) (va_A (XW ad cB cI cL n at_ lg tip und P lev own amt s1 s2 wu wl) sz) (XW ad cB cI cL n at_ (cu_unL s1 s2 lg b) tip und P lev own amt s1 s2 wu (cu_unW s1 s2 own amt wl b))) (va_A (XW ad cB cI cL n at_ lg tip und P lev own amt s1 s2 wu wl) sz)) 0 0 (va_A (XW ad cB cI cL n at_ lg tip und P lev own amt s1 s2 wu wl) sz) := by
  refine Met.ofW (cc := cX0_undo) (maxL := 2) (ret := none) (by decide) rfl ?_
  intro p e s m args below meth c s₁ B hml hv
  obtain ⟨rfl, hsz, hP, hK, hD0⟩ := hv
  have hx := B.exec
  have hb := B.bytes
  have hr := B.returns
  have hts := atoms_spec (ws := ws_ yX0_undo cX0_undo 2 none) B.pre
  have hts : ∀ w ∈ lw_all, w.before _ s = true := fun w h => hts w (List.mem_cons_of_mem _ h)
  have hown : s.vm.findClass RX0 = some m.cls := findClass_of_methodNamed B.named
  have hlocks := B.notSynchronized
  subst hsz
  have hD := hD0.self (sz := s.heap.size)
  generalize hAe : va_A (XW ad cB cI cL n at_ lg tip und P lev own amt s1 s2 wu wl) s.heap.size = A at hD ⊢
  have hA : ∀ q : Nat, s.heap.size ≤ q → A q := fun q h => by rw [← hAe]; exact Or.inr h
  have hl := lv_entry ([.ref (ad 0), .int (nI b)]) (n := 2) (Nat.le_of_ble_eq_true rfl)
  rw [lg_entry_eq]
  generalize (lg_sl ([.ref (ad 0), .int (nI b)]) ++ List.replicate (2 - (lg_sl ([.ref (ad 0), .int (nI b)])).length) Slot.unset).toArray = ls at hl ⊢
  have hl : lv_has ls 2 [(0, .ref (ad 0)), (1, .int (nI b))] := hl
  refine cu_start (fun H locs eH eL => ?_)
  have hP : va_P D vwCl (XW ad cB cI cL n at_ lg tip und P lev own amt s1 s2 wu wl) H := by rw [eH]; exact hP
  have hS : va_S A s.heap H locs := by rw [eH, eL]; exact va_S.rf
  refine lv_aload_n hx hb dX0_undo_0 rfl (lv_at hl 0 rfl) ?_
  refine lv_iload_n hx hb dX0_undo_1 rfl (lv_at hl 1 rfl) ?_
  refine cu_callv (As := [.int (nI b)]) (rest := []) (mX_takeCoin l D ad cB cI cL H.size n at_ lg tip und P lev own amt s1 s2 wu wl b hb20 hob) ⟨hx, hb, hml, hown, hts⟩ (cwV 1 hts (lw_V q95 q97 qs5 q18 q98) rfl rfl rfl (by decide +kernel) ⟨Nat.le_of_ble_eq_true rfl, Nat.le_of_ble_eq_true rfl⟩) hK hP hD hS hA (ci := 0) rfl rfl ⟨Nat.le_of_ble_eq_true rfl, Nat.le_of_ble_eq_true rfl⟩ rfl hl.1 rfl (Nat.le_of_ble_eq_true rfl) dX0_undo_2 (fun u2 H locs hw2 hP hD hS => ?_)
  have hP : va_P D vwCl (XW ad cB cI cL n at_ (cu_tk lg (nI b)) tip und P lev own amt s1 s2 wu (cu_tW own amt wl b)) H := hP
  have hD : va_D A (XW ad cB cI cL n at_ (cu_tk lg (nI b)) tip und P lev own amt s1 s2 wu (cu_tW own amt wl b)) := hD
  refine lv_aload_n hx hb dX0_undo_5 rfl (lv_at hl 0 rfl) ?_
  refine va_get (D := D) (ci := 0) (v := .ref (ad 5)) (C := RX0) (T := TX0) (N := 13) hx hb hts in_X0 hown hK hP 0 rfl rfl 5 (by decide) (hts _ q33) (fun _ h9 => h9) rfl dX0_undo_6 ?_
  refine lv_iload_n hx hb dX0_undo_9 rfl (lv_at hl 1 rfl) ?_
  refine cu_bald (v := s1 b) hx hb hK hP 5 0 rfl rfl b (by omega) (Nat.le_of_ble_eq_true rfl) rfl dX0_undo_10 ?_
  refine lv_if_lt (tgt := 24) hx hb dX0_undo_11 (by decide) (fun c11 => ?_) (fun c11 => ?_)
  · have hP : va_P D vwCl (XW ad cB cI cL n at_ (cu_G1 (cu_tk lg (nI b)) (s1 b)) tip und P lev own amt s1 s2 wu (cu_H1 own amt (cu_tW own amt wl b) (s1 b))) H := (by unfold cu_G1 cu_H1; rw [if_pos c11, if_pos c11]; exact hP)
    have hD : va_D A (XW ad cB cI cL n at_ (cu_G1 (cu_tk lg (nI b)) (s1 b)) tip und P lev own amt s1 s2 wu (cu_H1 own amt (cu_tW own amt wl b) (s1 b))) := (by unfold cu_G1 cu_H1; rw [if_pos c11, if_pos c11]; exact hD)
    refine lv_aload_n hx hb dX0_undo_24 rfl (lv_at hl 0 rfl) ?_
    refine va_get (D := D) (ci := 0) (v := .ref (ad 6)) (C := RX0) (T := TX0) (N := 13) hx hb hts in_X0 hown hK hP 0 rfl rfl 6 (by decide) (hts _ q34) (fun _ h9 => h9) rfl dX0_undo_25 ?_
    refine lv_iload_n hx hb dX0_undo_28 rfl (lv_at hl 1 rfl) ?_
    refine cu_bald (v := s2 b) hx hb hK hP 6 0 rfl rfl b (by omega) (Nat.le_of_ble_eq_true rfl) rfl dX0_undo_29 ?_
    refine lv_if_lt (tgt := 43) hx hb dX0_undo_30 (by decide) (fun c30 => ?_) (fun c30 => ?_)
    · have hP : va_P D vwCl (XW ad cB cI cL n at_ (cu_G1 (cu_G1 (cu_tk lg (nI b)) (s1 b)) (s2 b)) tip und P lev own amt s1 s2 wu (cu_H1 own amt (cu_H1 own amt (cu_tW own amt wl b) (s1 b)) (s2 b))) H := (by unfold cu_G1 cu_H1; rw [if_pos c30, if_pos c30]; exact hP)
      have hD : va_D A (XW ad cB cI cL n at_ (cu_G1 (cu_G1 (cu_tk lg (nI b)) (s1 b)) (s2 b)) tip und P lev own amt s1 s2 wu (cu_H1 own amt (cu_H1 own amt (cu_tW own amt wl b) (s1 b)) (s2 b))) := (by unfold cu_G1 cu_H1; rw [if_pos c30, if_pos c30]; exact hD)
      exact W.vret hx hb hr (fun t_ ht_ hW => ⟨⟨(), rfl, trivial, by rw [ht_]; exact hP, va_K.moved hW.alike hK, hD⟩, hS.F ht_⟩) hS.2.2 dX0_undo_43
    · obtain ⟨k_s2, e_s2, hk_s2, ho_s2⟩ : ∃ c, s2 b = nI c ∧ c < 20 ∧ own c < 4 := h_s2.resolve_left (fun z => c30 (by rw [z]; exact cu_neg1))
      refine lv_aload_n hx hb dX0_undo_33 rfl (lv_at hl 0 rfl) ?_
      refine lv_aload_n hx hb dX0_undo_34 rfl (lv_at hl 0 rfl) ?_
      refine va_get (D := D) (ci := 0) (v := .ref (ad 6)) (C := RX0) (T := TX0) (N := 13) hx hb hts in_X0 hown hK hP 0 rfl rfl 6 (by decide) (hts _ q34) (fun _ h9 => h9) rfl dX0_undo_35 ?_
      refine lv_iload_n hx hb dX0_undo_38 rfl (lv_at hl 1 rfl) ?_
      refine cu_bald (v := nI k_s2) hx hb hK hP 6 0 rfl rfl b (by omega) (Nat.le_of_ble_eq_true rfl) e_s2 dX0_undo_39 ?_
      refine cu_callv (As := [.int (nI k_s2)]) (rest := []) (mX_giveCoin l D ad cB cI cL H.size n at_ (cu_G1 (cu_tk lg (nI b)) (s1 b)) tip und P lev own amt s1 s2 wu (cu_H1 own amt (cu_tW own amt wl b) (s1 b)) k_s2 hk_s2 ho_s2) ⟨hx, hb, hml, hown, hts⟩ (cwV 1 hts (lw_V q99 q101 qs6 q18 q102) rfl rfl rfl (by decide +kernel) ⟨Nat.le_of_ble_eq_true rfl, Nat.le_of_ble_eq_true rfl⟩) hK hP hD hS hA (ci := 0) rfl rfl ⟨Nat.le_of_ble_eq_true rfl, Nat.le_of_ble_eq_true rfl⟩ rfl hl.1 rfl (Nat.le_of_ble_eq_true rfl) dX0_undo_40 (fun u40 H locs hw40 hP hD hS => ?_)
      have hP : va_P D vwCl (XW ad cB cI cL n at_ (cu_gv (cu_G1 (cu_tk lg (nI b)) (s1 b)) (nI k_s2)) tip und P lev own amt s1 s2 wu (cu_gW own amt (cu_H1 own amt (cu_tW own amt wl b) (s1 b)) k_s2)) H := hP
      have hD : va_D A (XW ad cB cI cL n at_ (cu_gv (cu_G1 (cu_tk lg (nI b)) (s1 b)) (nI k_s2)) tip und P lev own amt s1 s2 wu (cu_gW own amt (cu_H1 own amt (cu_tW own amt wl b) (s1 b)) k_s2)) := hD
      have hP : va_P D vwCl (XW ad cB cI cL n at_ (cu_G1 (cu_G1 (cu_tk lg (nI b)) (s1 b)) (s2 b)) tip und P lev own amt s1 s2 wu (cu_H1 own amt (cu_H1 own amt (cu_tW own amt wl b) (s1 b)) (s2 b))) H := (by unfold cu_G1 cu_H1; rw [e_s2, if_neg (nI_pos (by omega)), if_neg (nI_pos (by omega)), nI_clamp (by omega)]; exact hP)
      have hD : va_D A (XW ad cB cI cL n at_ (cu_G1 (cu_G1 (cu_tk lg (nI b)) (s1 b)) (s2 b)) tip und P lev own amt s1 s2 wu (cu_H1 own amt (cu_H1 own amt (cu_tW own amt wl b) (s1 b)) (s2 b))) := (by unfold cu_G1 cu_H1; rw [e_s2, if_neg (nI_pos (by omega)), if_neg (nI_pos (by omega)), nI_clamp (by omega)]; exact hD)
      exact W.vret hx hb hr (fun t_ ht_ hW => ⟨⟨(), rfl, trivial, by rw [ht_]; exact hP, va_K.moved hW.alike hK, hD⟩, hS.F ht_⟩) hS.2.2 dX0_undo_43
  · obtain ⟨k_s1, e_s1, hk_s1, ho_s1⟩ : ∃ c, s1 b = nI c ∧ c < 20 ∧ own c < 4 := h_s1.resolve_left (fun z => c11 (by rw [z]; exact cu_neg1))
    refine lv_aload_n hx hb dX0_undo_14 rfl (lv_at hl 0 rfl) ?_
    refine lv_aload_n hx hb dX0_undo_15 rfl (lv_at hl 0 rfl) ?_
    refine va_get (D := D) (ci := 0) (v := .ref (ad 5)) (C := RX0) (T := TX0) (N := 13) hx hb hts in_X0 hown hK hP 0 rfl rfl 5 (by decide) (hts _ q33) (fun _ h9 => h9) rfl dX0_undo_16 ?_
    refine lv_iload_n hx hb dX0_undo_19 rfl (lv_at hl 1 rfl) ?_
    refine cu_bald (v := nI k_s1) hx hb hK hP 5 0 rfl rfl b (by omega) (Nat.le_of_ble_eq_true rfl) e_s1 dX0_undo_20 ?_
    refine cu_callv (As := [.int (nI k_s1)]) (rest := []) (mX_giveCoin l D ad cB cI cL H.size n at_ (cu_tk lg (nI b)) tip und P lev own amt s1 s2 wu (cu_tW own amt wl b) k_s1 hk_s1 ho_s1) ⟨hx, hb, hml, hown, hts⟩ (cwV 1 hts (lw_V q99 q101 qs6 q18 q102) rfl rfl rfl (by decide +kernel) ⟨Nat.le_of_ble_eq_true rfl, Nat.le_of_ble_eq_true rfl⟩) hK hP hD hS hA (ci := 0) rfl rfl ⟨Nat.le_of_ble_eq_true rfl, Nat.le_of_ble_eq_true rfl⟩ rfl hl.1 rfl (Nat.le_of_ble_eq_true rfl) dX0_undo_21 (fun u21 H locs hw21 hP hD hS => ?_)
    have hP : va_P D vwCl (XW ad cB cI cL n at_ (cu_gv (cu_tk lg (nI b)) (nI k_s1)) tip und P lev own amt s1 s2 wu (cu_gW own amt (cu_tW own amt wl b) k_s1)) H := hP
    have hD : va_D A (XW ad cB cI cL n at_ (cu_gv (cu_tk lg (nI b)) (nI k_s1)) tip und P lev own amt s1 s2 wu (cu_gW own amt (cu_tW own amt wl b) k_s1)) := hD
    have hP : va_P D vwCl (XW ad cB cI cL n at_ (cu_G1 (cu_tk lg (nI b)) (s1 b)) tip und P lev own amt s1 s2 wu (cu_H1 own amt (cu_tW own amt wl b) (s1 b))) H := (by unfold cu_G1 cu_H1; rw [e_s1, if_neg (nI_pos (by omega)), if_neg (nI_pos (by omega)), nI_clamp (by omega)]; exact hP)
    have hD : va_D A (XW ad cB cI cL n at_ (cu_G1 (cu_tk lg (nI b)) (s1 b)) tip und P lev own amt s1 s2 wu (cu_H1 own amt (cu_tW own amt wl b) (s1 b))) := (by unfold cu_G1 cu_H1; rw [e_s1, if_neg (nI_pos (by omega)), if_neg (nI_pos (by omega)), nI_clamp (by omega)]; exact hD)
    refine lv_aload_n hx hb dX0_undo_24 rfl (lv_at hl 0 rfl) ?_
    refine va_get (D := D) (ci := 0) (v := .ref (ad 6)) (C := RX0) (T := TX0) (N := 13) hx hb hts in_X0 hown hK hP 0 rfl rfl 6 (by decide) (hts _ q34) (fun _ h9 => h9) rfl dX0_undo_25 ?_
    refine lv_iload_n hx hb dX0_undo_28 rfl (lv_at hl 1 rfl) ?_
    refine cu_bald (v := s2 b) hx hb hK hP 6 0 rfl rfl b (by omega) (Nat.le_of_ble_eq_true rfl) rfl dX0_undo_29 ?_
    refine lv_if_lt (tgt := 43) hx hb dX0_undo_30 (by decide) (fun c30 => ?_) (fun c30 => ?_)
    · have hP : va_P D vwCl (XW ad cB cI cL n at_ (cu_G1 (cu_G1 (cu_tk lg (nI b)) (s1 b)) (s2 b)) tip und P lev own amt s1 s2 wu (cu_H1 own amt (cu_H1 own amt (cu_tW own amt wl b) (s1 b)) (s2 b))) H := (by unfold cu_G1 cu_H1; rw [if_pos c30, if_pos c30]; exact hP)
      have hD : va_D A (XW ad cB cI cL n at_ (cu_G1 (cu_G1 (cu_tk lg (nI b)) (s1 b)) (s2 b)) tip und P lev own amt s1 s2 wu (cu_H1 own amt (cu_H1 own amt (cu_tW own amt wl b) (s1 b)) (s2 b))) := (by unfold cu_G1 cu_H1; rw [if_pos c30, if_pos c30]; exact hD)
      exact W.vret hx hb hr (fun t_ ht_ hW => ⟨⟨(), rfl, trivial, by rw [ht_]; exact hP, va_K.moved hW.alike hK, hD⟩, hS.F ht_⟩) hS.2.2 dX0_undo_43
    · obtain ⟨k_s2, e_s2, hk_s2, ho_s2⟩ : ∃ c, s2 b = nI c ∧ c < 20 ∧ own c < 4 := h_s2.resolve_left (fun z => c30 (by rw [z]; exact cu_neg1))
      refine lv_aload_n hx hb dX0_undo_33 rfl (lv_at hl 0 rfl) ?_
      refine lv_aload_n hx hb dX0_undo_34 rfl (lv_at hl 0 rfl) ?_
      refine va_get (D := D) (ci := 0) (v := .ref (ad 6)) (C := RX0) (T := TX0) (N := 13) hx hb hts in_X0 hown hK hP 0 rfl rfl 6 (by decide) (hts _ q34) (fun _ h9 => h9) rfl dX0_undo_35 ?_
      refine lv_iload_n hx hb dX0_undo_38 rfl (lv_at hl 1 rfl) ?_
      refine cu_bald (v := nI k_s2) hx hb hK hP 6 0 rfl rfl b (by omega) (Nat.le_of_ble_eq_true rfl) e_s2 dX0_undo_39 ?_
      refine cu_callv (As := [.int (nI k_s2)]) (rest := []) (mX_giveCoin l D ad cB cI cL H.size n at_ (cu_G1 (cu_tk lg (nI b)) (s1 b)) tip und P lev own amt s1 s2 wu (cu_H1 own amt (cu_tW own amt wl b) (s1 b)) k_s2 hk_s2 ho_s2) ⟨hx, hb, hml, hown, hts⟩ (cwV 1 hts (lw_V q99 q101 qs6 q18 q102) rfl rfl rfl (by decide +kernel) ⟨Nat.le_of_ble_eq_true rfl, Nat.le_of_ble_eq_true rfl⟩) hK hP hD hS hA (ci := 0) rfl rfl ⟨Nat.le_of_ble_eq_true rfl, Nat.le_of_ble_eq_true rfl⟩ rfl hl.1 rfl (Nat.le_of_ble_eq_true rfl) dX0_undo_40 (fun u40 H locs hw40 hP hD hS => ?_)
      have hP : va_P D vwCl (XW ad cB cI cL n at_ (cu_gv (cu_G1 (cu_tk lg (nI b)) (s1 b)) (nI k_s2)) tip und P lev own amt s1 s2 wu (cu_gW own amt (cu_H1 own amt (cu_tW own amt wl b) (s1 b)) k_s2)) H := hP
      have hD : va_D A (XW ad cB cI cL n at_ (cu_gv (cu_G1 (cu_tk lg (nI b)) (s1 b)) (nI k_s2)) tip und P lev own amt s1 s2 wu (cu_gW own amt (cu_H1 own amt (cu_tW own amt wl b) (s1 b)) k_s2)) := hD
      have hP : va_P D vwCl (XW ad cB cI cL n at_ (cu_G1 (cu_G1 (cu_tk lg (nI b)) (s1 b)) (s2 b)) tip und P lev own amt s1 s2 wu (cu_H1 own amt (cu_H1 own amt (cu_tW own amt wl b) (s1 b)) (s2 b))) H := (by unfold cu_G1 cu_H1; rw [e_s2, if_neg (nI_pos (by omega)), if_neg (nI_pos (by omega)), nI_clamp (by omega)]; exact hP)
      have hD : va_D A (XW ad cB cI cL n at_ (cu_G1 (cu_G1 (cu_tk lg (nI b)) (s1 b)) (s2 b)) tip und P lev own amt s1 s2 wu (cu_H1 own amt (cu_H1 own amt (cu_tW own amt wl b) (s1 b)) (s2 b))) := (by unfold cu_G1 cu_H1; rw [e_s2, if_neg (nI_pos (by omega)), if_neg (nI_pos (by omega)), nI_clamp (by omega)]; exact hD)
      exact W.vret hx hb hr (fun t_ ht_ hW => ⟨⟨(), rfl, trivial, by rw [ht_]; exact hP, va_K.moved hW.alike hK, hD⟩, hS.F ht_⟩) hS.2.2 dX0_undo_43
end
section
/-! contracts: printed by gen/make.py -/
set_option maxHeartbeats 4000000 in
set_option maxRecDepth 100000 in
/-- partingOf(a, b) -/
theorem mX_partingOf (l : Launch) (D : va_G) (ad : Nat → Nat) (cB cI cL : ClassId) (sz : Nat) (n at_ : Nat) (lg : Int32) (tip : Nat) (und : Int32) (P lev own amt : Nat → Nat) (s1 s2 wu : Nat → Int32) (wl : Nat → Int64) (a b : Nat) (h : cu_OK n P lev own amt s1 s2) (ha : a < n) (hbn : b < n) : Met l yX0_partingOf (ws_ yX0_partingOf cX0_partingOf 5 (some .int)) ({ frames := 0, cells := 0, slots := 0, locals := 0 }) (va_Pc [.ref (ad 0), .int (nI a), .int (nI b)] (cu_In D vwCl (XT cB cI cL) (XW ad cB cI cL n at_ lg tip und P lev own amt s1 s2 wu wl) sz)) (va_Qi (fun (r : Int32) (u : Unit) => r = nI (cu_mt P a b n)) (fun u => cu_Out D vwCl (XT cB cI cL) (va_A (XW ad cB cI cL n at_ lg tip und P lev own amt s1 s2 wu wl) sz) (XW ad cB cI cL n at_ lg tip und P lev own amt s1 s2 wu wl)) (va_A (XW ad cB cI cL n at_ lg tip und P lev own amt s1 s2 wu wl) sz)) 0 0 (va_A (XW ad cB cI cL n at_ lg tip und P lev own amt s1 s2 wu wl) sz) := by
  refine Met.ofW (cc := cX0_partingOf) (maxL := 5) (ret := (some .int)) (by decide) rfl ?_
  intro p e s m args below meth c s₁ B hml hv
  obtain ⟨rfl, hsz, hP, hK, hD0⟩ := hv
  have hx := B.exec
  have hb := B.bytes
  have hr := B.returns
  have hts := atoms_spec (ws := ws_ yX0_partingOf cX0_partingOf 5 (some .int)) B.pre
  have hts : ∀ w ∈ lw_all, w.before _ s = true := fun w h => hts w (List.mem_cons_of_mem _ h)
  have hown : s.vm.findClass RX0 = some m.cls := findClass_of_methodNamed B.named
  have hlocks := B.notSynchronized
  subst hsz
  have hD := hD0.self (sz := s.heap.size)
  generalize hAe : va_A (XW ad cB cI cL n at_ lg tip und P lev own amt s1 s2 wu wl) s.heap.size = A at hD ⊢
  have hA : ∀ q : Nat, s.heap.size ≤ q → A q := fun q h => by rw [← hAe]; exact Or.inr h
  have hl := lv_entry ([.ref (ad 0), .int (nI a), .int (nI b)]) (n := 5) (Nat.le_of_ble_eq_true rfl)
  rw [lg_entry_eq]
  generalize (lg_sl ([.ref (ad 0), .int (nI a), .int (nI b)]) ++ List.replicate (5 - (lg_sl ([.ref (ad 0), .int (nI a), .int (nI b)])).length) Slot.unset).toArray = ls at hl ⊢
  have hl : lv_has ls 5 [(0, .ref (ad 0)), (1, .int (nI a)), (2, .int (nI b))] := hl
  refine cu_start (fun H locs eH eL => ?_)
  have hP : va_P D vwCl (XW ad cB cI cL n at_ lg tip und P lev own amt s1 s2 wu wl) H := by rw [eH]; exact hP
  have hS : va_S A s.heap H locs := by rw [eH, eL]; exact va_S.rf
  have hn := h.n20
  refine lv_iload_n hx hb dX0_partingOf_0 rfl (lv_at hl 1 rfl) ?_
  refine lv_istore_n (lv' := [(3, .int (nI a)), (0, .ref (ad 0)), (1, .int (nI a)), (2, .int (nI b))]) hx hb dX0_partingOf_1 rfl hl (by decide) rfl (fun ls hl => ?_)
  refine lv_iload_n hx hb dX0_partingOf_2 rfl (lv_at hl 3 rfl) ?_
  refine lv_istore (lv' := [(4, .int (nI b)), (3, .int (nI a)), (0, .ref (ad 0)), (1, .int (nI a)), (2, .int (nI b))]) hx hb dX0_partingOf_3 hl (by decide) rfl (fun ls hl => ?_)
  refine cu_loop (σ := Nat × Nat) (I := fun (x_ : Nat × Nat) H locs ls => match x_ with | (x, y) => va_P D vwCl (XW ad cB cI cL n at_ lg tip und P lev own amt s1 s2 wu wl) H ∧ va_D A (XW ad cB cI cL n at_ lg tip und P lev own amt s1 s2 wu wl) ∧ va_S A s.heap H locs ∧ lv_has ls 5 [(0, .ref (ad 0)), (1, .int (nI a)), (2, .int (nI b)), (3, .int (nI x)), (4, .int (nI y))] ∧ (x < n) ∧ (y < n) ∧ (∀ k, (cu_An P k a = true ∧ cu_An P k b = true) ↔ (cu_An P k x = true ∧ cu_An P k y = true))) (μ := fun (x_ : Nat × Nat) => match x_ with | (x, y) => x + y) ?_ (a, b) ⟨hP, hD, hS, lv_sub hl [2, 3, 4, 1, 0] rfl, ha, hbn, fun _ => Iff.rfl⟩
  rintro ⟨x, y⟩ H locs ls ⟨hP, hD, hS, hl, ⟨hx9, hy9, hinv⟩⟩ ih
  have hlx := h.lev_le x hx9
  have hly := h.lev_le y hy9
  refine lv_iload_n hx hb dX0_partingOf_5 rfl (lv_at hl 3 rfl) ?_
  refine lv_iload hx hb dX0_partingOf_6 (lv_at hl 4 rfl) ?_
  refine cu_icmp_eq (tgt := 49) (j := x) (k := y) (by omega) (by omega) hx hb dX0_partingOf_8 (by decide) (fun c8 => ?_) (fun c8 => ?_)
  · refine lv_iload_n hx hb dX0_partingOf_49 rfl (lv_at hl 3 rfl) ?_
    exact W.iret (v := nI x) hx hb hr (fun t_ ht_ hW => ⟨⟨nI x, (), rfl, by rw [cu_part_end (n := n) hx9 (fun k => by rw [← c8] at hinv; exact hinv k)], by rw [ht_]; exact hP, va_K.moved hW.alike hK, hD⟩, hS.F ht_⟩) hS.2.2 dX0_partingOf_50
  · refine lv_aload_n hx hb dX0_partingOf_11 rfl (lv_at hl 0 rfl) ?_
    refine va_get (D := D) (ci := 0) (v := .ref (ad 2)) (C := RX0) (T := TX0) (N := 13) hx hb hts in_X0 hown hK hP 0 rfl rfl 2 (by decide) (hts _ q30) (fun _ h9 => h9) rfl dX0_partingOf_12 ?_
    refine lv_iload_n hx hb dX0_partingOf_15 rfl (lv_at hl 3 rfl) ?_
    refine cu_bald (v := nI (lev x)) hx hb hK hP 2 0 rfl rfl x (by omega) (Nat.le_of_ble_eq_true rfl) rfl dX0_partingOf_16 ?_
    refine lv_aload_n hx hb dX0_partingOf_17 rfl (lv_at hl 0 rfl) ?_
    refine va_get (D := D) (ci := 0) (v := .ref (ad 2)) (C := RX0) (T := TX0) (N := 13) hx hb hts in_X0 hown hK hP 0 rfl rfl 2 (by decide) (hts _ q30) (fun _ h9 => h9) rfl dX0_partingOf_18 ?_
    refine lv_iload hx hb dX0_partingOf_21 (lv_at hl 4 rfl) ?_
    refine cu_bald (v := nI (lev y)) hx hb hK hP 2 0 rfl rfl y (by omega) (Nat.le_of_ble_eq_true rfl) rfl dX0_partingOf_23 ?_
    refine cu_icmp_lt (tgt := 37) (j := lev x) (k := lev y) (by omega) (by omega) hx hb dX0_partingOf_24 (by decide) (fun c24 => ?_) (fun c24 => ?_)
    · obtain ⟨g1, g2, g3⟩ := cu_part_step h hy9 hx9 (fun z => c8 z.symm) (by omega)
      refine lv_aload_n hx hb dX0_partingOf_37 rfl (lv_at hl 0 rfl) ?_
      refine va_get (D := D) (ci := 0) (v := .ref (ad 1)) (C := RX0) (T := TX0) (N := 13) hx hb hts in_X0 hown hK hP 0 rfl rfl 1 (by decide) (hts _ q29) (fun _ h9 => h9) rfl dX0_partingOf_38 ?_
      refine lv_iload hx hb dX0_partingOf_41 (lv_at hl 4 rfl) ?_
      refine cu_bald (v := nI (P y)) hx hb hK hP 1 0 rfl rfl y (by omega) (Nat.le_of_ble_eq_true rfl) rfl dX0_partingOf_43 ?_
      refine lv_istore (lv' := [(4, .int (nI (P y))), (0, .ref (ad 0)), (1, .int (nI a)), (2, .int (nI b)), (3, .int (nI x))]) hx hb dX0_partingOf_44 hl (by decide) rfl (fun ls hl => ?_)
      refine lv_goto (tgt := 5) hx hb dX0_partingOf_46 (by decide) ?_
      exact ih (x, P y) _ _ _ ⟨hP, hD, hS, lv_sub hl [1, 2, 3, 4, 0] rfl, hx9, by omega, fun k => (hinv k).trans ⟨fun z => (((g3 k).mp z.symm).symm), fun z => (((g3 k).mpr z.symm).symm)⟩⟩ (show x + P y < x + y by omega)
    · obtain ⟨g1, g2, g3⟩ := cu_part_step h hx9 hy9 c8 (Nat.le_of_not_lt c24)
      refine lv_aload_n hx hb dX0_partingOf_27 rfl (lv_at hl 0 rfl) ?_
      refine va_get (D := D) (ci := 0) (v := .ref (ad 1)) (C := RX0) (T := TX0) (N := 13) hx hb hts in_X0 hown hK hP 0 rfl rfl 1 (by decide) (hts _ q29) (fun _ h9 => h9) rfl dX0_partingOf_28 ?_
      refine lv_iload_n hx hb dX0_partingOf_31 rfl (lv_at hl 3 rfl) ?_
      refine cu_bald (v := nI (P x)) hx hb hK hP 1 0 rfl rfl x (by omega) (Nat.le_of_ble_eq_true rfl) rfl dX0_partingOf_32 ?_
      refine lv_istore_n (lv' := [(3, .int (nI (P x))), (0, .ref (ad 0)), (1, .int (nI a)), (2, .int (nI b)), (4, .int (nI y))]) hx hb dX0_partingOf_33 rfl hl (by decide) rfl (fun ls hl => ?_)
      refine lv_goto (tgt := 5) hx hb dX0_partingOf_34 (by decide) ?_
      exact ih (P x, y) _ _ _ ⟨hP, hD, hS, lv_sub hl [1, 2, 3, 0, 4] rfl, by omega, hy9, fun k => (hinv k).trans (g3 k)⟩ (show P x + y < x + y by omega)
set_option maxHeartbeats 4000000 in
set_option maxRecDepth 100000 in
/-- moveTo(g) -/
theorem mX_moveTo (l : Launch) (D : va_G) (ad : Nat → Nat) (cB cI cL : ClassId) (sz : Nat) (n a tip : Nat) (und : Int32) (P lev own amt : Nat → Nat) (s1 s2 wu : Nat → Int32) (g : Nat) (h : cu_OK n P lev own amt s1 s2) (ha : a < n) (hg : g < n) : Met l yX0_moveTo (ws_ yX0_moveTo cX0_moveTo 7 (some .int)) ({ frames := 2, cells := 0, slots := 0, locals := 42 }) (va_Pc [.ref (ad 0), .int (nI g)] (cu_In D vwCl (XT cB cI cL) (XW ad cB cI cL n a (cu_LG P s1 s2 a) tip und P lev own amt s1 s2 wu (cu_WL P s1 s2 own amt a)) sz)) (va_Qi (fun (r : Int32) (u : Nat → Int32) => r = nI (lev a - lev (cu_mt P a g n))) (fun u => cu_Out D vwCl (XT cB cI cL) (va_A (XW ad cB cI cL n a (cu_LG P s1 s2 a) tip und P lev own amt s1 s2 wu (cu_WL P s1 s2 own amt a)) sz) (XW ad cB cI cL n g (cu_LG P s1 s2 g) tip und P lev own amt s1 s2 u (cu_WL P s1 s2 own amt g))) (va_A (XW ad cB cI cL n a (cu_LG P s1 s2 a) tip und P lev own amt s1 s2 wu (cu_WL P s1 s2 own amt a)) sz)) 0 0 (va_A (XW ad cB cI cL n a (cu_LG P s1 s2 a) tip und P lev own amt s1 s2 wu (cu_WL P s1 s2 own amt a)) sz) := by
  refine Met.ofW (cc := cX0_moveTo) (maxL := 7) (ret := (some .int)) (by decide) rfl ?_
  intro p e s m args below meth c s₁ B hml hv
  obtain ⟨rfl, hsz, hP, hK, hD0⟩ := hv
  have hx := B.exec
  have hb := B.bytes
  have hr := B.returns
  have hts := atoms_spec (ws := ws_ yX0_moveTo cX0_moveTo 7 (some .int)) B.pre
  have hts : ∀ w ∈ lw_all, w.before _ s = true := fun w h => hts w (List.mem_cons_of_mem _ h)
  have hown : s.vm.findClass RX0 = some m.cls := findClass_of_methodNamed B.named
  have hlocks := B.notSynchronized
  subst hsz
  have hD := hD0.self (sz := s.heap.size)
  generalize hAe : va_A (XW ad cB cI cL n a (cu_LG P s1 s2 a) tip und P lev own amt s1 s2 wu (cu_WL P s1 s2 own amt a)) s.heap.size = A at hD ⊢
  have hA : ∀ q : Nat, s.heap.size ≤ q → A q := fun q h => by rw [← hAe]; exact Or.inr h
  have hl := lv_entry ([.ref (ad 0), .int (nI g)]) (n := 7) (Nat.le_of_ble_eq_true rfl)
  rw [lg_entry_eq]
  generalize (lg_sl ([.ref (ad 0), .int (nI g)]) ++ List.replicate (7 - (lg_sl ([.ref (ad 0), .int (nI g)])).length) Slot.unset).toArray = ls at hl ⊢
  have hl : lv_has ls 7 [(0, .ref (ad 0)), (1, .int (nI g))] := hl
  refine cu_start (fun H locs eH eL => ?_)
  have hP : va_P D vwCl (XW ad cB cI cL n a (cu_LG P s1 s2 a) tip und P lev own amt s1 s2 wu (cu_WL P s1 s2 own amt a)) H := by rw [eH]; exact hP
  have hS : va_S A s.heap H locs := by rw [eH, eL]; exact va_S.rf
  have hn := h.n20
  refine lv_aload_n hx hb dX0_moveTo_0 rfl (lv_at hl 0 rfl) ?_
  refine lv_aload_n hx hb dX0_moveTo_1 rfl (lv_at hl 0 rfl) ?_
  refine va_get (D := D) (ci := 0) (v := .int (nI a)) (C := RX0) (T := TX0) (N := 13) hx hb hts in_X0 hown hK hP 0 rfl rfl 7 (by decide) (hts _ q35) (fun _ h9 => h9) rfl dX0_moveTo_2 ?_
  refine lv_iload_n hx hb dX0_moveTo_5 rfl (lv_at hl 1 rfl) ?_
  refine cu_calli (As := [.int (nI a), .int (nI g)]) (rest := []) (mX_partingOf l D ad cB cI cL H.size n a (cu_LG P s1 s2 a) tip und P lev own amt s1 s2 wu (cu_WL P s1 s2 own amt a) a g h ha hg) ⟨hx, hb, hml, hown, hts⟩ (cwV 2 hts (lw_V q87 q89 qs3 q18 q90) rfl rfl rfl (by decide +kernel) ⟨Nat.le_of_ble_eq_true rfl, Nat.le_of_ble_eq_true rfl⟩) hK hP hD hS hA (ci := 0) rfl rfl ⟨Nat.le_of_ble_eq_true rfl, Nat.le_of_ble_eq_true rfl⟩ rfl hl.1 rfl (Nat.le_of_ble_eq_true rfl) dX0_moveTo_6 (fun r6 u6 H locs hw6 hP hD hS => ?_)
  obtain rfl : r6 = nI (cu_mt P a g n) := hw6
  have hP : va_P D vwCl (XW ad cB cI cL n a (cu_LG P s1 s2 a) tip und P lev own amt s1 s2 wu (cu_WL P s1 s2 own amt a)) H := hP
  have hD : va_D A (XW ad cB cI cL n a (cu_LG P s1 s2 a) tip und P lev own amt s1 s2 wu (cu_WL P s1 s2 own amt a)) := hD
  refine lv_istore_n (lv' := [(2, .int (nI (cu_mt P a g n))), (0, .ref (ad 0)), (1, .int (nI g))]) hx hb dX0_moveTo_9 rfl hl (by decide) rfl (fun ls hl => ?_)
  refine lv_iconst (v := nI 0) hx hb dX0_moveTo_10 (by decide) ?_
  refine lv_istore_n (lv' := [(3, .int (nI 0)), (2, .int (nI (cu_mt P a g n))), (0, .ref (ad 0)), (1, .int (nI g))]) hx hb dX0_moveTo_11 rfl hl (by decide) rfl (fun ls hl => ?_)
  obtain ⟨hqa, hqg⟩ := cu_mt_An h ha hg
  have hqn := cu_mt_lt (P := P) (a := a) (b := g) n (by omega)
  refine cu_loop (σ := Nat × Nat) (I := fun (x_ : Nat × Nat) H locs ls => match x_ with | (b, k) => va_P D vwCl (XW ad cB cI cL n b (cu_LG P s1 s2 b) tip und P lev own amt s1 s2 wu (cu_WL P s1 s2 own amt b)) H ∧ va_D A (XW ad cB cI cL n b (cu_LG P s1 s2 b) tip und P lev own amt s1 s2 wu (cu_WL P s1 s2 own amt b)) ∧ va_S A s.heap H locs ∧ lv_has ls 7 [(0, .ref (ad 0)), (1, .int (nI g)), (2, .int (nI (cu_mt P a g n))), (3, .int (nI k))] ∧ (b < n) ∧ (cu_An P (cu_mt P a g n) b = true) ∧ (k + lev b = lev a)) (μ := fun (x_ : Nat × Nat) => match x_ with | (b, k) => b) ?_ (a, 0) ⟨hP, hD, hS, lv_sub hl [2, 3, 1, 0] rfl, ha, hqa, by omega⟩
  rintro ⟨b, k⟩ H locs ls ⟨hP, hD, hS, hl, ⟨hbn, hqb, hlv⟩⟩ ih
  refine lv_aload_n hx hb dX0_moveTo_12 rfl (lv_at hl 0 rfl) ?_
  refine va_get (D := D) (ci := 0) (v := .int (nI b)) (C := RX0) (T := TX0) (N := 13) hx hb hts in_X0 hown hK hP 0 rfl rfl 7 (by decide) (hts _ q35) (fun _ h9 => h9) rfl dX0_moveTo_13 ?_
  refine lv_iload_n hx hb dX0_moveTo_16 rfl (lv_at hl 2 rfl) ?_
  refine cu_icmp_eq (tgt := 47) (j := b) (k := cu_mt P a g n) (by omega) (by omega) hx hb dX0_moveTo_17 (by decide) (fun c17 => ?_) (fun c17 => ?_)
  · subst c17
    refine lv_iconst (v := nI 0) hx hb dX0_moveTo_47 (by decide) ?_
    refine lv_istore (lv' := [(4, .int (nI 0)), (0, .ref (ad 0)), (1, .int (nI g)), (2, .int (nI (cu_mt P a g n))), (3, .int (nI k))]) hx hb dX0_moveTo_48 hl (by decide) rfl (fun ls hl => ?_)
    refine lv_iload_n hx hb dX0_moveTo_50 rfl (lv_at hl 2 rfl) ?_
    refine lv_istore (lv' := [(5, .int (nI g)), (4, .int (nI 0)), (0, .ref (ad 0)), (1, .int (nI g)), (2, .int (nI (cu_mt P a g n))), (3, .int (nI k))]) hx hb dX0_moveTo_51 hl (by decide) rfl (fun ls hl => ?_)
    refine cu_loop (σ := Nat × (Nat → Int32)) (I := fun (x_ : Nat × (Nat → Int32)) H locs ls => match x_ with | (i, wu) => va_P D vwCl (XW ad cB cI cL n (cu_mt P a g n) (cu_LG P s1 s2 (cu_mt P a g n)) tip und P lev own amt s1 s2 wu (cu_WL P s1 s2 own amt (cu_mt P a g n))) H ∧ va_D A (XW ad cB cI cL n (cu_mt P a g n) (cu_LG P s1 s2 (cu_mt P a g n)) tip und P lev own amt s1 s2 wu (cu_WL P s1 s2 own amt (cu_mt P a g n))) ∧ va_S A s.heap H locs ∧ lv_has ls 7 [(0, .ref (ad 0)), (1, .int (nI g)), (2, .int (nI (cu_mt P a g n))), (3, .int (nI k)), (4, .int (nI i)), (5, .int (nI (cu_it P i g)))] ∧ (∀ j, j < i → wu j = nI (cu_it P j g) ∧ 0 < cu_it P j g ∧ cu_it P j g < n) ∧ (cu_it P i g < n) ∧ (cu_An P (cu_mt P a g n) (cu_it P i g) = true) ∧ (i + cu_it P i g ≤ g)) (μ := fun (x_ : Nat × (Nat → Int32)) => match x_ with | (i, wu) => cu_it P i g) ?_ (0, wu) ⟨hP, hD, hS, lv_sub hl [2, 3, 4, 5, 1, 0] rfl, fun j hj => absurd hj (Nat.not_lt_zero j), hg, hqg, by show 0 + g ≤ g; omega⟩
    rintro ⟨i, wu⟩ H locs ls ⟨hP, hD, hS, hl, ⟨hw, hdn, hqd, hid⟩⟩ ih
    refine lv_iload hx hb dX0_moveTo_53 (lv_at hl 5 rfl) ?_
    refine lv_iload_n hx hb dX0_moveTo_55 rfl (lv_at hl 2 rfl) ?_
    refine cu_icmp_eq (tgt := 84) (j := cu_it P i g) (k := cu_mt P a g n) (by omega) (by omega) hx hb dX0_moveTo_56 (by decide) (fun c56 => ?_) (fun c56 => ?_)
    · refine lv_iload hx hb dX0_moveTo_84 (lv_at hl 4 rfl) ?_
      refine lv_iconst (v := nI 1) hx hb dX0_moveTo_86 (by decide) ?_
      refine lv_isub hx hb dX0_moveTo_87 ?_
      refine cu_top (y := nI i - nI 1) rfl ?_
      refine lv_istore (lv' := [(6, .int (nI i - nI 1)), (0, .ref (ad 0)), (1, .int (nI g)), (2, .int (nI (cu_mt P a g n))), (3, .int (nI k)), (4, .int (nI i)), (5, .int (nI (cu_it P i g)))]) hx hb dX0_moveTo_88 hl (by decide) rfl (fun ls hl => ?_)
      have hP : va_P D vwCl (XW ad cB cI cL n (cu_mt P a g n) (cu_LG P s1 s2 (cu_it P i g)) tip und P lev own amt s1 s2 wu (cu_WL P s1 s2 own amt (cu_it P i g))) H := (by rw [c56]; exact hP)
      have hD : va_D A (XW ad cB cI cL n (cu_mt P a g n) (cu_LG P s1 s2 (cu_it P i g)) tip und P lev own amt s1 s2 wu (cu_WL P s1 s2 own amt (cu_it P i g))) := (by rw [c56]; exact hD)
      refine cu_loop (σ := Nat) (I := fun (x_ : Nat) H locs ls => match x_ with | j => va_P D vwCl (XW ad cB cI cL n (cu_mt P a g n) (cu_LG P s1 s2 (cu_it P j g)) tip und P lev own amt s1 s2 wu (cu_WL P s1 s2 own amt (cu_it P j g))) H ∧ va_D A (XW ad cB cI cL n (cu_mt P a g n) (cu_LG P s1 s2 (cu_it P j g)) tip und P lev own amt s1 s2 wu (cu_WL P s1 s2 own amt (cu_it P j g))) ∧ va_S A s.heap H locs ∧ lv_has ls 7 [(0, .ref (ad 0)), (1, .int (nI g)), (3, .int (nI k)), (6, .int (nI j - nI 1))] ∧ (j ≤ i)) (μ := fun (x_ : Nat) => match x_ with | j => j) ?_ i ⟨hP, hD, hS, lv_sub hl [1, 2, 4, 0] rfl, Nat.le_refl i⟩
      rintro j H locs ls ⟨hP, hD, hS, hl, hji⟩ ih
      rcases j with _ | j
      · refine lv_iload hx hb dX0_moveTo_90 (lv_at hl 3 rfl) ?_
        refine cuI_if_lt (tgt := 112) hx hb dX0_moveTo_92 (by decide) (fun c92 => ?_) (fun c92 => ?_)
        · refine lv_aload_n hx hb dX0_moveTo_112 rfl (lv_at hl 0 rfl) ?_
          refine lv_iload_n hx hb dX0_moveTo_113 rfl (lv_at hl 1 rfl) ?_
          refine va_put (D := D) (ci := 0) (v := .int (nI g)) (ty := .int) (C := RX0) (T := TX0) (N := 13) hx hb hts in_X0 tyX0 tyX0_ok nmX0 hown hK hP hD hS 0 rfl rfl 7 (by decide) (hts _ q35) (fun _ h9 => h9) rfl (by decide +kernel) rfl rfl (Nat.le_of_ble_eq_true rfl) dX0_moveTo_114 (fun H locs hP hD hS => ?_)
          have hP : va_P D vwCl (XW ad cB cI cL n g (cu_LG P s1 s2 g) tip und P lev own amt s1 s2 wu (cu_WL P s1 s2 own amt g)) H := hP
          have hD : va_D A (XW ad cB cI cL n g (cu_LG P s1 s2 g) tip und P lev own amt s1 s2 wu (cu_WL P s1 s2 own amt g)) := hD
          refine lv_iload_n hx hb dX0_moveTo_117 rfl (lv_at hl 2 rfl) ?_
          exact W.iret (v := nI k) hx hb hr (fun t_ ht_ hW => ⟨⟨nI k, wu, rfl, congrArg nI (by omega), by rw [ht_]; exact hP, va_K.moved hW.alike hK, hD⟩, hS.F ht_⟩) hS.2.2 dX0_moveTo_118
        · exact absurd c92 (by decide +kernel)
      · rw [cu_p1 j] at hl
        obtain ⟨e1, e2, e3⟩ := hw j (by omega)
        have hp := h.pos e2 e3
        have hob := h.own_le e2 e3
        have hP : va_P D vwCl (XW ad cB cI cL n (cu_mt P a g n) (cu_LG P s1 s2 (P (cu_it P j g))) tip und P lev own amt s1 s2 wu (cu_WL P s1 s2 own amt (P (cu_it P j g)))) H := hP
        have hD : va_D A (XW ad cB cI cL n (cu_mt P a g n) (cu_LG P s1 s2 (P (cu_it P j g))) tip und P lev own amt s1 s2 wu (cu_WL P s1 s2 own amt (P (cu_it P j g)))) := hD
        refine lv_iload hx hb dX0_moveTo_90 (lv_at hl 3 rfl) ?_
        refine cuI_if_lt (tgt := 112) hx hb dX0_moveTo_92 (by decide) (fun c92 => ?_) (fun c92 => ?_)
        · exact absurd c92 (by rw [nI_toInt (by omega)]; omega)
        · refine lv_aload_n hx hb dX0_moveTo_95 rfl (lv_at hl 0 rfl) ?_
          refine lv_aload_n hx hb dX0_moveTo_96 rfl (lv_at hl 0 rfl) ?_
          refine va_get (D := D) (ci := 0) (v := .ref (ad 8)) (C := RX0) (T := TX0) (N := 13) hx hb hts in_X0 hown hK hP 0 rfl rfl 10 (by decide) (hts _ q38) (fun _ h9 => h9) rfl dX0_moveTo_97 ?_
          refine lv_iload hx hb dX0_moveTo_100 (lv_at hl 3 rfl) ?_
          refine cu_bald (v := nI (cu_it P j g)) hx hb hK hP 8 0 rfl rfl j (by omega) (Nat.le_of_ble_eq_true rfl) e1 dX0_moveTo_102 ?_
          refine cu_callv (As := [.int (nI (cu_it P j g))]) (rest := []) (mX_apply l D ad cB cI cL H.size n (cu_mt P a g n) (cu_LG P s1 s2 (P (cu_it P j g))) tip und P lev own amt s1 s2 wu (cu_WL P s1 s2 own amt (P (cu_it P j g))) (cu_it P j g) (by omega) (by omega) (h.ci e2 e3).1 (h.ci e2 e3).2) ⟨hx, hb, hml, hown, hts⟩ (cwV 1 hts (lw_V q103 q105 qs7 q18 q106) rfl rfl rfl (by decide +kernel) ⟨Nat.le_of_ble_eq_true rfl, Nat.le_of_ble_eq_true rfl⟩) hK hP hD hS hA (ci := 0) rfl rfl ⟨Nat.le_of_ble_eq_true rfl, Nat.le_of_ble_eq_true rfl⟩ rfl hl.1 rfl (Nat.le_of_ble_eq_true rfl) dX0_moveTo_103 (fun u103 H locs hw103 hP hD hS => ?_)
          have hP : va_P D vwCl (XW ad cB cI cL n (cu_mt P a g n) (cu_apL s1 s2 (cu_LG P s1 s2 (P (cu_it P j g))) (cu_it P j g)) tip und P lev own amt s1 s2 wu (cu_apW s1 s2 own amt (cu_WL P s1 s2 own amt (P (cu_it P j g))) (cu_it P j g))) H := hP
          have hD : va_D A (XW ad cB cI cL n (cu_mt P a g n) (cu_apL s1 s2 (cu_LG P s1 s2 (P (cu_it P j g))) (cu_it P j g)) tip und P lev own amt s1 s2 wu (cu_apW s1 s2 own amt (cu_WL P s1 s2 own amt (P (cu_it P j g))) (cu_it P j g))) := hD
          have hP : va_P D vwCl (XW ad cB cI cL n (cu_mt P a g n) (cu_LG P s1 s2 (cu_it P j g)) tip und P lev own amt s1 s2 wu (cu_WL P s1 s2 own amt (cu_it P j g))) H := (by rw [← cu_LG_step hp, ← cu_WL_step hp] at hP; exact hP)
          have hD : va_D A (XW ad cB cI cL n (cu_mt P a g n) (cu_LG P s1 s2 (cu_it P j g)) tip und P lev own amt s1 s2 wu (cu_WL P s1 s2 own amt (cu_it P j g))) := (by rw [← cu_LG_step hp, ← cu_WL_step hp] at hD; exact hD)
          refine lv_iinc (v := nI j - nI 1) (lv' := [(6, .int (nI j - nI 1)), (0, .ref (ad 0)), (1, .int (nI g)), (3, .int (nI k))]) hx hb dX0_moveTo_106 hl (k := 3) rfl (cu_decI _) (by decide) rfl (fun ls hl => ?_)
          refine lv_goto (tgt := 90) hx hb dX0_moveTo_109 (by decide) ?_
          exact ih j _ _ _ ⟨hP, hD, hS, lv_sub hl [1, 2, 3, 0] rfl, by omega⟩ (show j < j + 1 by omega)
    · have hd0 : 0 < cu_it P i g := by have := cu_An_le _ hqd; omega
      have hp := h.pos hd0 hdn
      have hqp : cu_An P (cu_mt P a g n) (P (cu_it P i g)) = true := (cu_An_iff.mp hqd).elim (fun z => absurd z.symm c56) (fun z => z.2)
      have hw1 : ∀ j, j < i + 1 → upd wu i (nI (cu_it P i g)) j = nI (cu_it P j g) ∧ 0 < cu_it P j g ∧ cu_it P j g < n := by
        intro j hj
        by_cases e : j = i
        · subst e; exact ⟨pk_us, hd0, hdn⟩
        · rw [pk_un e]; exact hw j (by omega)
      refine lv_aload_n hx hb dX0_moveTo_59 rfl (lv_at hl 0 rfl) ?_
      refine va_get (D := D) (ci := 0) (v := .ref (ad 8)) (C := RX0) (T := TX0) (N := 13) hx hb hts in_X0 hown hK hP 0 rfl rfl 10 (by decide) (hts _ q38) (fun _ h9 => h9) rfl dX0_moveTo_60 ?_
      refine lv_iload hx hb dX0_moveTo_63 (lv_at hl 4 rfl) ?_
      refine lv_iload hx hb dX0_moveTo_65 (lv_at hl 5 rfl) ?_
      refine lv_i2b (v := nI (cu_it P i g)) hx hb dX0_moveTo_67 (cu_i2b _ (by omega)) ?_
      refine cu_bast (f' := upd wu i (nI (cu_it P i g))) hx hb hK hP hD hS 8 0 rfl rfl i (by omega) (Nat.le_of_ble_eq_true rfl) (by rw [cu_nb _ (by omega)]) dX0_moveTo_68 (fun H locs hP hD hS => ?_)
      have hP : va_P D vwCl (XW ad cB cI cL n (cu_mt P a g n) (cu_LG P s1 s2 (cu_mt P a g n)) tip und P lev own amt s1 s2 (upd wu i (nI (cu_it P i g))) (cu_WL P s1 s2 own amt (cu_mt P a g n))) H := hP
      have hD : va_D A (XW ad cB cI cL n (cu_mt P a g n) (cu_LG P s1 s2 (cu_mt P a g n)) tip und P lev own amt s1 s2 (upd wu i (nI (cu_it P i g))) (cu_WL P s1 s2 own amt (cu_mt P a g n))) := hD
      refine lv_iinc (v := nI (i + 1)) (lv' := [(4, .int (nI (i + 1))), (0, .ref (ad 0)), (1, .int (nI g)), (2, .int (nI (cu_mt P a g n))), (3, .int (nI k)), (5, .int (nI (cu_it P i g)))]) hx hb dX0_moveTo_69 hl (k := 4) rfl (cu_inc _) (by decide) rfl (fun ls hl => ?_)
      refine lv_aload_n hx hb dX0_moveTo_72 rfl (lv_at hl 1 rfl) ?_
      refine va_get (D := D) (ci := 0) (v := .ref (ad 1)) (C := RX0) (T := TX0) (N := 13) hx hb hts in_X0 hown hK hP 0 rfl rfl 1 (by decide) (hts _ q29) (fun _ h9 => h9) rfl dX0_moveTo_73 ?_
      refine lv_iload hx hb dX0_moveTo_76 (lv_at hl 5 rfl) ?_
      refine cu_bald (v := nI (P (cu_it P i g))) hx hb hK hP 1 0 rfl rfl (cu_it P i g) (by omega) (Nat.le_of_ble_eq_true rfl) rfl dX0_moveTo_78 ?_
      refine lv_istore (lv' := [(5, .int (nI (P (cu_it P i g)))), (4, .int (nI (i + 1))), (0, .ref (ad 0)), (1, .int (nI g)), (2, .int (nI (cu_mt P a g n))), (3, .int (nI k))]) hx hb dX0_moveTo_79 hl (by decide) rfl (fun ls hl => ?_)
      refine lv_goto (tgt := 53) hx hb dX0_moveTo_81 (by decide) ?_
      exact ih (i + 1, upd wu i (nI (cu_it P i g))) _ _ _ ⟨hP, hD, hS, lv_sub hl [2, 3, 4, 5, 1, 0] rfl, hw1, by show P (cu_it P i g) < n; omega, hqp, by show i + 1 + P (cu_it P i g) ≤ g; omega⟩ (show P (cu_it P i g) < cu_it P i g by omega)
  · have hb0 : 0 < b := by have := cu_An_le _ hqb; omega
    have hp := h.pos hb0 hbn
    have hqp : cu_An P (cu_mt P a g n) (P b) = true := (cu_An_iff.mp hqb).elim (fun z => absurd z.symm c17) (fun z => z.2)
    have hlb := (h.2.2.2.2.2 b hb0 hbn).2.1
    have hob := h.own_le hb0 hbn
    refine lv_aload_n hx hb dX0_moveTo_20 rfl (lv_at hl 0 rfl) ?_
    refine lv_aload_n hx hb dX0_moveTo_21 rfl (lv_at hl 0 rfl) ?_
    refine va_get (D := D) (ci := 0) (v := .int (nI b)) (C := RX0) (T := TX0) (N := 13) hx hb hts in_X0 hown hK hP 0 rfl rfl 7 (by decide) (hts _ q35) (fun _ h9 => h9) rfl dX0_moveTo_22 ?_
    refine cu_callv (As := [.int (nI b)]) (rest := []) (mX_undo l D ad cB cI cL H.size n b (cu_LG P s1 s2 b) tip und P lev own amt s1 s2 wu (cu_WL P s1 s2 own amt b) b (by omega) (by omega) (h.ci hb0 hbn).1 (h.ci hb0 hbn).2) ⟨hx, hb, hml, hown, hts⟩ (cwV 1 hts (lw_V q91 q93 qs4 q18 q94) rfl rfl rfl (by decide +kernel) ⟨Nat.le_of_ble_eq_true rfl, Nat.le_of_ble_eq_true rfl⟩) hK hP hD hS hA (ci := 0) rfl rfl ⟨Nat.le_of_ble_eq_true rfl, Nat.le_of_ble_eq_true rfl⟩ rfl hl.1 rfl (Nat.le_of_ble_eq_true rfl) dX0_moveTo_25 (fun u25 H locs hw25 hP hD hS => ?_)
    have hP : va_P D vwCl (XW ad cB cI cL n b (cu_unL s1 s2 (cu_LG P s1 s2 b) b) tip und P lev own amt s1 s2 wu (cu_unW s1 s2 own amt (cu_WL P s1 s2 own amt b) b)) H := hP
    have hD : va_D A (XW ad cB cI cL n b (cu_unL s1 s2 (cu_LG P s1 s2 b) b) tip und P lev own amt s1 s2 wu (cu_unW s1 s2 own amt (cu_WL P s1 s2 own amt b) b)) := hD
    have hP : va_P D vwCl (XW ad cB cI cL n b (cu_LG P s1 s2 (P b)) tip und P lev own amt s1 s2 wu (cu_WL P s1 s2 own amt (P b))) H := (by rw [cu_LG_un h hb0 hbn, cu_WL_un hp] at hP; exact hP)
    have hD : va_D A (XW ad cB cI cL n b (cu_LG P s1 s2 (P b)) tip und P lev own amt s1 s2 wu (cu_WL P s1 s2 own amt (P b))) := (by rw [cu_LG_un h hb0 hbn, cu_WL_un hp] at hD; exact hD)
    refine lv_aload_n hx hb dX0_moveTo_28 rfl (lv_at hl 0 rfl) ?_
    refine lv_aload_n hx hb dX0_moveTo_29 rfl (lv_at hl 0 rfl) ?_
    refine va_get (D := D) (ci := 0) (v := .ref (ad 1)) (C := RX0) (T := TX0) (N := 13) hx hb hts in_X0 hown hK hP 0 rfl rfl 1 (by decide) (hts _ q29) (fun _ h9 => h9) rfl dX0_moveTo_30 ?_
    refine lv_aload_n hx hb dX0_moveTo_33 rfl (lv_at hl 0 rfl) ?_
    refine va_get (D := D) (ci := 0) (v := .int (nI b)) (C := RX0) (T := TX0) (N := 13) hx hb hts in_X0 hown hK hP 0 rfl rfl 7 (by decide) (hts _ q35) (fun _ h9 => h9) rfl dX0_moveTo_34 ?_
    refine cu_bald (v := nI (P b)) hx hb hK hP 1 0 rfl rfl b (by omega) (Nat.le_of_ble_eq_true rfl) rfl dX0_moveTo_37 ?_
    refine va_put (D := D) (ci := 0) (v := .int (nI (P b))) (ty := .int) (C := RX0) (T := TX0) (N := 13) hx hb hts in_X0 tyX0 tyX0_ok nmX0 hown hK hP hD hS 0 rfl rfl 7 (by decide) (hts _ q35) (fun _ h9 => h9) rfl (by decide +kernel) rfl rfl (Nat.le_of_ble_eq_true rfl) dX0_moveTo_38 (fun H locs hP hD hS => ?_)
    have hP : va_P D vwCl (XW ad cB cI cL n (P b) (cu_LG P s1 s2 (P b)) tip und P lev own amt s1 s2 wu (cu_WL P s1 s2 own amt (P b))) H := hP
    have hD : va_D A (XW ad cB cI cL n (P b) (cu_LG P s1 s2 (P b)) tip und P lev own amt s1 s2 wu (cu_WL P s1 s2 own amt (P b))) := hD
    refine lv_iinc (v := nI (k + 1)) (lv' := [(3, .int (nI (k + 1))), (0, .ref (ad 0)), (1, .int (nI g)), (2, .int (nI (cu_mt P a g n)))]) hx hb dX0_moveTo_41 hl (k := 3) rfl (cu_inc _) (by decide) rfl (fun ls hl => ?_)
    refine lv_goto (tgt := 12) hx hb dX0_moveTo_44 (by decide) ?_
    exact ih (P b, k + 1) _ _ _ ⟨hP, hD, hS, lv_sub hl [1, 2, 3, 0] rfl, by omega, hqp, by omega⟩ (show P b < b by omega)
end
section
/-! contracts: printed by gen/make.py -/
set_option maxHeartbeats 4000000 in
set_option maxRecDepth 100000 in
/-- addBlock(a, o, m, x, y) -/
theorem mX_addBlock (l : Launch) (D : va_G) (ad : Nat → Nat) (cB cI cL : ClassId) (sz : Nat) (n tip : Nat) (und : Int32) (P lev own amt : Nat → Nat) (s1 s2 wu : Nat → Int32) (a o mm : Nat) (x y : Int32) (h : cu_OK n P lev own amt s1 s2) (ht : tip < n) (hn : n < 20) (ha : a < n) (ho : o ≤ 3) (hx8 : x.toInt8.toInt32 = x) (hy8 : y.toInt8.toInt32 = y) (hok : cu_OK (n + 1) (cu_up P n a) (cu_up lev n (lev a + 1)) (cu_up own n o) (cu_up amt n mm) (upd s1 n x) (upd s2 n y)) : Met l yX0_addBlock (ws_ yX0_addBlock cX0_addBlock 7 (some .int)) ({ frames := 3, cells := 0, slots := 0, locals := 68 }) (va_Pc [.ref (ad 0), .int (nI a), .int (nI o), .int (nI mm), .int x, .int y] (cu_In D vwCl (XT cB cI cL) (XW ad cB cI cL n tip (cu_LG P s1 s2 tip) tip und P lev own amt s1 s2 wu (cu_WL P s1 s2 own amt tip)) sz)) (va_Qi (fun (r : Int32) (u : Nat → Int32) => r = nI n) (fun u => cu_Out D vwCl (XT cB cI cL) (va_A (XW ad cB cI cL n tip (cu_LG P s1 s2 tip) tip und P lev own amt s1 s2 wu (cu_WL P s1 s2 own amt tip)) sz) (XS ad cB cI cL (cu_add (n, tip, und, P, lev, own, amt, s1, s2) a o mm x y) u)) (va_A (XW ad cB cI cL n tip (cu_LG P s1 s2 tip) tip und P lev own amt s1 s2 wu (cu_WL P s1 s2 own amt tip)) sz)) 0 0 (va_A (XW ad cB cI cL n tip (cu_LG P s1 s2 tip) tip und P lev own amt s1 s2 wu (cu_WL P s1 s2 own amt tip)) sz) := by
  refine Met.ofW (cc := cX0_addBlock) (maxL := 7) (ret := (some .int)) (by decide) rfl ?_
  intro p e s m args below meth c s₁ B hml hv
  obtain ⟨rfl, hsz, hP, hK, hD0⟩ := hv
  have hx := B.exec
  have hb := B.bytes
  have hr := B.returns
  have hts := atoms_spec (ws := ws_ yX0_addBlock cX0_addBlock 7 (some .int)) B.pre
  have hts : ∀ w ∈ lw_all, w.before _ s = true := fun w h => hts w (List.mem_cons_of_mem _ h)
  have hown : s.vm.findClass RX0 = some m.cls := findClass_of_methodNamed B.named
  have hlocks := B.notSynchronized
  subst hsz
  have hD := hD0.self (sz := s.heap.size)
  generalize hAe : va_A (XW ad cB cI cL n tip (cu_LG P s1 s2 tip) tip und P lev own amt s1 s2 wu (cu_WL P s1 s2 own amt tip)) s.heap.size = A at hD ⊢
  have hA : ∀ q : Nat, s.heap.size ≤ q → A q := fun q h => by rw [← hAe]; exact Or.inr h
  have hl := lv_entry ([.ref (ad 0), .int (nI a), .int (nI o), .int (nI mm), .int x, .int y]) (n := 7) (Nat.le_of_ble_eq_true rfl)
  rw [lg_entry_eq]
  generalize (lg_sl ([.ref (ad 0), .int (nI a), .int (nI o), .int (nI mm), .int x, .int y]) ++ List.replicate (7 - (lg_sl ([.ref (ad 0), .int (nI a), .int (nI o), .int (nI mm), .int x, .int y])).length) Slot.unset).toArray = ls at hl ⊢
  have hl : lv_has ls 7 [(0, .ref (ad 0)), (1, .int (nI a)), (2, .int (nI o)), (3, .int (nI mm)), (4, .int x), (5, .int y)] := hl
  refine cu_start (fun H locs eH eL => ?_)
  have hP : va_P D vwCl (XW ad cB cI cL n tip (cu_LG P s1 s2 tip) tip und P lev own amt s1 s2 wu (cu_WL P s1 s2 own amt tip)) H := by rw [eH]; exact hP
  have hS : va_S A s.heap H locs := by rw [eH, eL]; exact va_S.rf
  have hla := h.lev_le a ha
  have hlt := h.lev_le tip ht
  have e1 : cu_up lev n (lev a + 1) n = lev a + 1 := cu_up_s _ _ _
  have e2 : cu_up lev n (lev a + 1) tip = lev tip := cu_up_n _ _ (by omega)
  refine lv_aload_n hx hb dX0_addBlock_0 rfl (lv_at hl 0 rfl) ?_
  refine va_get (D := D) (ci := 0) (v := .int (nI n)) (C := RX0) (T := TX0) (N := 13) hx hb hts in_X0 hown hK hP 0 rfl rfl 0 (by decide) (hts _ q28) (fun _ h9 => h9) rfl dX0_addBlock_1 ?_
  refine lv_istore (lv' := [(6, .int (nI n)), (0, .ref (ad 0)), (1, .int (nI a)), (2, .int (nI o)), (3, .int (nI mm)), (4, .int x), (5, .int y)]) hx hb dX0_addBlock_4 hl (by decide) rfl (fun ls hl => ?_)
  refine lv_aload_n hx hb dX0_addBlock_6 rfl (lv_at hl 1 rfl) ?_
  refine lv_dup hx hb dX0_addBlock_7 rfl ?_
  refine va_get (D := D) (ci := 0) (v := .int (nI n)) (C := RX0) (T := TX0) (N := 13) hx hb hts in_X0 hown hK hP 0 rfl rfl 0 (by decide) (hts _ q28) (fun _ h9 => h9) rfl dX0_addBlock_8 ?_
  refine lv_iconst (v := nI 1) hx hb dX0_addBlock_11 (by decide) ?_
  refine lv_iadd hx hb dX0_addBlock_12 ?_
  refine cu_top (y := nI (n + 1)) (nI_add _ _) ?_
  refine va_put (D := D) (ci := 0) (v := .int (nI (n + 1))) (ty := .int) (C := RX0) (T := TX0) (N := 13) hx hb hts in_X0 tyX0 tyX0_ok nmX0 hown hK hP hD hS 0 rfl rfl 0 (by decide) (hts _ q28) (fun _ h9 => h9) rfl (by decide +kernel) rfl rfl (Nat.le_of_ble_eq_true rfl) dX0_addBlock_13 (fun H locs hP hD hS => ?_)
  have hP : va_P D vwCl (XW ad cB cI cL (n + 1) tip (cu_LG P s1 s2 tip) tip und P lev own amt s1 s2 wu (cu_WL P s1 s2 own amt tip)) H := hP
  have hD : va_D A (XW ad cB cI cL (n + 1) tip (cu_LG P s1 s2 tip) tip und P lev own amt s1 s2 wu (cu_WL P s1 s2 own amt tip)) := hD
  refine lv_aload_n hx hb dX0_addBlock_16 rfl (lv_at hl 1 rfl) ?_
  refine va_get (D := D) (ci := 0) (v := .ref (ad 1)) (C := RX0) (T := TX0) (N := 13) hx hb hts in_X0 hown hK hP 0 rfl rfl 1 (by decide) (hts _ q29) (fun _ h9 => h9) rfl dX0_addBlock_17 ?_
  refine lv_iload hx hb dX0_addBlock_20 (lv_at hl 0 rfl) ?_
  refine lv_iload_n hx hb dX0_addBlock_22 rfl (lv_at hl 2 rfl) ?_
  refine lv_i2b (v := nI a) hx hb dX0_addBlock_23 (cu_i2b _ (by omega)) ?_
  refine cu_bast (f' := fun j => nI ((cu_up P n a) j)) hx hb hK hP hD hS 1 0 rfl rfl n (by omega) (Nat.le_of_ble_eq_true rfl) (by rw [cu_nb _ (by omega)]; exact cu_up_nI _ _ _) dX0_addBlock_24 (fun H locs hP hD hS => ?_)
  have hP : va_P D vwCl (XW ad cB cI cL (n + 1) tip (cu_LG P s1 s2 tip) tip und (cu_up P n a) lev own amt s1 s2 wu (cu_WL P s1 s2 own amt tip)) H := hP
  have hD : va_D A (XW ad cB cI cL (n + 1) tip (cu_LG P s1 s2 tip) tip und (cu_up P n a) lev own amt s1 s2 wu (cu_WL P s1 s2 own amt tip)) := hD
  refine lv_aload_n hx hb dX0_addBlock_25 rfl (lv_at hl 1 rfl) ?_
  refine va_get (D := D) (ci := 0) (v := .ref (ad 2)) (C := RX0) (T := TX0) (N := 13) hx hb hts in_X0 hown hK hP 0 rfl rfl 2 (by decide) (hts _ q30) (fun _ h9 => h9) rfl dX0_addBlock_26 ?_
  refine lv_iload hx hb dX0_addBlock_29 (lv_at hl 0 rfl) ?_
  refine lv_aload_n hx hb dX0_addBlock_31 rfl (lv_at hl 1 rfl) ?_
  refine va_get (D := D) (ci := 0) (v := .ref (ad 2)) (C := RX0) (T := TX0) (N := 13) hx hb hts in_X0 hown hK hP 0 rfl rfl 2 (by decide) (hts _ q30) (fun _ h9 => h9) rfl dX0_addBlock_32 ?_
  refine lv_iload_n hx hb dX0_addBlock_35 rfl (lv_at hl 2 rfl) ?_
  refine cu_bald (v := nI (lev a)) hx hb hK hP 2 0 rfl rfl a (by omega) (Nat.le_of_ble_eq_true rfl) rfl dX0_addBlock_36 ?_
  refine lv_iconst (v := nI 1) hx hb dX0_addBlock_37 (by decide) ?_
  refine lv_iadd hx hb dX0_addBlock_38 ?_
  refine cu_top (y := nI ((lev a) + 1)) (nI_add _ _) ?_
  refine lv_i2b (v := nI ((lev a) + 1)) hx hb dX0_addBlock_39 (cu_i2b _ (by omega)) ?_
  refine cu_bast (f' := fun j => nI ((cu_up lev n ((lev a) + 1)) j)) hx hb hK hP hD hS 2 0 rfl rfl n (by omega) (Nat.le_of_ble_eq_true rfl) (by rw [cu_nb _ (by omega)]; exact cu_up_nI _ _ _) dX0_addBlock_40 (fun H locs hP hD hS => ?_)
  have hP : va_P D vwCl (XW ad cB cI cL (n + 1) tip (cu_LG P s1 s2 tip) tip und (cu_up P n a) (cu_up lev n ((lev a) + 1)) own amt s1 s2 wu (cu_WL P s1 s2 own amt tip)) H := hP
  have hD : va_D A (XW ad cB cI cL (n + 1) tip (cu_LG P s1 s2 tip) tip und (cu_up P n a) (cu_up lev n ((lev a) + 1)) own amt s1 s2 wu (cu_WL P s1 s2 own amt tip)) := hD
  refine lv_aload_n hx hb dX0_addBlock_41 rfl (lv_at hl 1 rfl) ?_
  refine va_get (D := D) (ci := 0) (v := .ref (ad 3)) (C := RX0) (T := TX0) (N := 13) hx hb hts in_X0 hown hK hP 0 rfl rfl 3 (by decide) (hts _ q31) (fun _ h9 => h9) rfl dX0_addBlock_42 ?_
  refine lv_iload hx hb dX0_addBlock_45 (lv_at hl 0 rfl) ?_
  refine lv_iload_n hx hb dX0_addBlock_47 rfl (lv_at hl 3 rfl) ?_
  refine lv_i2b (v := nI o) hx hb dX0_addBlock_48 (cu_i2b _ (by omega)) ?_
  refine cu_bast (f' := fun j => nI ((cu_up own n o) j)) hx hb hK hP hD hS 3 0 rfl rfl n (by omega) (Nat.le_of_ble_eq_true rfl) (by rw [cu_nb _ (by omega)]; exact cu_up_nI _ _ _) dX0_addBlock_49 (fun H locs hP hD hS => ?_)
  have hP : va_P D vwCl (XW ad cB cI cL (n + 1) tip (cu_LG P s1 s2 tip) tip und (cu_up P n a) (cu_up lev n ((lev a) + 1)) (cu_up own n o) amt s1 s2 wu (cu_WL P s1 s2 own amt tip)) H := hP
  have hD : va_D A (XW ad cB cI cL (n + 1) tip (cu_LG P s1 s2 tip) tip und (cu_up P n a) (cu_up lev n ((lev a) + 1)) (cu_up own n o) amt s1 s2 wu (cu_WL P s1 s2 own amt tip)) := hD
  refine lv_aload_n hx hb dX0_addBlock_50 rfl (lv_at hl 1 rfl) ?_
  refine va_get (D := D) (ci := 0) (v := .ref (ad 4)) (C := RX0) (T := TX0) (N := 13) hx hb hts in_X0 hown hK hP 0 rfl rfl 4 (by decide) (hts _ q32) (fun _ h9 => h9) rfl dX0_addBlock_51 ?_
  refine lv_iload hx hb dX0_addBlock_54 (lv_at hl 0 rfl) ?_
  refine lv_iload_n hx hb dX0_addBlock_56 rfl (lv_at hl 4 rfl) ?_
  refine cu_iast (f' := fun j => nI ((cu_up amt n mm) j)) hx hb hK hP hD hS 4 1 rfl rfl n (by omega) (Nat.le_of_ble_eq_true rfl) (cu_up_nI _ _ _) dX0_addBlock_57 (fun H locs hP hD hS => ?_)
  have hP : va_P D vwCl (XW ad cB cI cL (n + 1) tip (cu_LG P s1 s2 tip) tip und (cu_up P n a) (cu_up lev n ((lev a) + 1)) (cu_up own n o) (cu_up amt n mm) s1 s2 wu (cu_WL P s1 s2 own amt tip)) H := hP
  have hD : va_D A (XW ad cB cI cL (n + 1) tip (cu_LG P s1 s2 tip) tip und (cu_up P n a) (cu_up lev n ((lev a) + 1)) (cu_up own n o) (cu_up amt n mm) s1 s2 wu (cu_WL P s1 s2 own amt tip)) := hD
  refine lv_aload_n hx hb dX0_addBlock_58 rfl (lv_at hl 1 rfl) ?_
  refine va_get (D := D) (ci := 0) (v := .ref (ad 5)) (C := RX0) (T := TX0) (N := 13) hx hb hts in_X0 hown hK hP 0 rfl rfl 5 (by decide) (hts _ q33) (fun _ h9 => h9) rfl dX0_addBlock_59 ?_
  refine lv_iload hx hb dX0_addBlock_62 (lv_at hl 0 rfl) ?_
  refine lv_iload hx hb dX0_addBlock_64 (lv_at hl 5 rfl) ?_
  refine lv_i2b (v := x) hx hb dX0_addBlock_66 hx8 ?_
  refine cu_bast (f' := upd s1 n x) hx hb hK hP hD hS 5 0 rfl rfl n (by omega) (Nat.le_of_ble_eq_true rfl) (by rw [vp_nar_byte, hx8]) dX0_addBlock_67 (fun H locs hP hD hS => ?_)
  have hP : va_P D vwCl (XW ad cB cI cL (n + 1) tip (cu_LG P s1 s2 tip) tip und (cu_up P n a) (cu_up lev n ((lev a) + 1)) (cu_up own n o) (cu_up amt n mm) (upd s1 n x) s2 wu (cu_WL P s1 s2 own amt tip)) H := hP
  have hD : va_D A (XW ad cB cI cL (n + 1) tip (cu_LG P s1 s2 tip) tip und (cu_up P n a) (cu_up lev n ((lev a) + 1)) (cu_up own n o) (cu_up amt n mm) (upd s1 n x) s2 wu (cu_WL P s1 s2 own amt tip)) := hD
  refine lv_aload_n hx hb dX0_addBlock_68 rfl (lv_at hl 1 rfl) ?_
  refine va_get (D := D) (ci := 0) (v := .ref (ad 6)) (C := RX0) (T := TX0) (N := 13) hx hb hts in_X0 hown hK hP 0 rfl rfl 6 (by decide) (hts _ q34) (fun _ h9 => h9) rfl dX0_addBlock_69 ?_
  refine lv_iload hx hb dX0_addBlock_72 (lv_at hl 0 rfl) ?_
  refine lv_iload hx hb dX0_addBlock_74 (lv_at hl 6 rfl) ?_
  refine lv_i2b (v := y) hx hb dX0_addBlock_76 hy8 ?_
  refine cu_bast (f' := upd s2 n y) hx hb hK hP hD hS 6 0 rfl rfl n (by omega) (Nat.le_of_ble_eq_true rfl) (by rw [vp_nar_byte, hy8]) dX0_addBlock_77 (fun H locs hP hD hS => ?_)
  have hP : va_P D vwCl (XW ad cB cI cL (n + 1) tip (cu_LG P s1 s2 tip) tip und (cu_up P n a) (cu_up lev n ((lev a) + 1)) (cu_up own n o) (cu_up amt n mm) (upd s1 n x) (upd s2 n y) wu (cu_WL P s1 s2 own amt tip)) H := hP
  have hD : va_D A (XW ad cB cI cL (n + 1) tip (cu_LG P s1 s2 tip) tip und (cu_up P n a) (cu_up lev n ((lev a) + 1)) (cu_up own n o) (cu_up amt n mm) (upd s1 n x) (upd s2 n y) wu (cu_WL P s1 s2 own amt tip)) := hD
  have hP : va_P D vwCl (XW ad cB cI cL (n + 1) tip (cu_LG (cu_up P n a) (upd s1 n x) (upd s2 n y) tip) tip und (cu_up P n a) (cu_up lev n ((lev a) + 1)) (cu_up own n o) (cu_up amt n mm) (upd s1 n x) (upd s2 n y) wu (cu_WL (cu_up P n a) (upd s1 n x) (upd s2 n y) (cu_up own n o) (cu_up amt n mm) tip)) H := (by rw [← cu_LG_add ht, ← cu_WL_add h ht]; exact hP)
  have hD : va_D A (XW ad cB cI cL (n + 1) tip (cu_LG (cu_up P n a) (upd s1 n x) (upd s2 n y) tip) tip und (cu_up P n a) (cu_up lev n ((lev a) + 1)) (cu_up own n o) (cu_up amt n mm) (upd s1 n x) (upd s2 n y) wu (cu_WL (cu_up P n a) (upd s1 n x) (upd s2 n y) (cu_up own n o) (cu_up amt n mm) tip)) := (by rw [← cu_LG_add ht, ← cu_WL_add h ht]; exact hD)
  refine lv_aload_n hx hb dX0_addBlock_78 rfl (lv_at hl 1 rfl) ?_
  refine va_get (D := D) (ci := 0) (v := .ref (ad 2)) (C := RX0) (T := TX0) (N := 13) hx hb hts in_X0 hown hK hP 0 rfl rfl 2 (by decide) (hts _ q30) (fun _ h9 => h9) rfl dX0_addBlock_79 ?_
  refine lv_iload hx hb dX0_addBlock_82 (lv_at hl 0 rfl) ?_
  refine cu_bald (v := nI ((cu_up lev n ((lev a) + 1)) n)) hx hb hK hP 2 0 rfl rfl n (by omega) (Nat.le_of_ble_eq_true rfl) rfl dX0_addBlock_84 ?_
  refine lv_aload_n hx hb dX0_addBlock_85 rfl (lv_at hl 1 rfl) ?_
  refine va_get (D := D) (ci := 0) (v := .ref (ad 2)) (C := RX0) (T := TX0) (N := 13) hx hb hts in_X0 hown hK hP 0 rfl rfl 2 (by decide) (hts _ q30) (fun _ h9 => h9) rfl dX0_addBlock_86 ?_
  refine lv_aload_n hx hb dX0_addBlock_89 rfl (lv_at hl 1 rfl) ?_
  refine va_get (D := D) (ci := 0) (v := .int (nI tip)) (C := RX0) (T := TX0) (N := 13) hx hb hts in_X0 hown hK hP 0 rfl rfl 11 (by decide) (hts _ q39) (fun _ h9 => h9) rfl dX0_addBlock_90 ?_
  refine cu_bald (v := nI ((cu_up lev n ((lev a) + 1)) tip)) hx hb hK hP 2 0 rfl rfl tip (by omega) (Nat.le_of_ble_eq_true rfl) rfl dX0_addBlock_93 ?_
  refine cu_icmp_le (tgt := 113) (j := (cu_up lev n ((lev a) + 1)) n) (k := (cu_up lev n ((lev a) + 1)) tip) (by omega) (by omega) hx hb dX0_addBlock_94 (by decide) (fun c94 => ?_) (fun c94 => ?_)
  · refine lv_iload hx hb dX0_addBlock_113 (lv_at hl 0 rfl) ?_
    exact W.iret (v := nI n) hx hb hr (fun t_ ht_ hW => ⟨⟨nI n, wu, rfl, rfl, by rw [ht_]; exact (by rw [cu_add_f (by omega)]; exact hP), va_K.moved hW.alike hK, (by rw [cu_add_f (by omega)]; exact hD)⟩, hS.F ht_⟩) hS.2.2 dX0_addBlock_115
  · refine lv_aload_n hx hb dX0_addBlock_97 rfl (lv_at hl 1 rfl) ?_
    refine lv_aload_n hx hb dX0_addBlock_98 rfl (lv_at hl 1 rfl) ?_
    refine lv_iload hx hb dX0_addBlock_99 (lv_at hl 0 rfl) ?_
    refine cu_calli (As := [.int (nI n)]) (rest := [.ref (ad 0)]) (mX_moveTo l D ad cB cI cL H.size (n + 1) tip tip und (cu_up P n a) (cu_up lev n ((lev a) + 1)) (cu_up own n o) (cu_up amt n mm) (upd s1 n x) (upd s2 n y) wu n hok (by omega) (by omega) ) ⟨hx, hb, hml, hown, hts⟩ (cwV 1 hts (lw_V q83 q85 qs2 q18 q86) rfl rfl rfl (by decide +kernel) ⟨Nat.le_of_ble_eq_true rfl, Nat.le_of_ble_eq_true rfl⟩) hK hP hD hS hA (ci := 0) rfl rfl ⟨Nat.le_of_ble_eq_true rfl, Nat.le_of_ble_eq_true rfl⟩ rfl hl.1 rfl (Nat.le_of_ble_eq_true rfl) dX0_addBlock_101 (fun r101 wu1 H locs hw101 hP hD hS => ?_)
    obtain rfl : r101 = nI ((cu_up lev n ((lev a) + 1)) tip - (cu_up lev n ((lev a) + 1)) (cu_mt (cu_up P n a) tip n (n + 1))) := hw101
    have hP : va_P D vwCl (XW ad cB cI cL (n + 1) n (cu_LG (cu_up P n a) (upd s1 n x) (upd s2 n y) n) tip und (cu_up P n a) (cu_up lev n ((lev a) + 1)) (cu_up own n o) (cu_up amt n mm) (upd s1 n x) (upd s2 n y) wu1 (cu_WL (cu_up P n a) (upd s1 n x) (upd s2 n y) (cu_up own n o) (cu_up amt n mm) n)) H := hP
    have hD : va_D A (XW ad cB cI cL (n + 1) n (cu_LG (cu_up P n a) (upd s1 n x) (upd s2 n y) n) tip und (cu_up P n a) (cu_up lev n ((lev a) + 1)) (cu_up own n o) (cu_up amt n mm) (upd s1 n x) (upd s2 n y) wu1 (cu_WL (cu_up P n a) (upd s1 n x) (upd s2 n y) (cu_up own n o) (cu_up amt n mm) n)) := hD
    refine va_put (D := D) (ci := 0) (v := .int (nI ((cu_up lev n ((lev a) + 1)) tip - (cu_up lev n ((lev a) + 1)) (cu_mt (cu_up P n a) tip n (n + 1))))) (ty := .int) (C := RX0) (T := TX0) (N := 13) hx hb hts in_X0 tyX0 tyX0_ok nmX0 hown hK hP hD hS 0 rfl rfl 12 (by decide) (hts _ q40) (fun _ h9 => h9) rfl (by decide +kernel) rfl rfl (Nat.le_of_ble_eq_true rfl) dX0_addBlock_104 (fun H locs hP hD hS => ?_)
    have hP : va_P D vwCl (XW ad cB cI cL (n + 1) n (cu_LG (cu_up P n a) (upd s1 n x) (upd s2 n y) n) tip (nI ((cu_up lev n ((lev a) + 1)) tip - (cu_up lev n ((lev a) + 1)) (cu_mt (cu_up P n a) tip n (n + 1)))) (cu_up P n a) (cu_up lev n ((lev a) + 1)) (cu_up own n o) (cu_up amt n mm) (upd s1 n x) (upd s2 n y) wu1 (cu_WL (cu_up P n a) (upd s1 n x) (upd s2 n y) (cu_up own n o) (cu_up amt n mm) n)) H := hP
    have hD : va_D A (XW ad cB cI cL (n + 1) n (cu_LG (cu_up P n a) (upd s1 n x) (upd s2 n y) n) tip (nI ((cu_up lev n ((lev a) + 1)) tip - (cu_up lev n ((lev a) + 1)) (cu_mt (cu_up P n a) tip n (n + 1)))) (cu_up P n a) (cu_up lev n ((lev a) + 1)) (cu_up own n o) (cu_up amt n mm) (upd s1 n x) (upd s2 n y) wu1 (cu_WL (cu_up P n a) (upd s1 n x) (upd s2 n y) (cu_up own n o) (cu_up amt n mm) n)) := hD
    refine lv_aload_n hx hb dX0_addBlock_107 rfl (lv_at hl 1 rfl) ?_
    refine lv_iload hx hb dX0_addBlock_108 (lv_at hl 0 rfl) ?_
    refine va_put (D := D) (ci := 0) (v := .int (nI n)) (ty := .int) (C := RX0) (T := TX0) (N := 13) hx hb hts in_X0 tyX0 tyX0_ok nmX0 hown hK hP hD hS 0 rfl rfl 11 (by decide) (hts _ q39) (fun _ h9 => h9) rfl (by decide +kernel) rfl rfl (Nat.le_of_ble_eq_true rfl) dX0_addBlock_110 (fun H locs hP hD hS => ?_)
    have hP : va_P D vwCl (XW ad cB cI cL (n + 1) n (cu_LG (cu_up P n a) (upd s1 n x) (upd s2 n y) n) n (nI ((cu_up lev n ((lev a) + 1)) tip - (cu_up lev n ((lev a) + 1)) (cu_mt (cu_up P n a) tip n (n + 1)))) (cu_up P n a) (cu_up lev n ((lev a) + 1)) (cu_up own n o) (cu_up amt n mm) (upd s1 n x) (upd s2 n y) wu1 (cu_WL (cu_up P n a) (upd s1 n x) (upd s2 n y) (cu_up own n o) (cu_up amt n mm) n)) H := hP
    have hD : va_D A (XW ad cB cI cL (n + 1) n (cu_LG (cu_up P n a) (upd s1 n x) (upd s2 n y) n) n (nI ((cu_up lev n ((lev a) + 1)) tip - (cu_up lev n ((lev a) + 1)) (cu_mt (cu_up P n a) tip n (n + 1)))) (cu_up P n a) (cu_up lev n ((lev a) + 1)) (cu_up own n o) (cu_up amt n mm) (upd s1 n x) (upd s2 n y) wu1 (cu_WL (cu_up P n a) (upd s1 n x) (upd s2 n y) (cu_up own n o) (cu_up amt n mm) n)) := hD
    refine lv_iload hx hb dX0_addBlock_113 (lv_at hl 0 rfl) ?_
    exact W.iret (v := nI n) hx hb hr (fun t_ ht_ hW => ⟨⟨nI n, wu1, rfl, rfl, by rw [ht_]; exact (by rw [cu_add_t (by omega)]; exact hP), va_K.moved hW.alike hK, (by rw [cu_add_t (by omega)]; exact hD)⟩, hS.F ht_⟩) hS.2.2 dX0_addBlock_115
end
section
/-! contracts: printed by gen/make.py -/
set_option maxHeartbeats 4000000 in
set_option maxRecDepth 100000 in
/-- mint -/
theorem mX_mint (l : Launch) (D : va_G) (ad : Nat → Nat) (cB cI cL : ClassId) (sz : Nat) (n tip : Nat) (und : Int32) (P lev own amt : Nat → Nat) (s1 s2 wu : Nat → Int32) (pp oo aa : Int32) (h : cu_OK n P lev own amt s1 s2) (ht : tip < n) : Met l yX0_mint (ws_ yX0_mint cX0_mint 4 (some .int)) ({ frames := 4, cells := 0, slots := 0, locals := 94 }) (va_Pc [.ref (ad 0), .int pp, .int oo, .int aa] (cu_In D vwCl (XT cB cI cL) (XW ad cB cI cL n tip (cu_LG P s1 s2 tip) tip und P lev own amt s1 s2 wu (cu_WL P s1 s2 own amt tip)) sz)) (va_Qi (fun (r : Int32) (u : Nat → Int32) => r = (cu_mint (n, tip, und, P, lev, own, amt, s1, s2) pp oo aa).1) (fun u => cu_Out D vwCl (XT cB cI cL) (va_A (XW ad cB cI cL n tip (cu_LG P s1 s2 tip) tip und P lev own amt s1 s2 wu (cu_WL P s1 s2 own amt tip)) sz) (XS ad cB cI cL (cu_mint (n, tip, und, P, lev, own, amt, s1, s2) pp oo aa).2 u)) (va_A (XW ad cB cI cL n tip (cu_LG P s1 s2 tip) tip und P lev own amt s1 s2 wu (cu_WL P s1 s2 own amt tip)) sz)) 0 0 (va_A (XW ad cB cI cL n tip (cu_LG P s1 s2 tip) tip und P lev own amt s1 s2 wu (cu_WL P s1 s2 own amt tip)) sz) := by
  refine Met.ofW (cc := cX0_mint) (maxL := 4) (ret := (some .int)) (by decide) rfl ?_
  intro p e s m args below meth c s₁ B hml hv
  obtain ⟨rfl, hsz, hP, hK, hD0⟩ := hv
  have hx := B.exec
  have hb := B.bytes
  have hr := B.returns
  have hts := atoms_spec (ws := ws_ yX0_mint cX0_mint 4 (some .int)) B.pre
  have hts : ∀ w ∈ lw_all, w.before _ s = true := fun w h => hts w (List.mem_cons_of_mem _ h)
  have hown : s.vm.findClass RX0 = some m.cls := findClass_of_methodNamed B.named
  have hlocks := B.notSynchronized
  subst hsz
  have hD := hD0.self (sz := s.heap.size)
  generalize hAe : va_A (XW ad cB cI cL n tip (cu_LG P s1 s2 tip) tip und P lev own amt s1 s2 wu (cu_WL P s1 s2 own amt tip)) s.heap.size = A at hD ⊢
  have hA : ∀ q : Nat, s.heap.size ≤ q → A q := fun q h => by rw [← hAe]; exact Or.inr h
  have hl := lv_entry ([.ref (ad 0), .int pp, .int oo, .int aa]) (n := 4) (Nat.le_of_ble_eq_true rfl)
  rw [lg_entry_eq]
  generalize (lg_sl ([.ref (ad 0), .int pp, .int oo, .int aa]) ++ List.replicate (4 - (lg_sl ([.ref (ad 0), .int pp, .int oo, .int aa])).length) Slot.unset).toArray = ls at hl ⊢
  have hl : lv_has ls 4 [(0, .ref (ad 0)), (1, .int pp), (2, .int oo), (3, .int aa)] := hl
  refine cu_start (fun H locs eH eL => ?_)
  have hP : va_P D vwCl (XW ad cB cI cL n tip (cu_LG P s1 s2 tip) tip und P lev own amt s1 s2 wu (cu_WL P s1 s2 own amt tip)) H := by rw [eH]; exact hP
  have hS : va_S A s.heap H locs := by rw [eH, eL]; exact va_S.rf
  have hn20 := h.n20
  refine lv_aload_n hx hb dX0_mint_0 rfl (lv_at hl 0 rfl) ?_
  refine va_get (D := D) (ci := 0) (v := .int (nI n)) (C := RX0) (T := TX0) (N := 13) hx hb hts in_X0 hown hK hP 0 rfl rfl 0 (by decide) (hts _ q28) (fun _ h9 => h9) rfl dX0_mint_1 ?_
  refine lv_bipush (v := nI 20) hx hb dX0_mint_4 (by decide) ?_
  refine cu_icmp_lt (tgt := 12) (j := n) (k := 20) (by omega) (by omega) hx hb dX0_mint_6 (by decide) (fun c6 => ?_) (fun c6 => ?_)
  · refine lv_aload_n hx hb dX0_mint_12 rfl (lv_at hl 0 rfl) ?_
    refine lv_iload_n hx hb dX0_mint_13 rfl (lv_at hl 1 rfl) ?_
    refine cu_calli (As := [.int pp]) (rest := []) (mX_isBlock l D ad cB cI cL H.size n tip (cu_LG P s1 s2 tip) tip und P lev own amt s1 s2 wu (cu_WL P s1 s2 own amt tip) pp hn20) ⟨hx, hb, hml, hown, hts⟩ (cwV 1 hts (lw_V q75 q77 qs0 q18 q78) rfl rfl rfl (by decide +kernel) ⟨Nat.le_of_ble_eq_true rfl, Nat.le_of_ble_eq_true rfl⟩) hK hP hD hS hA (ci := 0) rfl rfl ⟨Nat.le_of_ble_eq_true rfl, Nat.le_of_ble_eq_true rfl⟩ rfl hl.1 rfl (Nat.le_of_ble_eq_true rfl) dX0_mint_14 (fun r14 u14 H locs hw14 hP hD hS => ?_)
    obtain rfl : r14 = cu_bI (cu_in n pp) := hw14
    have hP : va_P D vwCl (XW ad cB cI cL n tip (cu_LG P s1 s2 tip) tip und P lev own amt s1 s2 wu (cu_WL P s1 s2 own amt tip)) H := hP
    have hD : va_D A (XW ad cB cI cL n tip (cu_LG P s1 s2 tip) tip und P lev own amt s1 s2 wu (cu_WL P s1 s2 own amt tip)) := hD
    refine cuB_if_eq (tgt := 40) hx hb dX0_mint_17 (by decide) (fun c17 => ?_) (fun c17 => ?_)
    · have c17 := of_decide_eq_false c17
      refine lv_iconst (v := (-1)) hx hb dX0_mint_40 (by decide) ?_
      exact W.iret (v := (-1)) hx hb hr (fun t_ ht_ hW => ⟨⟨(-1), wu, rfl, (congrArg Prod.fst (cu_mint_bad (by omega) (by omega))).symm, by rw [ht_]; exact (by rw [cu_mint_bad (by omega) (by omega)]; exact hP), va_K.moved hW.alike hK, (by rw [cu_mint_bad (by omega) (by omega)]; exact hD)⟩, hS.F ht_⟩) hS.2.2 dX0_mint_41
    · have c17 := of_decide_eq_true c17
      refine lv_iload_n hx hb dX0_mint_20 rfl (lv_at hl 2 rfl) ?_
      refine cuI_if_lt (tgt := 40) hx hb dX0_mint_21 (by decide) (fun c21 => ?_) (fun c21 => ?_)
      · refine lv_iconst (v := (-1)) hx hb dX0_mint_40 (by decide) ?_
        exact W.iret (v := (-1)) hx hb hr (fun t_ ht_ hW => ⟨⟨(-1), wu, rfl, (congrArg Prod.fst (cu_mint_bad (by omega) (by omega))).symm, by rw [ht_]; exact (by rw [cu_mint_bad (by omega) (by omega)]; exact hP), va_K.moved hW.alike hK, (by rw [cu_mint_bad (by omega) (by omega)]; exact hD)⟩, hS.F ht_⟩) hS.2.2 dX0_mint_41
      · refine lv_iload_n hx hb dX0_mint_24 rfl (lv_at hl 2 rfl) ?_
        refine lv_iconst (v := nI 3) hx hb dX0_mint_25 (by decide) ?_
        refine cuI_icmp_gt (tgt := 40) (i := (oo).toInt) (j := (3 : Int)) rfl (nI_toInt (by omega)) hx hb dX0_mint_26 (by decide) (fun c26 => ?_) (fun c26 => ?_)
        · refine lv_iconst (v := (-1)) hx hb dX0_mint_40 (by decide) ?_
          exact W.iret (v := (-1)) hx hb hr (fun t_ ht_ hW => ⟨⟨(-1), wu, rfl, (congrArg Prod.fst (cu_mint_bad (by omega) (by omega))).symm, by rw [ht_]; exact (by rw [cu_mint_bad (by omega) (by omega)]; exact hP), va_K.moved hW.alike hK, (by rw [cu_mint_bad (by omega) (by omega)]; exact hD)⟩, hS.F ht_⟩) hS.2.2 dX0_mint_41
        · refine lv_iload_n hx hb dX0_mint_29 rfl (lv_at hl 3 rfl) ?_
          refine lv_iconst (v := nI 1) hx hb dX0_mint_30 (by decide) ?_
          refine cuI_icmp_lt (tgt := 40) (i := (aa).toInt) (j := (1 : Int)) rfl (nI_toInt (by omega)) hx hb dX0_mint_31 (by decide) (fun c31 => ?_) (fun c31 => ?_)
          · refine lv_iconst (v := (-1)) hx hb dX0_mint_40 (by decide) ?_
            exact W.iret (v := (-1)) hx hb hr (fun t_ ht_ hW => ⟨⟨(-1), wu, rfl, (congrArg Prod.fst (cu_mint_bad (by omega) (by omega))).symm, by rw [ht_]; exact (by rw [cu_mint_bad (by omega) (by omega)]; exact hP), va_K.moved hW.alike hK, (by rw [cu_mint_bad (by omega) (by omega)]; exact hD)⟩, hS.F ht_⟩) hS.2.2 dX0_mint_41
          · refine lv_iload_n hx hb dX0_mint_34 rfl (lv_at hl 3 rfl) ?_
            refine lv_bipush (v := nI 100) hx hb dX0_mint_35 (by decide) ?_
            refine cuI_icmp_le (tgt := 42) (i := (aa).toInt) (j := (100 : Int)) rfl (nI_toInt (by omega)) hx hb dX0_mint_37 (by decide) (fun c37 => ?_) (fun c37 => ?_)
            · obtain ⟨a, ha, rfl⟩ := cu_rng (n := n) (x := pp) c17.1 c17.2
              obtain ⟨o, ho, rfl⟩ := cu_rng (n := 4) (x := oo) (by omega) (by omega)
              obtain ⟨mm, hmm, rfl⟩ := cu_rng (n := 101) (x := aa) (by omega) (by omega)
              have em : (nI mm).toInt = (mm : Int) := nI_toInt (by omega)
              refine lv_aload_n hx hb dX0_mint_42 rfl (lv_at hl 0 rfl) ?_
              refine lv_iload_n hx hb dX0_mint_43 rfl (lv_at hl 1 rfl) ?_
              refine lv_iload_n hx hb dX0_mint_44 rfl (lv_at hl 2 rfl) ?_
              refine lv_iload_n hx hb dX0_mint_45 rfl (lv_at hl 3 rfl) ?_
              refine lv_iconst (v := (-1)) hx hb dX0_mint_46 (by decide) ?_
              refine lv_iconst (v := (-1)) hx hb dX0_mint_47 (by decide) ?_
              refine cu_calli (As := [.int (nI a), .int (nI o), .int (nI mm), .int (-1), .int (-1)]) (rest := []) (mX_addBlock l D ad cB cI cL H.size n tip und P lev own amt s1 s2 wu a o mm (-1) (-1) h ht (by omega) ha (by omega) cu_i2bm cu_i2bm (h.add0 (by omega) ha (by omega) (by omega) (by omega))) ⟨hx, hb, hml, hown, hts⟩ (cwV 5 hts (lw_V q79 q81 qs1 q18 q82) rfl rfl rfl (by decide +kernel) ⟨Nat.le_of_ble_eq_true rfl, Nat.le_of_ble_eq_true rfl⟩) hK hP hD hS hA (ci := 0) rfl rfl ⟨Nat.le_of_ble_eq_true rfl, Nat.le_of_ble_eq_true rfl⟩ rfl hl.1 rfl (Nat.le_of_ble_eq_true rfl) dX0_mint_48 (fun r48 wu1 H locs hw48 hP hD hS => ?_)
              obtain rfl : r48 = nI n := hw48
              exact W.iret (v := nI n) hx hb hr (fun t_ ht_ hW => ⟨⟨nI n, wu1, rfl, (congrArg Prod.fst (cu_mint_ok (by omega) ha (by omega) (by omega) (by omega))).symm, by rw [ht_]; exact (by rw [cu_mint_ok (by omega) ha (by omega) (by omega) (by omega)]; exact hP), va_K.moved hW.alike hK, (by rw [cu_mint_ok (by omega) ha (by omega) (by omega) (by omega)]; exact hD)⟩, hS.F ht_⟩) hS.2.2 dX0_mint_51
            · refine lv_iconst (v := (-1)) hx hb dX0_mint_40 (by decide) ?_
              exact W.iret (v := (-1)) hx hb hr (fun t_ ht_ hW => ⟨⟨(-1), wu, rfl, (congrArg Prod.fst (cu_mint_bad (by omega) (by omega))).symm, by rw [ht_]; exact (by rw [cu_mint_bad (by omega) (by omega)]; exact hP), va_K.moved hW.alike hK, (by rw [cu_mint_bad (by omega) (by omega)]; exact hD)⟩, hS.F ht_⟩) hS.2.2 dX0_mint_41
  · refine lv_bipush (v := (-2)) hx hb dX0_mint_9 (by decide) ?_
    exact W.iret (v := (-2)) hx hb hr (fun t_ ht_ hW => ⟨⟨(-2), wu, rfl, (congrArg Prod.fst (cu_mint_full (by omega))).symm, by rw [ht_]; exact (by rw [cu_mint_full (by omega)]; exact hP), va_K.moved hW.alike hK, (by rw [cu_mint_full (by omega)]; exact hD)⟩, hS.F ht_⟩) hS.2.2 dX0_mint_11
set_option maxHeartbeats 4000000 in
set_option maxRecDepth 100000 in
/-- pay -/
theorem mX_pay (l : Launch) (D : va_G) (ad : Nat → Nat) (cB cI cL : ClassId) (sz : Nat) (n tip : Nat) (und : Int32) (P lev own amt : Nat → Nat) (s1 s2 wu : Nat → Int32) (pp oo ff gg : Int32) (h : cu_OK n P lev own amt s1 s2) (ht : tip < n) : Met l yX0_pay (ws_ yX0_pay cX0_pay 7 (some .int)) ({ frames := 4, cells := 0, slots := 0, locals := 94 }) (va_Pc [.ref (ad 0), .int pp, .int oo, .int ff, .int gg] (cu_In D vwCl (XT cB cI cL) (XW ad cB cI cL n tip (cu_LG P s1 s2 tip) tip und P lev own amt s1 s2 wu (cu_WL P s1 s2 own amt tip)) sz)) (va_Qi (fun (r : Int32) (u : Nat → Int32) => r = (cu_pay (n, tip, und, P, lev, own, amt, s1, s2) pp oo ff gg).1) (fun u => cu_Out D vwCl (XT cB cI cL) (va_A (XW ad cB cI cL n tip (cu_LG P s1 s2 tip) tip und P lev own amt s1 s2 wu (cu_WL P s1 s2 own amt tip)) sz) (XS ad cB cI cL (cu_pay (n, tip, und, P, lev, own, amt, s1, s2) pp oo ff gg).2 u)) (va_A (XW ad cB cI cL n tip (cu_LG P s1 s2 tip) tip und P lev own amt s1 s2 wu (cu_WL P s1 s2 own amt tip)) sz)) 0 0 (va_A (XW ad cB cI cL n tip (cu_LG P s1 s2 tip) tip und P lev own amt s1 s2 wu (cu_WL P s1 s2 own amt tip)) sz) := by
  refine Met.ofW (cc := cX0_pay) (maxL := 7) (ret := (some .int)) (by decide) rfl ?_
  intro p e s m args below meth c s₁ B hml hv
  obtain ⟨rfl, hsz, hP, hK, hD0⟩ := hv
  have hx := B.exec
  have hb := B.bytes
  have hr := B.returns
  have hts := atoms_spec (ws := ws_ yX0_pay cX0_pay 7 (some .int)) B.pre
  have hts : ∀ w ∈ lw_all, w.before _ s = true := fun w h => hts w (List.mem_cons_of_mem _ h)
  have hown : s.vm.findClass RX0 = some m.cls := findClass_of_methodNamed B.named
  have hlocks := B.notSynchronized
  subst hsz
  have hD := hD0.self (sz := s.heap.size)
  generalize hAe : va_A (XW ad cB cI cL n tip (cu_LG P s1 s2 tip) tip und P lev own amt s1 s2 wu (cu_WL P s1 s2 own amt tip)) s.heap.size = A at hD ⊢
  have hA : ∀ q : Nat, s.heap.size ≤ q → A q := fun q h => by rw [← hAe]; exact Or.inr h
  have hl := lv_entry ([.ref (ad 0), .int pp, .int oo, .int ff, .int gg]) (n := 7) (Nat.le_of_ble_eq_true rfl)
  rw [lg_entry_eq]
  generalize (lg_sl ([.ref (ad 0), .int pp, .int oo, .int ff, .int gg]) ++ List.replicate (7 - (lg_sl ([.ref (ad 0), .int pp, .int oo, .int ff, .int gg])).length) Slot.unset).toArray = ls at hl ⊢
  have hl : lv_has ls 7 [(0, .ref (ad 0)), (1, .int pp), (2, .int oo), (3, .int ff), (4, .int gg)] := hl
  refine cu_start (fun H locs eH eL => ?_)
  have hP : va_P D vwCl (XW ad cB cI cL n tip (cu_LG P s1 s2 tip) tip und P lev own amt s1 s2 wu (cu_WL P s1 s2 own amt tip)) H := by rw [eH]; exact hP
  have hS : va_S A s.heap H locs := by rw [eH, eL]; exact va_S.rf
  have hn20 := h.n20
  refine lv_aload_n hx hb dX0_pay_0 rfl (lv_at hl 0 rfl) ?_
  refine va_get (D := D) (ci := 0) (v := .int (nI n)) (C := RX0) (T := TX0) (N := 13) hx hb hts in_X0 hown hK hP 0 rfl rfl 0 (by decide) (hts _ q28) (fun _ h9 => h9) rfl dX0_pay_1 ?_
  refine lv_bipush (v := nI 20) hx hb dX0_pay_4 (by decide) ?_
  refine cu_icmp_lt (tgt := 12) (j := n) (k := 20) (by omega) (by omega) hx hb dX0_pay_6 (by decide) (fun c6 => ?_) (fun c6 => ?_)
  · refine lv_aload_n hx hb dX0_pay_12 rfl (lv_at hl 0 rfl) ?_
    refine lv_iload_n hx hb dX0_pay_13 rfl (lv_at hl 1 rfl) ?_
    refine cu_calli (As := [.int pp]) (rest := []) (mX_isBlock l D ad cB cI cL H.size n tip (cu_LG P s1 s2 tip) tip und P lev own amt s1 s2 wu (cu_WL P s1 s2 own amt tip) pp hn20) ⟨hx, hb, hml, hown, hts⟩ (cwV 1 hts (lw_V q75 q77 qs0 q18 q78) rfl rfl rfl (by decide +kernel) ⟨Nat.le_of_ble_eq_true rfl, Nat.le_of_ble_eq_true rfl⟩) hK hP hD hS hA (ci := 0) rfl rfl ⟨Nat.le_of_ble_eq_true rfl, Nat.le_of_ble_eq_true rfl⟩ rfl hl.1 rfl (Nat.le_of_ble_eq_true rfl) dX0_pay_14 (fun r14 u14 H locs hw14 hP hD hS => ?_)
    obtain rfl : r14 = cu_bI (cu_in n pp) := hw14
    have hP : va_P D vwCl (XW ad cB cI cL n tip (cu_LG P s1 s2 tip) tip und P lev own amt s1 s2 wu (cu_WL P s1 s2 own amt tip)) H := hP
    have hD : va_D A (XW ad cB cI cL n tip (cu_LG P s1 s2 tip) tip und P lev own amt s1 s2 wu (cu_WL P s1 s2 own amt tip)) := hD
    refine cuB_if_eq (tgt := 29) hx hb dX0_pay_17 (by decide) (fun c17 => ?_) (fun c17 => ?_)
    · have c17 := of_decide_eq_false c17
      refine lv_iconst (v := (-1)) hx hb dX0_pay_29 (by decide) ?_
      exact W.iret (v := (-1)) hx hb hr (fun t_ ht_ hW => ⟨⟨(-1), wu, rfl, (congrArg Prod.fst (cu_pay_bad (by omega) (by omega))).symm, by rw [ht_]; exact (by rw [cu_pay_bad (by omega) (by omega)]; exact hP), va_K.moved hW.alike hK, (by rw [cu_pay_bad (by omega) (by omega)]; exact hD)⟩, hS.F ht_⟩) hS.2.2 dX0_pay_30
    · have c17 := of_decide_eq_true c17
      refine lv_iload_n hx hb dX0_pay_20 rfl (lv_at hl 2 rfl) ?_
      refine cuI_if_lt (tgt := 29) hx hb dX0_pay_21 (by decide) (fun c21 => ?_) (fun c21 => ?_)
      · refine lv_iconst (v := (-1)) hx hb dX0_pay_29 (by decide) ?_
        exact W.iret (v := (-1)) hx hb hr (fun t_ ht_ hW => ⟨⟨(-1), wu, rfl, (congrArg Prod.fst (cu_pay_bad (by omega) (by omega))).symm, by rw [ht_]; exact (by rw [cu_pay_bad (by omega) (by omega)]; exact hP), va_K.moved hW.alike hK, (by rw [cu_pay_bad (by omega) (by omega)]; exact hD)⟩, hS.F ht_⟩) hS.2.2 dX0_pay_30
      · refine lv_iload_n hx hb dX0_pay_24 rfl (lv_at hl 2 rfl) ?_
        refine lv_iconst (v := nI 3) hx hb dX0_pay_25 (by decide) ?_
        refine cuI_icmp_le (tgt := 31) (i := (oo).toInt) (j := (3 : Int)) rfl (nI_toInt (by omega)) hx hb dX0_pay_26 (by decide) (fun c26 => ?_) (fun c26 => ?_)
        · obtain ⟨a, ha, rfl⟩ := cu_rng (n := n) (x := pp) c17.1 c17.2
          obtain ⟨o, ho, rfl⟩ := cu_rng (n := 4) (x := oo) (by omega) (by omega)
          refine lv_aload_n hx hb dX0_pay_31 rfl (lv_at hl 0 rfl) ?_
          refine lv_iload_n hx hb dX0_pay_32 rfl (lv_at hl 1 rfl) ?_
          refine cu_calli (As := [.int (nI a)]) (rest := []) (mX_moveTo l D ad cB cI cL H.size n tip tip und P lev own amt s1 s2 wu a h ht ha ) ⟨hx, hb, hml, hown, hts⟩ (cwV 1 hts (lw_V q83 q85 qs2 q18 q86) rfl rfl rfl (by decide +kernel) ⟨Nat.le_of_ble_eq_true rfl, Nat.le_of_ble_eq_true rfl⟩) hK hP hD hS hA (ci := 0) rfl rfl ⟨Nat.le_of_ble_eq_true rfl, Nat.le_of_ble_eq_true rfl⟩ rfl hl.1 rfl (Nat.le_of_ble_eq_true rfl) dX0_pay_33 (fun r33 wu1 H locs hw33 hP hD hS => ?_)
          obtain rfl : r33 = nI (lev tip - lev (cu_mt P tip a n)) := hw33
          have hP : va_P D vwCl (XW ad cB cI cL n a (cu_LG P s1 s2 a) tip und P lev own amt s1 s2 wu1 (cu_WL P s1 s2 own amt a)) H := hP
          have hD : va_D A (XW ad cB cI cL n a (cu_LG P s1 s2 a) tip und P lev own amt s1 s2 wu1 (cu_WL P s1 s2 own amt a)) := hD
          refine lv_pop hx hb dX0_pay_36 rfl ?_
          refine lv_aload_n hx hb dX0_pay_37 rfl (lv_at hl 0 rfl) ?_
          refine lv_iload_n hx hb dX0_pay_38 rfl (lv_at hl 3 rfl) ?_
          refine cu_calli (As := [.int ff]) (rest := []) (mX_isThere l D ad cB cI cL H.size n a (cu_LG P s1 s2 a) tip und P lev own amt s1 s2 wu1 (cu_WL P s1 s2 own amt a) ff hn20) ⟨hx, hb, hml, hown, hts⟩ (cwV 1 hts (lw_V q111 q113 qs8 q18 q114) rfl rfl rfl (by decide +kernel) ⟨Nat.le_of_ble_eq_true rfl, Nat.le_of_ble_eq_true rfl⟩) hK hP hD hS hA (ci := 0) rfl rfl ⟨Nat.le_of_ble_eq_true rfl, Nat.le_of_ble_eq_true rfl⟩ rfl hl.1 rfl (Nat.le_of_ble_eq_true rfl) dX0_pay_39 (fun r39 u39 H locs hw39 hP hD hS => ?_)
          obtain rfl : r39 = cu_bI (cu_th n P s1 s2 a ff) := hw39.trans (congrArg cu_bI (cu_th_bt h ha ff))
          have hP : va_P D vwCl (XW ad cB cI cL n a (cu_LG P s1 s2 a) tip und P lev own amt s1 s2 wu1 (cu_WL P s1 s2 own amt a)) H := hP
          have hD : va_D A (XW ad cB cI cL n a (cu_LG P s1 s2 a) tip und P lev own amt s1 s2 wu1 (cu_WL P s1 s2 own amt a)) := hD
          refine cuB_if_eq (tgt := 70) hx hb dX0_pay_42 (by decide) (fun c42 => ?_) (fun c42 => ?_)
          · refine lv_iconst (v := nI 0) hx hb dX0_pay_70 (by decide) ?_
            refine lv_istore (lv' := [(5, .int (nI 0)), (0, .ref (ad 0)), (1, .int (nI a)), (2, .int (nI o)), (3, .int ff), (4, .int gg)]) hx hb dX0_pay_71 hl (by decide) rfl (fun ls hl => ?_)
            refine lv_aload_n hx hb dX0_pay_73 rfl (lv_at hl 1 rfl) ?_
            refine lv_aload_n hx hb dX0_pay_74 rfl (lv_at hl 1 rfl) ?_
            refine va_get (D := D) (ci := 0) (v := .int (nI tip)) (C := RX0) (T := TX0) (N := 13) hx hb hts in_X0 hown hK hP 0 rfl rfl 11 (by decide) (hts _ q39) (fun _ h9 => h9) rfl dX0_pay_75 ?_
            refine cu_calli (As := [.int (nI tip)]) (rest := []) (mX_moveTo l D ad cB cI cL H.size n a tip und P lev own amt s1 s2 wu1 tip h ha ht ) ⟨hx, hb, hml, hown, hts⟩ (cwV 1 hts (lw_V q83 q85 qs2 q18 q86) rfl rfl rfl (by decide +kernel) ⟨Nat.le_of_ble_eq_true rfl, Nat.le_of_ble_eq_true rfl⟩) hK hP hD hS hA (ci := 0) rfl rfl ⟨Nat.le_of_ble_eq_true rfl, Nat.le_of_ble_eq_true rfl⟩ rfl hl.1 rfl (Nat.le_of_ble_eq_true rfl) dX0_pay_78 (fun r78 wu2 H locs hw78 hP hD hS => ?_)
            obtain rfl : r78 = nI (lev a - lev (cu_mt P a tip n)) := hw78
            have hP : va_P D vwCl (XW ad cB cI cL n tip (cu_LG P s1 s2 tip) tip und P lev own amt s1 s2 wu2 (cu_WL P s1 s2 own amt tip)) H := hP
            have hD : va_D A (XW ad cB cI cL n tip (cu_LG P s1 s2 tip) tip und P lev own amt s1 s2 wu2 (cu_WL P s1 s2 own amt tip)) := hD
            refine lv_pop hx hb dX0_pay_81 rfl ?_
            refine lv_iload hx hb dX0_pay_82 (lv_at hl 0 rfl) ?_
            refine cu_if_ne (tgt := 90) (j := 0) (by omega) hx hb dX0_pay_84 (by decide) (fun c84 => ?_) (fun c84 => ?_)
            · exact absurd rfl c84
            · have hs : cu_sound n P s1 s2 a ff gg = false := by unfold cu_sound; rw [c42]; rfl
              refine lv_bipush (v := (-3)) hx hb dX0_pay_87 (by decide) ?_
              exact W.iret (v := (-3)) hx hb hr (fun t_ ht_ hW => ⟨⟨(-3), wu2, rfl, (congrArg Prod.fst (cu_pay_uns (by omega) ha (by omega) hs)).symm, by rw [ht_]; exact (by rw [cu_pay_uns (by omega) ha (by omega) hs]; exact hP), va_K.moved hW.alike hK, (by rw [cu_pay_uns (by omega) ha (by omega) hs]; exact hD)⟩, hS.F ht_⟩) hS.2.2 dX0_pay_89
          · refine lv_iload hx hb dX0_pay_45 (lv_at hl 4 rfl) ?_
            refine lv_iconst (v := (-1)) hx hb dX0_pay_47 (by decide) ?_
            refine lv_icmp_eq (tgt := 66) hx hb dX0_pay_48 (by decide) (fun c48 => ?_) (fun c48 => ?_)
            · refine lv_iconst (v := nI 1) hx hb dX0_pay_66 (by decide) ?_
              refine lv_goto (tgt := 71) hx hb dX0_pay_67 (by decide) ?_
              refine lv_istore (lv' := [(5, .int (nI 1)), (0, .ref (ad 0)), (1, .int (nI a)), (2, .int (nI o)), (3, .int ff), (4, .int gg)]) hx hb dX0_pay_71 hl (by decide) rfl (fun ls hl => ?_)
              refine lv_aload_n hx hb dX0_pay_73 rfl (lv_at hl 1 rfl) ?_
              refine lv_aload_n hx hb dX0_pay_74 rfl (lv_at hl 1 rfl) ?_
              refine va_get (D := D) (ci := 0) (v := .int (nI tip)) (C := RX0) (T := TX0) (N := 13) hx hb hts in_X0 hown hK hP 0 rfl rfl 11 (by decide) (hts _ q39) (fun _ h9 => h9) rfl dX0_pay_75 ?_
              refine cu_calli (As := [.int (nI tip)]) (rest := []) (mX_moveTo l D ad cB cI cL H.size n a tip und P lev own amt s1 s2 wu1 tip h ha ht ) ⟨hx, hb, hml, hown, hts⟩ (cwV 1 hts (lw_V q83 q85 qs2 q18 q86) rfl rfl rfl (by decide +kernel) ⟨Nat.le_of_ble_eq_true rfl, Nat.le_of_ble_eq_true rfl⟩) hK hP hD hS hA (ci := 0) rfl rfl ⟨Nat.le_of_ble_eq_true rfl, Nat.le_of_ble_eq_true rfl⟩ rfl hl.1 rfl (Nat.le_of_ble_eq_true rfl) dX0_pay_78 (fun r78 wu2 H locs hw78 hP hD hS => ?_)
              obtain rfl : r78 = nI (lev a - lev (cu_mt P a tip n)) := hw78
              have hP : va_P D vwCl (XW ad cB cI cL n tip (cu_LG P s1 s2 tip) tip und P lev own amt s1 s2 wu2 (cu_WL P s1 s2 own amt tip)) H := hP
              have hD : va_D A (XW ad cB cI cL n tip (cu_LG P s1 s2 tip) tip und P lev own amt s1 s2 wu2 (cu_WL P s1 s2 own amt tip)) := hD
              refine lv_pop hx hb dX0_pay_81 rfl ?_
              refine lv_iload hx hb dX0_pay_82 (lv_at hl 0 rfl) ?_
              refine cu_if_ne (tgt := 90) (j := 1) (by omega) hx hb dX0_pay_84 (by decide) (fun c84 => ?_) (fun c84 => ?_)
              · have hs : cu_sound n P s1 s2 a ff gg = true := by unfold cu_sound; rw [c42, decide_eq_true c48]; rfl
                obtain ⟨k1, hk10, hk1n, rfl, hk1L⟩ := (cu_th_iff hn20).mp c42
                subst c48
                refine lv_aload_n hx hb dX0_pay_90 rfl (lv_at hl 1 rfl) ?_
                refine va_get (D := D) (ci := 0) (v := .ref (ad 4)) (C := RX0) (T := TX0) (N := 13) hx hb hts in_X0 hown hK hP 0 rfl rfl 4 (by decide) (hts _ q32) (fun _ h9 => h9) rfl dX0_pay_91 ?_
                refine lv_iload_n hx hb dX0_pay_94 rfl (lv_at hl 4 rfl) ?_
                refine cu_iald (v := nI (amt k1)) hx hb hK hP 4 1 rfl rfl k1 (by omega) (Nat.le_of_ble_eq_true rfl) rfl dX0_pay_95 ?_
                refine lv_istore (lv' := [(6, .int (nI (amt k1))), (5, .int (nI 1)), (0, .ref (ad 0)), (1, .int (nI a)), (2, .int (nI o)), (3, .int (nI k1)), (4, .int (-1))]) hx hb dX0_pay_96 hl (by decide) rfl (fun ls hl => ?_)
                refine lv_iload hx hb dX0_pay_98 (lv_at hl 6 rfl) ?_
                refine cuI_if_lt (tgt := 115) hx hb dX0_pay_100 (by decide) (fun c100 => ?_) (fun c100 => ?_)
                · refine lv_aload_n hx hb dX0_pay_115 rfl (lv_at hl 2 rfl) ?_
                  refine lv_iload_n hx hb dX0_pay_116 rfl (lv_at hl 3 rfl) ?_
                  refine lv_iload_n hx hb dX0_pay_117 rfl (lv_at hl 4 rfl) ?_
                  refine lv_iload hx hb dX0_pay_118 (lv_at hl 0 rfl) ?_
                  refine lv_iload_n hx hb dX0_pay_120 rfl (lv_at hl 5 rfl) ?_
                  refine lv_iload hx hb dX0_pay_121 (lv_at hl 6 rfl) ?_
                  refine cu_calli (As := [.int (nI a), .int (nI o), .int (nI (amt k1)), .int (nI k1), .int (-1)]) (rest := []) (mX_addBlock l D ad cB cI cL H.size n tip und P lev own amt s1 s2 wu2 a o (amt k1) (nI k1) (-1) h ht (by omega) ha (by omega) (cu_i2b _ (by omega)) cu_i2bm (h.add1 (by omega) ha (by omega) hk10 hk1n hk1L)) ⟨hx, hb, hml, hown, hts⟩ (cwV 5 hts (lw_V q79 q81 qs1 q18 q82) rfl rfl rfl (by decide +kernel) ⟨Nat.le_of_ble_eq_true rfl, Nat.le_of_ble_eq_true rfl⟩) hK hP hD hS hA (ci := 0) rfl rfl ⟨Nat.le_of_ble_eq_true rfl, Nat.le_of_ble_eq_true rfl⟩ rfl hl.1 rfl (Nat.le_of_ble_eq_true rfl) dX0_pay_123 (fun r123 wu3 H locs hw123 hP hD hS => ?_)
                  obtain rfl : r123 = nI n := hw123
                  exact W.iret (v := nI n) hx hb hr (fun t_ ht_ hW => ⟨⟨nI n, wu3, rfl, (congrArg Prod.fst (cu_pay_ok (by omega) ha (by omega) hs)).symm, by rw [ht_]; exact (by rw [cu_pay_ok (by omega) ha (by omega) hs, cu_am_1 (by omega)]; exact hP), va_K.moved hW.alike hK, (by rw [cu_pay_ok (by omega) ha (by omega) hs, cu_am_1 (by omega)]; exact hD)⟩, hS.F ht_⟩) hS.2.2 dX0_pay_126
                · exact absurd c100 (by decide)
              · exact absurd c84 (by decide)
            · refine lv_aload_n hx hb dX0_pay_51 rfl (lv_at hl 0 rfl) ?_
              refine lv_iload hx hb dX0_pay_52 (lv_at hl 4 rfl) ?_
              refine cu_calli (As := [.int gg]) (rest := []) (mX_isThere l D ad cB cI cL H.size n a (cu_LG P s1 s2 a) tip und P lev own amt s1 s2 wu1 (cu_WL P s1 s2 own amt a) gg hn20) ⟨hx, hb, hml, hown, hts⟩ (cwV 1 hts (lw_V q111 q113 qs8 q18 q114) rfl rfl rfl (by decide +kernel) ⟨Nat.le_of_ble_eq_true rfl, Nat.le_of_ble_eq_true rfl⟩) hK hP hD hS hA (ci := 0) rfl rfl ⟨Nat.le_of_ble_eq_true rfl, Nat.le_of_ble_eq_true rfl⟩ rfl hl.1 rfl (Nat.le_of_ble_eq_true rfl) dX0_pay_54 (fun r54 u54 H locs hw54 hP hD hS => ?_)
              obtain rfl : r54 = cu_bI (cu_th n P s1 s2 a gg) := hw54.trans (congrArg cu_bI (cu_th_bt h ha gg))
              have hP : va_P D vwCl (XW ad cB cI cL n a (cu_LG P s1 s2 a) tip und P lev own amt s1 s2 wu1 (cu_WL P s1 s2 own amt a)) H := hP
              have hD : va_D A (XW ad cB cI cL n a (cu_LG P s1 s2 a) tip und P lev own amt s1 s2 wu1 (cu_WL P s1 s2 own amt a)) := hD
              refine cuB_if_eq (tgt := 70) hx hb dX0_pay_57 (by decide) (fun c57 => ?_) (fun c57 => ?_)
              · refine lv_iconst (v := nI 0) hx hb dX0_pay_70 (by decide) ?_
                refine lv_istore (lv' := [(5, .int (nI 0)), (0, .ref (ad 0)), (1, .int (nI a)), (2, .int (nI o)), (3, .int ff), (4, .int gg)]) hx hb dX0_pay_71 hl (by decide) rfl (fun ls hl => ?_)
                refine lv_aload_n hx hb dX0_pay_73 rfl (lv_at hl 1 rfl) ?_
                refine lv_aload_n hx hb dX0_pay_74 rfl (lv_at hl 1 rfl) ?_
                refine va_get (D := D) (ci := 0) (v := .int (nI tip)) (C := RX0) (T := TX0) (N := 13) hx hb hts in_X0 hown hK hP 0 rfl rfl 11 (by decide) (hts _ q39) (fun _ h9 => h9) rfl dX0_pay_75 ?_
                refine cu_calli (As := [.int (nI tip)]) (rest := []) (mX_moveTo l D ad cB cI cL H.size n a tip und P lev own amt s1 s2 wu1 tip h ha ht ) ⟨hx, hb, hml, hown, hts⟩ (cwV 1 hts (lw_V q83 q85 qs2 q18 q86) rfl rfl rfl (by decide +kernel) ⟨Nat.le_of_ble_eq_true rfl, Nat.le_of_ble_eq_true rfl⟩) hK hP hD hS hA (ci := 0) rfl rfl ⟨Nat.le_of_ble_eq_true rfl, Nat.le_of_ble_eq_true rfl⟩ rfl hl.1 rfl (Nat.le_of_ble_eq_true rfl) dX0_pay_78 (fun r78 wu2 H locs hw78 hP hD hS => ?_)
                obtain rfl : r78 = nI (lev a - lev (cu_mt P a tip n)) := hw78
                have hP : va_P D vwCl (XW ad cB cI cL n tip (cu_LG P s1 s2 tip) tip und P lev own amt s1 s2 wu2 (cu_WL P s1 s2 own amt tip)) H := hP
                have hD : va_D A (XW ad cB cI cL n tip (cu_LG P s1 s2 tip) tip und P lev own amt s1 s2 wu2 (cu_WL P s1 s2 own amt tip)) := hD
                refine lv_pop hx hb dX0_pay_81 rfl ?_
                refine lv_iload hx hb dX0_pay_82 (lv_at hl 0 rfl) ?_
                refine cu_if_ne (tgt := 90) (j := 0) (by omega) hx hb dX0_pay_84 (by decide) (fun c84 => ?_) (fun c84 => ?_)
                · exact absurd rfl c84
                · have hs : cu_sound n P s1 s2 a ff gg = false := by unfold cu_sound; rw [c57, decide_eq_false c48]; simp
                  refine lv_bipush (v := (-3)) hx hb dX0_pay_87 (by decide) ?_
                  exact W.iret (v := (-3)) hx hb hr (fun t_ ht_ hW => ⟨⟨(-3), wu2, rfl, (congrArg Prod.fst (cu_pay_uns (by omega) ha (by omega) hs)).symm, by rw [ht_]; exact (by rw [cu_pay_uns (by omega) ha (by omega) hs]; exact hP), va_K.moved hW.alike hK, (by rw [cu_pay_uns (by omega) ha (by omega) hs]; exact hD)⟩, hS.F ht_⟩) hS.2.2 dX0_pay_89
              · refine lv_iload hx hb dX0_pay_60 (lv_at hl 4 rfl) ?_
                refine lv_iload_n hx hb dX0_pay_62 rfl (lv_at hl 3 rfl) ?_
                refine lv_icmp_eq (tgt := 70) hx hb dX0_pay_63 (by decide) (fun c63 => ?_) (fun c63 => ?_)
                · refine lv_iconst (v := nI 0) hx hb dX0_pay_70 (by decide) ?_
                  refine lv_istore (lv' := [(5, .int (nI 0)), (0, .ref (ad 0)), (1, .int (nI a)), (2, .int (nI o)), (3, .int ff), (4, .int gg)]) hx hb dX0_pay_71 hl (by decide) rfl (fun ls hl => ?_)
                  refine lv_aload_n hx hb dX0_pay_73 rfl (lv_at hl 1 rfl) ?_
                  refine lv_aload_n hx hb dX0_pay_74 rfl (lv_at hl 1 rfl) ?_
                  refine va_get (D := D) (ci := 0) (v := .int (nI tip)) (C := RX0) (T := TX0) (N := 13) hx hb hts in_X0 hown hK hP 0 rfl rfl 11 (by decide) (hts _ q39) (fun _ h9 => h9) rfl dX0_pay_75 ?_
                  refine cu_calli (As := [.int (nI tip)]) (rest := []) (mX_moveTo l D ad cB cI cL H.size n a tip und P lev own amt s1 s2 wu1 tip h ha ht ) ⟨hx, hb, hml, hown, hts⟩ (cwV 1 hts (lw_V q83 q85 qs2 q18 q86) rfl rfl rfl (by decide +kernel) ⟨Nat.le_of_ble_eq_true rfl, Nat.le_of_ble_eq_true rfl⟩) hK hP hD hS hA (ci := 0) rfl rfl ⟨Nat.le_of_ble_eq_true rfl, Nat.le_of_ble_eq_true rfl⟩ rfl hl.1 rfl (Nat.le_of_ble_eq_true rfl) dX0_pay_78 (fun r78 wu2 H locs hw78 hP hD hS => ?_)
                  obtain rfl : r78 = nI (lev a - lev (cu_mt P a tip n)) := hw78
                  have hP : va_P D vwCl (XW ad cB cI cL n tip (cu_LG P s1 s2 tip) tip und P lev own amt s1 s2 wu2 (cu_WL P s1 s2 own amt tip)) H := hP
                  have hD : va_D A (XW ad cB cI cL n tip (cu_LG P s1 s2 tip) tip und P lev own amt s1 s2 wu2 (cu_WL P s1 s2 own amt tip)) := hD
                  refine lv_pop hx hb dX0_pay_81 rfl ?_
                  refine lv_iload hx hb dX0_pay_82 (lv_at hl 0 rfl) ?_
                  refine cu_if_ne (tgt := 90) (j := 0) (by omega) hx hb dX0_pay_84 (by decide) (fun c84 => ?_) (fun c84 => ?_)
                  · exact absurd rfl c84
                  · have hs : cu_sound n P s1 s2 a ff gg = false := by unfold cu_sound; rw [decide_eq_false c48, decide_eq_true c63]; simp
                    refine lv_bipush (v := (-3)) hx hb dX0_pay_87 (by decide) ?_
                    exact W.iret (v := (-3)) hx hb hr (fun t_ ht_ hW => ⟨⟨(-3), wu2, rfl, (congrArg Prod.fst (cu_pay_uns (by omega) ha (by omega) hs)).symm, by rw [ht_]; exact (by rw [cu_pay_uns (by omega) ha (by omega) hs]; exact hP), va_K.moved hW.alike hK, (by rw [cu_pay_uns (by omega) ha (by omega) hs]; exact hD)⟩, hS.F ht_⟩) hS.2.2 dX0_pay_89
                · refine lv_iconst (v := nI 1) hx hb dX0_pay_66 (by decide) ?_
                  refine lv_goto (tgt := 71) hx hb dX0_pay_67 (by decide) ?_
                  refine lv_istore (lv' := [(5, .int (nI 1)), (0, .ref (ad 0)), (1, .int (nI a)), (2, .int (nI o)), (3, .int ff), (4, .int gg)]) hx hb dX0_pay_71 hl (by decide) rfl (fun ls hl => ?_)
                  refine lv_aload_n hx hb dX0_pay_73 rfl (lv_at hl 1 rfl) ?_
                  refine lv_aload_n hx hb dX0_pay_74 rfl (lv_at hl 1 rfl) ?_
                  refine va_get (D := D) (ci := 0) (v := .int (nI tip)) (C := RX0) (T := TX0) (N := 13) hx hb hts in_X0 hown hK hP 0 rfl rfl 11 (by decide) (hts _ q39) (fun _ h9 => h9) rfl dX0_pay_75 ?_
                  refine cu_calli (As := [.int (nI tip)]) (rest := []) (mX_moveTo l D ad cB cI cL H.size n a tip und P lev own amt s1 s2 wu1 tip h ha ht ) ⟨hx, hb, hml, hown, hts⟩ (cwV 1 hts (lw_V q83 q85 qs2 q18 q86) rfl rfl rfl (by decide +kernel) ⟨Nat.le_of_ble_eq_true rfl, Nat.le_of_ble_eq_true rfl⟩) hK hP hD hS hA (ci := 0) rfl rfl ⟨Nat.le_of_ble_eq_true rfl, Nat.le_of_ble_eq_true rfl⟩ rfl hl.1 rfl (Nat.le_of_ble_eq_true rfl) dX0_pay_78 (fun r78 wu2 H locs hw78 hP hD hS => ?_)
                  obtain rfl : r78 = nI (lev a - lev (cu_mt P a tip n)) := hw78
                  have hP : va_P D vwCl (XW ad cB cI cL n tip (cu_LG P s1 s2 tip) tip und P lev own amt s1 s2 wu2 (cu_WL P s1 s2 own amt tip)) H := hP
                  have hD : va_D A (XW ad cB cI cL n tip (cu_LG P s1 s2 tip) tip und P lev own amt s1 s2 wu2 (cu_WL P s1 s2 own amt tip)) := hD
                  refine lv_pop hx hb dX0_pay_81 rfl ?_
                  refine lv_iload hx hb dX0_pay_82 (lv_at hl 0 rfl) ?_
                  refine cu_if_ne (tgt := 90) (j := 1) (by omega) hx hb dX0_pay_84 (by decide) (fun c84 => ?_) (fun c84 => ?_)
                  · have hs : cu_sound n P s1 s2 a ff gg = true := by unfold cu_sound; rw [c42, c57, decide_eq_false c63]; simp
                    obtain ⟨k1, hk10, hk1n, rfl, hk1L⟩ := (cu_th_iff hn20).mp c42
                    obtain ⟨k2, hk20, hk2n, rfl, hk2L⟩ := (cu_th_iff hn20).mp c57
                    have hne : k2 ≠ k1 := fun z => c63 (by rw [z])
                    refine lv_aload_n hx hb dX0_pay_90 rfl (lv_at hl 1 rfl) ?_
                    refine va_get (D := D) (ci := 0) (v := .ref (ad 4)) (C := RX0) (T := TX0) (N := 13) hx hb hts in_X0 hown hK hP 0 rfl rfl 4 (by decide) (hts _ q32) (fun _ h9 => h9) rfl dX0_pay_91 ?_
                    refine lv_iload_n hx hb dX0_pay_94 rfl (lv_at hl 4 rfl) ?_
                    refine cu_iald (v := nI (amt k1)) hx hb hK hP 4 1 rfl rfl k1 (by omega) (Nat.le_of_ble_eq_true rfl) rfl dX0_pay_95 ?_
                    refine lv_istore (lv' := [(6, .int (nI (amt k1))), (5, .int (nI 1)), (0, .ref (ad 0)), (1, .int (nI a)), (2, .int (nI o)), (3, .int (nI k1)), (4, .int (nI k2))]) hx hb dX0_pay_96 hl (by decide) rfl (fun ls hl => ?_)
                    refine lv_iload hx hb dX0_pay_98 (lv_at hl 6 rfl) ?_
                    refine cuI_if_lt (tgt := 115) hx hb dX0_pay_100 (by decide) (fun c100 => ?_) (fun c100 => ?_)
                    · exact absurd c100 (by rw [nI_toInt (by omega)]; omega)
                    · refine lv_iload hx hb dX0_pay_103 (lv_at hl 0 rfl) ?_
                      refine lv_aload_n hx hb dX0_pay_105 rfl (lv_at hl 2 rfl) ?_
                      refine va_get (D := D) (ci := 0) (v := .ref (ad 4)) (C := RX0) (T := TX0) (N := 13) hx hb hts in_X0 hown hK hP 0 rfl rfl 4 (by decide) (hts _ q32) (fun _ h9 => h9) rfl dX0_pay_106 ?_
                      refine lv_iload hx hb dX0_pay_109 (lv_at hl 6 rfl) ?_
                      refine cu_iald (v := nI (amt k2)) hx hb hK hP 4 1 rfl rfl k2 (by omega) (Nat.le_of_ble_eq_true rfl) rfl dX0_pay_111 ?_
                      refine lv_iadd hx hb dX0_pay_112 ?_
                      refine cu_top (y := nI ((amt k1) + (amt k2))) (nI_add _ _) ?_
                      refine lv_istore (lv' := [(6, .int (nI ((amt k1) + (amt k2)))), (5, .int (nI 1)), (0, .ref (ad 0)), (1, .int (nI a)), (2, .int (nI o)), (3, .int (nI k1)), (4, .int (nI k2))]) hx hb dX0_pay_113 hl (by decide) rfl (fun ls hl => ?_)
                      refine lv_aload_n hx hb dX0_pay_115 rfl (lv_at hl 2 rfl) ?_
                      refine lv_iload_n hx hb dX0_pay_116 rfl (lv_at hl 3 rfl) ?_
                      refine lv_iload_n hx hb dX0_pay_117 rfl (lv_at hl 4 rfl) ?_
                      refine lv_iload hx hb dX0_pay_118 (lv_at hl 0 rfl) ?_
                      refine lv_iload_n hx hb dX0_pay_120 rfl (lv_at hl 5 rfl) ?_
                      refine lv_iload hx hb dX0_pay_121 (lv_at hl 6 rfl) ?_
                      refine cu_calli (As := [.int (nI a), .int (nI o), .int (nI ((amt k1) + (amt k2))), .int (nI k1), .int (nI k2)]) (rest := []) (mX_addBlock l D ad cB cI cL H.size n tip und P lev own amt s1 s2 wu2 a o (amt k1 + amt k2) (nI k1) (nI k2) h ht (by omega) ha (by omega) (cu_i2b _ (by omega)) (cu_i2b _ (by omega)) (h.add2 (by omega) ha (by omega) hk10 hk1n hk1L hk20 hk2n hk2L hne)) ⟨hx, hb, hml, hown, hts⟩ (cwV 5 hts (lw_V q79 q81 qs1 q18 q82) rfl rfl rfl (by decide +kernel) ⟨Nat.le_of_ble_eq_true rfl, Nat.le_of_ble_eq_true rfl⟩) hK hP hD hS hA (ci := 0) rfl rfl ⟨Nat.le_of_ble_eq_true rfl, Nat.le_of_ble_eq_true rfl⟩ rfl hl.1 rfl (Nat.le_of_ble_eq_true rfl) dX0_pay_123 (fun r123 wu3 H locs hw123 hP hD hS => ?_)
                      obtain rfl : r123 = nI n := hw123
                      exact W.iret (v := nI n) hx hb hr (fun t_ ht_ hW => ⟨⟨nI n, wu3, rfl, (congrArg Prod.fst (cu_pay_ok (by omega) ha (by omega) hs)).symm, by rw [ht_]; exact (by rw [cu_pay_ok (by omega) ha (by omega) hs, cu_am_2 (by omega) (by omega)]; exact hP), va_K.moved hW.alike hK, (by rw [cu_pay_ok (by omega) ha (by omega) hs, cu_am_2 (by omega) (by omega)]; exact hD)⟩, hS.F ht_⟩) hS.2.2 dX0_pay_126
                  · exact absurd c84 (by decide)
        · refine lv_iconst (v := (-1)) hx hb dX0_pay_29 (by decide) ?_
          exact W.iret (v := (-1)) hx hb hr (fun t_ ht_ hW => ⟨⟨(-1), wu, rfl, (congrArg Prod.fst (cu_pay_bad (by omega) (by omega))).symm, by rw [ht_]; exact (by rw [cu_pay_bad (by omega) (by omega)]; exact hP), va_K.moved hW.alike hK, (by rw [cu_pay_bad (by omega) (by omega)]; exact hD)⟩, hS.F ht_⟩) hS.2.2 dX0_pay_30
  · refine lv_bipush (v := (-2)) hx hb dX0_pay_9 (by decide) ?_
    exact W.iret (v := (-2)) hx hb hr (fun t_ ht_ hW => ⟨⟨(-2), wu, rfl, (congrArg Prod.fst (cu_pay_full (by omega))).symm, by rw [ht_]; exact (by rw [cu_pay_full (by omega)]; exact hP), va_K.moved hW.alike hK, (by rw [cu_pay_full (by omega)]; exact hD)⟩, hS.F ht_⟩) hS.2.2 dX0_pay_11
end
section
/-! contracts: printed by gen/make.py -/
set_option maxHeartbeats 4000000 in
set_option maxRecDepth 100000 in
theorem mX_blocks (l : Launch) (D : va_G) (ad : Nat → Nat) (cB cI cL : ClassId) (sz : Nat) (n tip : Nat) (und : Int32) (P lev own amt : Nat → Nat) (s1 s2 wu : Nat → Int32) (h : cu_OK n P lev own amt s1 s2) (ht : tip < n) : Met l yX0_blocks (ws_ yX0_blocks cX0_blocks 1 (some .int)) ({ frames := 0, cells := 0, slots := 0, locals := 0 }) (va_Pc [.ref (ad 0)] (cu_In D vwCl (XT cB cI cL) (XW ad cB cI cL n tip (cu_LG P s1 s2 tip) tip und P lev own amt s1 s2 wu (cu_WL P s1 s2 own amt tip)) sz)) (va_Qi (fun (r : Int32) (u : Unit) => r = nI n) (fun u => cu_Out D vwCl (XT cB cI cL) (va_A (XW ad cB cI cL n tip (cu_LG P s1 s2 tip) tip und P lev own amt s1 s2 wu (cu_WL P s1 s2 own amt tip)) sz) (XW ad cB cI cL n tip (cu_LG P s1 s2 tip) tip und P lev own amt s1 s2 wu (cu_WL P s1 s2 own amt tip))) (va_A (XW ad cB cI cL n tip (cu_LG P s1 s2 tip) tip und P lev own amt s1 s2 wu (cu_WL P s1 s2 own amt tip)) sz)) 0 0 (va_A (XW ad cB cI cL n tip (cu_LG P s1 s2 tip) tip und P lev own amt s1 s2 wu (cu_WL P s1 s2 own amt tip)) sz) := by
  refine Met.ofW (cc := cX0_blocks) (maxL := 1) (ret := (some .int)) (by decide) rfl ?_
  intro p e s m args below meth c s₁ B hml hv
  obtain ⟨rfl, hsz, hP, hK, hD0⟩ := hv
  have hx := B.exec
  have hb := B.bytes
  have hr := B.returns
  have hts := atoms_spec (ws := ws_ yX0_blocks cX0_blocks 1 (some .int)) B.pre
  have hts : ∀ w ∈ lw_all, w.before _ s = true := fun w h => hts w (List.mem_cons_of_mem _ h)
  have hown : s.vm.findClass RX0 = some m.cls := findClass_of_methodNamed B.named
  have hlocks := B.notSynchronized
  subst hsz
  have hD := hD0.self (sz := s.heap.size)
  generalize hAe : va_A (XW ad cB cI cL n tip (cu_LG P s1 s2 tip) tip und P lev own amt s1 s2 wu (cu_WL P s1 s2 own amt tip)) s.heap.size = A at hD ⊢
  have hA : ∀ q : Nat, s.heap.size ≤ q → A q := fun q h => by rw [← hAe]; exact Or.inr h
  have hl := lv_entry ([.ref (ad 0)]) (n := 1) (Nat.le_of_ble_eq_true rfl)
  rw [lg_entry_eq]
  generalize (lg_sl ([.ref (ad 0)]) ++ List.replicate (1 - (lg_sl ([.ref (ad 0)])).length) Slot.unset).toArray = ls at hl ⊢
  have hl : lv_has ls 1 [(0, .ref (ad 0))] := hl
  refine cu_start (fun H locs eH eL => ?_)
  have hP : va_P D vwCl (XW ad cB cI cL n tip (cu_LG P s1 s2 tip) tip und P lev own amt s1 s2 wu (cu_WL P s1 s2 own amt tip)) H := by rw [eH]; exact hP
  have hS : va_S A s.heap H locs := by rw [eH, eL]; exact va_S.rf
  have hn20 := h.n20
  refine lv_aload_n hx hb dX0_blocks_0 rfl (lv_at hl 0 rfl) ?_
  refine va_get (D := D) (ci := 0) (v := .int (nI n)) (C := RX0) (T := TX0) (N := 13) hx hb hts in_X0 hown hK hP 0 rfl rfl 0 (by decide) (hts _ q28) (fun _ h9 => h9) rfl dX0_blocks_1 ?_
  exact W.iret (v := nI n) hx hb hr (fun t_ ht_ hW => ⟨⟨nI n, (), rfl, rfl, by rw [ht_]; exact hP, va_K.moved hW.alike hK, hD⟩, hS.F ht_⟩) hS.2.2 dX0_blocks_4
set_option maxHeartbeats 4000000 in
set_option maxRecDepth 100000 in
theorem mX_tip (l : Launch) (D : va_G) (ad : Nat → Nat) (cB cI cL : ClassId) (sz : Nat) (n tip : Nat) (und : Int32) (P lev own amt : Nat → Nat) (s1 s2 wu : Nat → Int32) (h : cu_OK n P lev own amt s1 s2) (ht : tip < n) : Met l yX0_tip (ws_ yX0_tip cX0_tip 1 (some .int)) ({ frames := 0, cells := 0, slots := 0, locals := 0 }) (va_Pc [.ref (ad 0)] (cu_In D vwCl (XT cB cI cL) (XW ad cB cI cL n tip (cu_LG P s1 s2 tip) tip und P lev own amt s1 s2 wu (cu_WL P s1 s2 own amt tip)) sz)) (va_Qi (fun (r : Int32) (u : Unit) => r = nI tip) (fun u => cu_Out D vwCl (XT cB cI cL) (va_A (XW ad cB cI cL n tip (cu_LG P s1 s2 tip) tip und P lev own amt s1 s2 wu (cu_WL P s1 s2 own amt tip)) sz) (XW ad cB cI cL n tip (cu_LG P s1 s2 tip) tip und P lev own amt s1 s2 wu (cu_WL P s1 s2 own amt tip))) (va_A (XW ad cB cI cL n tip (cu_LG P s1 s2 tip) tip und P lev own amt s1 s2 wu (cu_WL P s1 s2 own amt tip)) sz)) 0 0 (va_A (XW ad cB cI cL n tip (cu_LG P s1 s2 tip) tip und P lev own amt s1 s2 wu (cu_WL P s1 s2 own amt tip)) sz) := by
  refine Met.ofW (cc := cX0_tip) (maxL := 1) (ret := (some .int)) (by decide) rfl ?_
  intro p e s m args below meth c s₁ B hml hv
  obtain ⟨rfl, hsz, hP, hK, hD0⟩ := hv
  have hx := B.exec
  have hb := B.bytes
  have hr := B.returns
  have hts := atoms_spec (ws := ws_ yX0_tip cX0_tip 1 (some .int)) B.pre
  have hts : ∀ w ∈ lw_all, w.before _ s = true := fun w h => hts w (List.mem_cons_of_mem _ h)
  have hown : s.vm.findClass RX0 = some m.cls := findClass_of_methodNamed B.named
  have hlocks := B.notSynchronized
  subst hsz
  have hD := hD0.self (sz := s.heap.size)
  generalize hAe : va_A (XW ad cB cI cL n tip (cu_LG P s1 s2 tip) tip und P lev own amt s1 s2 wu (cu_WL P s1 s2 own amt tip)) s.heap.size = A at hD ⊢
  have hA : ∀ q : Nat, s.heap.size ≤ q → A q := fun q h => by rw [← hAe]; exact Or.inr h
  have hl := lv_entry ([.ref (ad 0)]) (n := 1) (Nat.le_of_ble_eq_true rfl)
  rw [lg_entry_eq]
  generalize (lg_sl ([.ref (ad 0)]) ++ List.replicate (1 - (lg_sl ([.ref (ad 0)])).length) Slot.unset).toArray = ls at hl ⊢
  have hl : lv_has ls 1 [(0, .ref (ad 0))] := hl
  refine cu_start (fun H locs eH eL => ?_)
  have hP : va_P D vwCl (XW ad cB cI cL n tip (cu_LG P s1 s2 tip) tip und P lev own amt s1 s2 wu (cu_WL P s1 s2 own amt tip)) H := by rw [eH]; exact hP
  have hS : va_S A s.heap H locs := by rw [eH, eL]; exact va_S.rf
  have hn20 := h.n20
  refine lv_aload_n hx hb dX0_tip_0 rfl (lv_at hl 0 rfl) ?_
  refine va_get (D := D) (ci := 0) (v := .int (nI tip)) (C := RX0) (T := TX0) (N := 13) hx hb hts in_X0 hown hK hP 0 rfl rfl 11 (by decide) (hts _ q39) (fun _ h9 => h9) rfl dX0_tip_1 ?_
  exact W.iret (v := nI tip) hx hb hr (fun t_ ht_ hW => ⟨⟨nI tip, (), rfl, rfl, by rw [ht_]; exact hP, va_K.moved hW.alike hK, hD⟩, hS.F ht_⟩) hS.2.2 dX0_tip_4
set_option maxHeartbeats 4000000 in
set_option maxRecDepth 100000 in
theorem mX_undone (l : Launch) (D : va_G) (ad : Nat → Nat) (cB cI cL : ClassId) (sz : Nat) (n tip : Nat) (und : Int32) (P lev own amt : Nat → Nat) (s1 s2 wu : Nat → Int32) (h : cu_OK n P lev own amt s1 s2) (ht : tip < n) : Met l yX0_undone (ws_ yX0_undone cX0_undone 1 (some .int)) ({ frames := 0, cells := 0, slots := 0, locals := 0 }) (va_Pc [.ref (ad 0)] (cu_In D vwCl (XT cB cI cL) (XW ad cB cI cL n tip (cu_LG P s1 s2 tip) tip und P lev own amt s1 s2 wu (cu_WL P s1 s2 own amt tip)) sz)) (va_Qi (fun (r : Int32) (u : Unit) => r = und) (fun u => cu_Out D vwCl (XT cB cI cL) (va_A (XW ad cB cI cL n tip (cu_LG P s1 s2 tip) tip und P lev own amt s1 s2 wu (cu_WL P s1 s2 own amt tip)) sz) (XW ad cB cI cL n tip (cu_LG P s1 s2 tip) tip und P lev own amt s1 s2 wu (cu_WL P s1 s2 own amt tip))) (va_A (XW ad cB cI cL n tip (cu_LG P s1 s2 tip) tip und P lev own amt s1 s2 wu (cu_WL P s1 s2 own amt tip)) sz)) 0 0 (va_A (XW ad cB cI cL n tip (cu_LG P s1 s2 tip) tip und P lev own amt s1 s2 wu (cu_WL P s1 s2 own amt tip)) sz) := by
  refine Met.ofW (cc := cX0_undone) (maxL := 1) (ret := (some .int)) (by decide) rfl ?_
  intro p e s m args below meth c s₁ B hml hv
  obtain ⟨rfl, hsz, hP, hK, hD0⟩ := hv
  have hx := B.exec
  have hb := B.bytes
  have hr := B.returns
  have hts := atoms_spec (ws := ws_ yX0_undone cX0_undone 1 (some .int)) B.pre
  have hts : ∀ w ∈ lw_all, w.before _ s = true := fun w h => hts w (List.mem_cons_of_mem _ h)
  have hown : s.vm.findClass RX0 = some m.cls := findClass_of_methodNamed B.named
  have hlocks := B.notSynchronized
  subst hsz
  have hD := hD0.self (sz := s.heap.size)
  generalize hAe : va_A (XW ad cB cI cL n tip (cu_LG P s1 s2 tip) tip und P lev own amt s1 s2 wu (cu_WL P s1 s2 own amt tip)) s.heap.size = A at hD ⊢
  have hA : ∀ q : Nat, s.heap.size ≤ q → A q := fun q h => by rw [← hAe]; exact Or.inr h
  have hl := lv_entry ([.ref (ad 0)]) (n := 1) (Nat.le_of_ble_eq_true rfl)
  rw [lg_entry_eq]
  generalize (lg_sl ([.ref (ad 0)]) ++ List.replicate (1 - (lg_sl ([.ref (ad 0)])).length) Slot.unset).toArray = ls at hl ⊢
  have hl : lv_has ls 1 [(0, .ref (ad 0))] := hl
  refine cu_start (fun H locs eH eL => ?_)
  have hP : va_P D vwCl (XW ad cB cI cL n tip (cu_LG P s1 s2 tip) tip und P lev own amt s1 s2 wu (cu_WL P s1 s2 own amt tip)) H := by rw [eH]; exact hP
  have hS : va_S A s.heap H locs := by rw [eH, eL]; exact va_S.rf
  have hn20 := h.n20
  refine lv_aload_n hx hb dX0_undone_0 rfl (lv_at hl 0 rfl) ?_
  refine va_get (D := D) (ci := 0) (v := .int und) (C := RX0) (T := TX0) (N := 13) hx hb hts in_X0 hown hK hP 0 rfl rfl 12 (by decide) (hts _ q40) (fun _ h9 => h9) rfl dX0_undone_1 ?_
  exact W.iret (v := und) hx hb hr (fun t_ ht_ hW => ⟨⟨und, (), rfl, rfl, by rw [ht_]; exact hP, va_K.moved hW.alike hK, hD⟩, hS.F ht_⟩) hS.2.2 dX0_undone_4
set_option maxHeartbeats 4000000 in
set_option maxRecDepth 100000 in
theorem mX_height (l : Launch) (D : va_G) (ad : Nat → Nat) (cB cI cL : ClassId) (sz : Nat) (n tip : Nat) (und : Int32) (P lev own amt : Nat → Nat) (s1 s2 wu : Nat → Int32) (x : Int32) (h : cu_OK n P lev own amt s1 s2) (ht : tip < n) : Met l yX0_height (ws_ yX0_height cX0_height 2 (some .int)) ({ frames := 1, cells := 0, slots := 0, locals := 21 }) (va_Pc [.ref (ad 0), .int x] (cu_In D vwCl (XT cB cI cL) (XW ad cB cI cL n tip (cu_LG P s1 s2 tip) tip und P lev own amt s1 s2 wu (cu_WL P s1 s2 own amt tip)) sz)) (va_Qi (fun (r : Int32) (u : Unit) => r = cu_ht n lev x) (fun u => cu_Out D vwCl (XT cB cI cL) (va_A (XW ad cB cI cL n tip (cu_LG P s1 s2 tip) tip und P lev own amt s1 s2 wu (cu_WL P s1 s2 own amt tip)) sz) (XW ad cB cI cL n tip (cu_LG P s1 s2 tip) tip und P lev own amt s1 s2 wu (cu_WL P s1 s2 own amt tip))) (va_A (XW ad cB cI cL n tip (cu_LG P s1 s2 tip) tip und P lev own amt s1 s2 wu (cu_WL P s1 s2 own amt tip)) sz)) 0 0 (va_A (XW ad cB cI cL n tip (cu_LG P s1 s2 tip) tip und P lev own amt s1 s2 wu (cu_WL P s1 s2 own amt tip)) sz) := by
  refine Met.ofW (cc := cX0_height) (maxL := 2) (ret := (some .int)) (by decide) rfl ?_
  intro p e s m args below meth c s₁ B hml hv
  obtain ⟨rfl, hsz, hP, hK, hD0⟩ := hv
  have hx := B.exec
  have hb := B.bytes
  have hr := B.returns
  have hts := atoms_spec (ws := ws_ yX0_height cX0_height 2 (some .int)) B.pre
  have hts : ∀ w ∈ lw_all, w.before _ s = true := fun w h => hts w (List.mem_cons_of_mem _ h)
  have hown : s.vm.findClass RX0 = some m.cls := findClass_of_methodNamed B.named
  have hlocks := B.notSynchronized
  subst hsz
  have hD := hD0.self (sz := s.heap.size)
  generalize hAe : va_A (XW ad cB cI cL n tip (cu_LG P s1 s2 tip) tip und P lev own amt s1 s2 wu (cu_WL P s1 s2 own amt tip)) s.heap.size = A at hD ⊢
  have hA : ∀ q : Nat, s.heap.size ≤ q → A q := fun q h => by rw [← hAe]; exact Or.inr h
  have hl := lv_entry ([.ref (ad 0), .int x]) (n := 2) (Nat.le_of_ble_eq_true rfl)
  rw [lg_entry_eq]
  generalize (lg_sl ([.ref (ad 0), .int x]) ++ List.replicate (2 - (lg_sl ([.ref (ad 0), .int x])).length) Slot.unset).toArray = ls at hl ⊢
  have hl : lv_has ls 2 [(0, .ref (ad 0)), (1, .int x)] := hl
  refine cu_start (fun H locs eH eL => ?_)
  have hP : va_P D vwCl (XW ad cB cI cL n tip (cu_LG P s1 s2 tip) tip und P lev own amt s1 s2 wu (cu_WL P s1 s2 own amt tip)) H := by rw [eH]; exact hP
  have hS : va_S A s.heap H locs := by rw [eH, eL]; exact va_S.rf
  have hn20 := h.n20
  refine lv_aload_n hx hb dX0_height_0 rfl (lv_at hl 0 rfl) ?_
  refine lv_iload_n hx hb dX0_height_1 rfl (lv_at hl 1 rfl) ?_
  refine cu_calli (As := [.int x]) (rest := []) (mX_isBlock l D ad cB cI cL H.size n tip (cu_LG P s1 s2 tip) tip und P lev own amt s1 s2 wu (cu_WL P s1 s2 own amt tip) x hn20) ⟨hx, hb, hml, hown, hts⟩ (cwV 1 hts (lw_V q75 q77 qs0 q18 q78) rfl rfl rfl (by decide +kernel) ⟨Nat.le_of_ble_eq_true rfl, Nat.le_of_ble_eq_true rfl⟩) hK hP hD hS hA (ci := 0) rfl rfl ⟨Nat.le_of_ble_eq_true rfl, Nat.le_of_ble_eq_true rfl⟩ rfl hl.1 rfl (Nat.le_of_ble_eq_true rfl) dX0_height_2 (fun r2 u2 H locs hw2 hP hD hS => ?_)
  obtain rfl : r2 = cu_bI (cu_in n x) := hw2
  have hP : va_P D vwCl (XW ad cB cI cL n tip (cu_LG P s1 s2 tip) tip und P lev own amt s1 s2 wu (cu_WL P s1 s2 own amt tip)) H := hP
  have hD : va_D A (XW ad cB cI cL n tip (cu_LG P s1 s2 tip) tip und P lev own amt s1 s2 wu (cu_WL P s1 s2 own amt tip)) := hD
  refine cuB_if_eq (tgt := 17) hx hb dX0_height_5 (by decide) (fun c5 => ?_) (fun c5 => ?_)
  · refine lv_iconst (v := (-1)) hx hb dX0_height_17 (by decide) ?_
    exact W.iret (v := (-1)) hx hb hr (fun t_ ht_ hW => ⟨⟨(-1), (), rfl, cu_ht_o c5, by rw [ht_]; exact hP, va_K.moved hW.alike hK, hD⟩, hS.F ht_⟩) hS.2.2 dX0_height_18
  · obtain ⟨k, hk, rfl⟩ := cu_in_of hn20 c5
    refine lv_aload_n hx hb dX0_height_8 rfl (lv_at hl 0 rfl) ?_
    refine va_get (D := D) (ci := 0) (v := .ref (ad 2)) (C := RX0) (T := TX0) (N := 13) hx hb hts in_X0 hown hK hP 0 rfl rfl 2 (by decide) (hts _ q30) (fun _ h9 => h9) rfl dX0_height_9 ?_
    refine lv_iload_n hx hb dX0_height_12 rfl (lv_at hl 1 rfl) ?_
    refine cu_bald (v := nI (lev k)) hx hb hK hP 2 0 rfl rfl k (by omega) (Nat.le_of_ble_eq_true rfl) rfl dX0_height_13 ?_
    refine lv_goto (tgt := 18) hx hb dX0_height_14 (by decide) ?_
    exact W.iret (v := nI (lev k)) hx hb hr (fun t_ ht_ hW => ⟨⟨nI (lev k), (), rfl, cu_ht_n hn20 hk, by rw [ht_]; exact hP, va_K.moved hW.alike hK, hD⟩, hS.F ht_⟩) hS.2.2 dX0_height_18
set_option maxHeartbeats 4000000 in
set_option maxRecDepth 100000 in
theorem mX_amount (l : Launch) (D : va_G) (ad : Nat → Nat) (cB cI cL : ClassId) (sz : Nat) (n tip : Nat) (und : Int32) (P lev own amt : Nat → Nat) (s1 s2 wu : Nat → Int32) (x : Int32) (h : cu_OK n P lev own amt s1 s2) (ht : tip < n) : Met l yX0_amount (ws_ yX0_amount cX0_amount 2 (some .int)) ({ frames := 1, cells := 0, slots := 0, locals := 21 }) (va_Pc [.ref (ad 0), .int x] (cu_In D vwCl (XT cB cI cL) (XW ad cB cI cL n tip (cu_LG P s1 s2 tip) tip und P lev own amt s1 s2 wu (cu_WL P s1 s2 own amt tip)) sz)) (va_Qi (fun (r : Int32) (u : Unit) => r = cu_amo n amt x) (fun u => cu_Out D vwCl (XT cB cI cL) (va_A (XW ad cB cI cL n tip (cu_LG P s1 s2 tip) tip und P lev own amt s1 s2 wu (cu_WL P s1 s2 own amt tip)) sz) (XW ad cB cI cL n tip (cu_LG P s1 s2 tip) tip und P lev own amt s1 s2 wu (cu_WL P s1 s2 own amt tip))) (va_A (XW ad cB cI cL n tip (cu_LG P s1 s2 tip) tip und P lev own amt s1 s2 wu (cu_WL P s1 s2 own amt tip)) sz)) 0 0 (va_A (XW ad cB cI cL n tip (cu_LG P s1 s2 tip) tip und P lev own amt s1 s2 wu (cu_WL P s1 s2 own amt tip)) sz) := by
  refine Met.ofW (cc := cX0_amount) (maxL := 2) (ret := (some .int)) (by decide) rfl ?_
  intro p e s m args below meth c s₁ B hml hv
  obtain ⟨rfl, hsz, hP, hK, hD0⟩ := hv
  have hx := B.exec
  have hb := B.bytes
  have hr := B.returns
  have hts := atoms_spec (ws := ws_ yX0_amount cX0_amount 2 (some .int)) B.pre
  have hts : ∀ w ∈ lw_all, w.before _ s = true := fun w h => hts w (List.mem_cons_of_mem _ h)
  have hown : s.vm.findClass RX0 = some m.cls := findClass_of_methodNamed B.named
  have hlocks := B.notSynchronized
  subst hsz
  have hD := hD0.self (sz := s.heap.size)
  generalize hAe : va_A (XW ad cB cI cL n tip (cu_LG P s1 s2 tip) tip und P lev own amt s1 s2 wu (cu_WL P s1 s2 own amt tip)) s.heap.size = A at hD ⊢
  have hA : ∀ q : Nat, s.heap.size ≤ q → A q := fun q h => by rw [← hAe]; exact Or.inr h
  have hl := lv_entry ([.ref (ad 0), .int x]) (n := 2) (Nat.le_of_ble_eq_true rfl)
  rw [lg_entry_eq]
  generalize (lg_sl ([.ref (ad 0), .int x]) ++ List.replicate (2 - (lg_sl ([.ref (ad 0), .int x])).length) Slot.unset).toArray = ls at hl ⊢
  have hl : lv_has ls 2 [(0, .ref (ad 0)), (1, .int x)] := hl
  refine cu_start (fun H locs eH eL => ?_)
  have hP : va_P D vwCl (XW ad cB cI cL n tip (cu_LG P s1 s2 tip) tip und P lev own amt s1 s2 wu (cu_WL P s1 s2 own amt tip)) H := by rw [eH]; exact hP
  have hS : va_S A s.heap H locs := by rw [eH, eL]; exact va_S.rf
  have hn20 := h.n20
  refine lv_aload_n hx hb dX0_amount_0 rfl (lv_at hl 0 rfl) ?_
  refine lv_iload_n hx hb dX0_amount_1 rfl (lv_at hl 1 rfl) ?_
  refine cu_calli (As := [.int x]) (rest := []) (mX_isBlock l D ad cB cI cL H.size n tip (cu_LG P s1 s2 tip) tip und P lev own amt s1 s2 wu (cu_WL P s1 s2 own amt tip) x hn20) ⟨hx, hb, hml, hown, hts⟩ (cwV 1 hts (lw_V q75 q77 qs0 q18 q78) rfl rfl rfl (by decide +kernel) ⟨Nat.le_of_ble_eq_true rfl, Nat.le_of_ble_eq_true rfl⟩) hK hP hD hS hA (ci := 0) rfl rfl ⟨Nat.le_of_ble_eq_true rfl, Nat.le_of_ble_eq_true rfl⟩ rfl hl.1 rfl (Nat.le_of_ble_eq_true rfl) dX0_amount_2 (fun r2 u2 H locs hw2 hP hD hS => ?_)
  obtain rfl : r2 = cu_bI (cu_in n x) := hw2
  have hP : va_P D vwCl (XW ad cB cI cL n tip (cu_LG P s1 s2 tip) tip und P lev own amt s1 s2 wu (cu_WL P s1 s2 own amt tip)) H := hP
  have hD : va_D A (XW ad cB cI cL n tip (cu_LG P s1 s2 tip) tip und P lev own amt s1 s2 wu (cu_WL P s1 s2 own amt tip)) := hD
  refine cuB_if_eq (tgt := 17) hx hb dX0_amount_5 (by decide) (fun c5 => ?_) (fun c5 => ?_)
  · refine lv_iconst (v := nI 0) hx hb dX0_amount_17 (by decide) ?_
    exact W.iret (v := nI 0) hx hb hr (fun t_ ht_ hW => ⟨⟨nI 0, (), rfl, cu_amo_o c5, by rw [ht_]; exact hP, va_K.moved hW.alike hK, hD⟩, hS.F ht_⟩) hS.2.2 dX0_amount_18
  · obtain ⟨k, hk, rfl⟩ := cu_in_of hn20 c5
    refine lv_aload_n hx hb dX0_amount_8 rfl (lv_at hl 0 rfl) ?_
    refine va_get (D := D) (ci := 0) (v := .ref (ad 4)) (C := RX0) (T := TX0) (N := 13) hx hb hts in_X0 hown hK hP 0 rfl rfl 4 (by decide) (hts _ q32) (fun _ h9 => h9) rfl dX0_amount_9 ?_
    refine lv_iload_n hx hb dX0_amount_12 rfl (lv_at hl 1 rfl) ?_
    refine cu_iald (v := nI (amt k)) hx hb hK hP 4 1 rfl rfl k (by omega) (Nat.le_of_ble_eq_true rfl) rfl dX0_amount_13 ?_
    refine lv_goto (tgt := 18) hx hb dX0_amount_14 (by decide) ?_
    exact W.iret (v := nI (amt k)) hx hb hr (fun t_ ht_ hW => ⟨⟨nI (amt k), (), rfl, cu_amo_n hn20 hk, by rw [ht_]; exact hP, va_K.moved hW.alike hK, hD⟩, hS.F ht_⟩) hS.2.2 dX0_amount_18
set_option maxHeartbeats 4000000 in
set_option maxRecDepth 100000 in
theorem mX_unspent (l : Launch) (D : va_G) (ad : Nat → Nat) (cB cI cL : ClassId) (sz : Nat) (n tip : Nat) (und : Int32) (P lev own amt : Nat → Nat) (s1 s2 wu : Nat → Int32) (x : Int32) (h : cu_OK n P lev own amt s1 s2) (ht : tip < n) : Met l yX0_unspent (ws_ yX0_unspent cX0_unspent 2 (some .boolean)) ({ frames := 1, cells := 0, slots := 0, locals := 21 }) (va_Pc [.ref (ad 0), .int x] (cu_In D vwCl (XT cB cI cL) (XW ad cB cI cL n tip (cu_LG P s1 s2 tip) tip und P lev own amt s1 s2 wu (cu_WL P s1 s2 own amt tip)) sz)) (va_Qi (fun (r : Int32) (u : Unit) => r = cu_bI (cu_th n P s1 s2 tip x)) (fun u => cu_Out D vwCl (XT cB cI cL) (va_A (XW ad cB cI cL n tip (cu_LG P s1 s2 tip) tip und P lev own amt s1 s2 wu (cu_WL P s1 s2 own amt tip)) sz) (XW ad cB cI cL n tip (cu_LG P s1 s2 tip) tip und P lev own amt s1 s2 wu (cu_WL P s1 s2 own amt tip))) (va_A (XW ad cB cI cL n tip (cu_LG P s1 s2 tip) tip und P lev own amt s1 s2 wu (cu_WL P s1 s2 own amt tip)) sz)) 0 0 (va_A (XW ad cB cI cL n tip (cu_LG P s1 s2 tip) tip und P lev own amt s1 s2 wu (cu_WL P s1 s2 own amt tip)) sz) := by
  refine Met.ofW (cc := cX0_unspent) (maxL := 2) (ret := (some .boolean)) (by decide) rfl ?_
  intro p e s m args below meth c s₁ B hml hv
  obtain ⟨rfl, hsz, hP, hK, hD0⟩ := hv
  have hx := B.exec
  have hb := B.bytes
  have hr := B.returns
  have hts := atoms_spec (ws := ws_ yX0_unspent cX0_unspent 2 (some .boolean)) B.pre
  have hts : ∀ w ∈ lw_all, w.before _ s = true := fun w h => hts w (List.mem_cons_of_mem _ h)
  have hown : s.vm.findClass RX0 = some m.cls := findClass_of_methodNamed B.named
  have hlocks := B.notSynchronized
  subst hsz
  have hD := hD0.self (sz := s.heap.size)
  generalize hAe : va_A (XW ad cB cI cL n tip (cu_LG P s1 s2 tip) tip und P lev own amt s1 s2 wu (cu_WL P s1 s2 own amt tip)) s.heap.size = A at hD ⊢
  have hA : ∀ q : Nat, s.heap.size ≤ q → A q := fun q h => by rw [← hAe]; exact Or.inr h
  have hl := lv_entry ([.ref (ad 0), .int x]) (n := 2) (Nat.le_of_ble_eq_true rfl)
  rw [lg_entry_eq]
  generalize (lg_sl ([.ref (ad 0), .int x]) ++ List.replicate (2 - (lg_sl ([.ref (ad 0), .int x])).length) Slot.unset).toArray = ls at hl ⊢
  have hl : lv_has ls 2 [(0, .ref (ad 0)), (1, .int x)] := hl
  refine cu_start (fun H locs eH eL => ?_)
  have hP : va_P D vwCl (XW ad cB cI cL n tip (cu_LG P s1 s2 tip) tip und P lev own amt s1 s2 wu (cu_WL P s1 s2 own amt tip)) H := by rw [eH]; exact hP
  have hS : va_S A s.heap H locs := by rw [eH, eL]; exact va_S.rf
  have hn20 := h.n20
  refine lv_aload_n hx hb dX0_unspent_0 rfl (lv_at hl 0 rfl) ?_
  refine lv_iload_n hx hb dX0_unspent_1 rfl (lv_at hl 1 rfl) ?_
  refine cu_calli (As := [.int x]) (rest := []) (mX_isThere l D ad cB cI cL H.size n tip (cu_LG P s1 s2 tip) tip und P lev own amt s1 s2 wu (cu_WL P s1 s2 own amt tip) x hn20) ⟨hx, hb, hml, hown, hts⟩ (cwV 1 hts (lw_V q111 q113 qs8 q18 q114) rfl rfl rfl (by decide +kernel) ⟨Nat.le_of_ble_eq_true rfl, Nat.le_of_ble_eq_true rfl⟩) hK hP hD hS hA (ci := 0) rfl rfl ⟨Nat.le_of_ble_eq_true rfl, Nat.le_of_ble_eq_true rfl⟩ rfl hl.1 rfl (Nat.le_of_ble_eq_true rfl) dX0_unspent_2 (fun r2 u2 H locs hw2 hP hD hS => ?_)
  obtain rfl : r2 = cu_bI (cu_th n P s1 s2 tip x) := hw2.trans (congrArg cu_bI (cu_th_bt h ht x))
  have hP : va_P D vwCl (XW ad cB cI cL n tip (cu_LG P s1 s2 tip) tip und P lev own amt s1 s2 wu (cu_WL P s1 s2 own amt tip)) H := hP
  have hD : va_D A (XW ad cB cI cL n tip (cu_LG P s1 s2 tip) tip und P lev own amt s1 s2 wu (cu_WL P s1 s2 own amt tip)) := hD
  exact W.zret (v := cu_bI (cu_th n P s1 s2 tip x)) hx hb hr (cu_narZ _) (fun t_ ht_ hW => ⟨⟨cu_bI (cu_th n P s1 s2 tip x), (), rfl, rfl, by rw [ht_]; exact hP, va_K.moved hW.alike hK, hD⟩, hS.F ht_⟩) hS.2.2 dX0_unspent_5
set_option maxHeartbeats 4000000 in
set_option maxRecDepth 100000 in
theorem mX_balance (l : Launch) (D : va_G) (ad : Nat → Nat) (cB cI cL : ClassId) (sz : Nat) (n tip : Nat) (und : Int32) (P lev own amt : Nat → Nat) (s1 s2 wu : Nat → Int32) (oo : Int32) (h : cu_OK n P lev own amt s1 s2) (ht : tip < n) : Met l yX0_balance (ws_ yX0_balance cX0_balance 2 (some .long)) ({ frames := 0, cells := 0, slots := 0, locals := 0 }) (va_Pc [.ref (ad 0), .int oo] (cu_In D vwCl (XT cB cI cL) (XW ad cB cI cL n tip (cu_LG P s1 s2 tip) tip und P lev own amt s1 s2 wu (cu_WL P s1 s2 own amt tip)) sz)) (va_Ql (fun (r : Int64) (u : Unit) => r = lN (cu_sum (cu_F P s1 s2 own amt oo tip) n)) (fun u => cu_Out D vwCl (XT cB cI cL) (va_A (XW ad cB cI cL n tip (cu_LG P s1 s2 tip) tip und P lev own amt s1 s2 wu (cu_WL P s1 s2 own amt tip)) sz) (XW ad cB cI cL n tip (cu_LG P s1 s2 tip) tip und P lev own amt s1 s2 wu (cu_WL P s1 s2 own amt tip))) (va_A (XW ad cB cI cL n tip (cu_LG P s1 s2 tip) tip und P lev own amt s1 s2 wu (cu_WL P s1 s2 own amt tip)) sz)) 0 0 (va_A (XW ad cB cI cL n tip (cu_LG P s1 s2 tip) tip und P lev own amt s1 s2 wu (cu_WL P s1 s2 own amt tip)) sz) := by
  refine Met.ofW (cc := cX0_balance) (maxL := 2) (ret := (some .long)) (by decide) rfl ?_
  intro p e s m args below meth c s₁ B hml hv
  obtain ⟨rfl, hsz, hP, hK, hD0⟩ := hv
  have hx := B.exec
  have hb := B.bytes
  have hr := B.returns
  have hts := atoms_spec (ws := ws_ yX0_balance cX0_balance 2 (some .long)) B.pre
  have hts : ∀ w ∈ lw_all, w.before _ s = true := fun w h => hts w (List.mem_cons_of_mem _ h)
  have hown : s.vm.findClass RX0 = some m.cls := findClass_of_methodNamed B.named
  have hlocks := B.notSynchronized
  subst hsz
  have hD := hD0.self (sz := s.heap.size)
  generalize hAe : va_A (XW ad cB cI cL n tip (cu_LG P s1 s2 tip) tip und P lev own amt s1 s2 wu (cu_WL P s1 s2 own amt tip)) s.heap.size = A at hD ⊢
  have hA : ∀ q : Nat, s.heap.size ≤ q → A q := fun q h => by rw [← hAe]; exact Or.inr h
  have hl := lv_entry ([.ref (ad 0), .int oo]) (n := 2) (Nat.le_of_ble_eq_true rfl)
  rw [lg_entry_eq]
  generalize (lg_sl ([.ref (ad 0), .int oo]) ++ List.replicate (2 - (lg_sl ([.ref (ad 0), .int oo])).length) Slot.unset).toArray = ls at hl ⊢
  have hl : lv_has ls 2 [(0, .ref (ad 0)), (1, .int oo)] := hl
  refine cu_start (fun H locs eH eL => ?_)
  have hP : va_P D vwCl (XW ad cB cI cL n tip (cu_LG P s1 s2 tip) tip und P lev own amt s1 s2 wu (cu_WL P s1 s2 own amt tip)) H := by rw [eH]; exact hP
  have hS : va_S A s.heap H locs := by rw [eH, eL]; exact va_S.rf
  have hn20 := h.n20
  refine lv_iload_n hx hb dX0_balance_0 rfl (lv_at hl 1 rfl) ?_
  refine cuI_if_lt (tgt := 9) hx hb dX0_balance_1 (by decide) (fun c1 => ?_) (fun c1 => ?_)
  · refine lv_lconst (v := lN 0) hx hb dX0_balance_9 (by decide) ?_
    refine lv_goto (tgt := 19) hx hb dX0_balance_10 (by decide) ?_
    exact W.lret (v := lN 0) hx hb hr (fun t_ ht_ hW => ⟨⟨lN 0, (), rfl, (by rw [cu_F_out h (by omega) tip]), by rw [ht_]; exact hP, va_K.moved hW.alike hK, hD⟩, hS.F ht_⟩) hS.2.2 dX0_balance_19
  · refine lv_iload_n hx hb dX0_balance_4 rfl (lv_at hl 1 rfl) ?_
    refine lv_iconst (v := nI 3) hx hb dX0_balance_5 (by decide) ?_
    refine cuI_icmp_le (tgt := 13) (i := (oo).toInt) (j := (3 : Int)) rfl (nI_toInt (by omega)) hx hb dX0_balance_6 (by decide) (fun c6 => ?_) (fun c6 => ?_)
    · obtain ⟨o, ho, rfl⟩ := cu_rng (n := 4) (x := oo) (by omega) (by omega)
      refine lv_aload_n hx hb dX0_balance_13 rfl (lv_at hl 0 rfl) ?_
      refine va_get (D := D) (ci := 0) (v := .ref (ad 7)) (C := RX0) (T := TX0) (N := 13) hx hb hts in_X0 hown hK hP 0 rfl rfl 9 (by decide) (hts _ q37) (fun _ h9 => h9) rfl dX0_balance_14 ?_
      refine lv_iload_n hx hb dX0_balance_17 rfl (lv_at hl 1 rfl) ?_
      refine cu_lald (v := lN (cu_sum (cu_F P s1 s2 own amt (nI o) tip) n)) hx hb hK hP 7 2 rfl rfl o (by omega) (Nat.le_of_ble_eq_true rfl) (cu_WL_sum h (by omega) tip ht) dX0_balance_18 ?_
      exact W.lret (v := lN (cu_sum (cu_F P s1 s2 own amt (nI o) tip) n)) hx hb hr (fun t_ ht_ hW => ⟨⟨lN (cu_sum (cu_F P s1 s2 own amt (nI o) tip) n), (), rfl, rfl, by rw [ht_]; exact hP, va_K.moved hW.alike hK, hD⟩, hS.F ht_⟩) hS.2.2 dX0_balance_19
    · refine lv_lconst (v := lN 0) hx hb dX0_balance_9 (by decide) ?_
      refine lv_goto (tgt := 19) hx hb dX0_balance_10 (by decide) ?_
      exact W.lret (v := lN 0) hx hb hr (fun t_ ht_ hW => ⟨⟨lN 0, (), rfl, (by rw [cu_F_out h (by omega) tip]), by rw [ht_]; exact hP, va_K.moved hW.alike hK, hD⟩, hS.F ht_⟩) hS.2.2 dX0_balance_19
set_option maxHeartbeats 4000000 in
set_option maxRecDepth 100000 in
theorem mX_coins (l : Launch) (D : va_G) (ad : Nat → Nat) (cB cI cL : ClassId) (sz : Nat) (n tip : Nat) (und : Int32) (P lev own amt : Nat → Nat) (s1 s2 wu : Nat → Int32) (h : cu_OK n P lev own amt s1 s2) (ht : tip < n) : Met l yX0_coins (ws_ yX0_coins cX0_coins 3 (some .int)) ({ frames := 1, cells := 0, slots := 0, locals := 21 }) (va_Pc [.ref (ad 0)] (cu_In D vwCl (XT cB cI cL) (XW ad cB cI cL n tip (cu_LG P s1 s2 tip) tip und P lev own amt s1 s2 wu (cu_WL P s1 s2 own amt tip)) sz)) (va_Qi (fun (r : Int32) (u : Unit) => r = nI (cu_cnt (fun c => cu_Lg P s1 s2 c tip) n)) (fun u => cu_Out D vwCl (XT cB cI cL) (va_A (XW ad cB cI cL n tip (cu_LG P s1 s2 tip) tip und P lev own amt s1 s2 wu (cu_WL P s1 s2 own amt tip)) sz) (XW ad cB cI cL n tip (cu_LG P s1 s2 tip) tip und P lev own amt s1 s2 wu (cu_WL P s1 s2 own amt tip))) (va_A (XW ad cB cI cL n tip (cu_LG P s1 s2 tip) tip und P lev own amt s1 s2 wu (cu_WL P s1 s2 own amt tip)) sz)) 0 0 (va_A (XW ad cB cI cL n tip (cu_LG P s1 s2 tip) tip und P lev own amt s1 s2 wu (cu_WL P s1 s2 own amt tip)) sz) := by
  refine Met.ofW (cc := cX0_coins) (maxL := 3) (ret := (some .int)) (by decide) rfl ?_
  intro p e s m args below meth c s₁ B hml hv
  obtain ⟨rfl, hsz, hP, hK, hD0⟩ := hv
  have hx := B.exec
  have hb := B.bytes
  have hr := B.returns
  have hts := atoms_spec (ws := ws_ yX0_coins cX0_coins 3 (some .int)) B.pre
  have hts : ∀ w ∈ lw_all, w.before _ s = true := fun w h => hts w (List.mem_cons_of_mem _ h)
  have hown : s.vm.findClass RX0 = some m.cls := findClass_of_methodNamed B.named
  have hlocks := B.notSynchronized
  subst hsz
  have hD := hD0.self (sz := s.heap.size)
  generalize hAe : va_A (XW ad cB cI cL n tip (cu_LG P s1 s2 tip) tip und P lev own amt s1 s2 wu (cu_WL P s1 s2 own amt tip)) s.heap.size = A at hD ⊢
  have hA : ∀ q : Nat, s.heap.size ≤ q → A q := fun q h => by rw [← hAe]; exact Or.inr h
  have hl := lv_entry ([.ref (ad 0)]) (n := 3) (Nat.le_of_ble_eq_true rfl)
  rw [lg_entry_eq]
  generalize (lg_sl ([.ref (ad 0)]) ++ List.replicate (3 - (lg_sl ([.ref (ad 0)])).length) Slot.unset).toArray = ls at hl ⊢
  have hl : lv_has ls 3 [(0, .ref (ad 0))] := hl
  refine cu_start (fun H locs eH eL => ?_)
  have hP : va_P D vwCl (XW ad cB cI cL n tip (cu_LG P s1 s2 tip) tip und P lev own amt s1 s2 wu (cu_WL P s1 s2 own amt tip)) H := by rw [eH]; exact hP
  have hS : va_S A s.heap H locs := by rw [eH, eL]; exact va_S.rf
  have hn20 := h.n20
  refine lv_iconst (v := nI 0) hx hb dX0_coins_0 (by decide) ?_
  refine lv_istore_n (lv' := [(1, .int (nI 0)), (0, .ref (ad 0))]) hx hb dX0_coins_1 rfl hl (by decide) rfl (fun ls hl => ?_)
  refine lv_iconst (v := nI 1) hx hb dX0_coins_2 (by decide) ?_
  refine lv_istore_n (lv' := [(2, .int (nI 1)), (1, .int (nI 0)), (0, .ref (ad 0))]) hx hb dX0_coins_3 rfl hl (by decide) rfl (fun ls hl => ?_)
  refine cu_loop (σ := Nat × Nat) (I := fun (x_ : Nat × Nat) H locs ls => match x_ with | (k, t) => va_P D vwCl (XW ad cB cI cL n tip (cu_LG P s1 s2 tip) tip und P lev own amt s1 s2 wu (cu_WL P s1 s2 own amt tip)) H ∧ va_D A (XW ad cB cI cL n tip (cu_LG P s1 s2 tip) tip und P lev own amt s1 s2 wu (cu_WL P s1 s2 own amt tip)) ∧ va_S A s.heap H locs ∧ lv_has ls 3 [(0, .ref (ad 0)), (1, .int (nI t)), (2, .int (nI k))] ∧ (0 < k) ∧ (k ≤ n) ∧ (t = cu_cnt (fun c => cu_Lg P s1 s2 c tip) k)) (μ := fun (x_ : Nat × Nat) => match x_ with | (k, t) => n - k) ?_ (1, 0) ⟨hP, hD, hS, lv_sub hl [2, 1, 0] rfl, by omega, h.1, by rw [cu_cnt, if_neg (by rw [cu_Lg_0]; decide), cu_cnt]⟩
  rintro ⟨k, t⟩ H locs ls ⟨hP, hD, hS, hl, ⟨hk0, hkn, ht9⟩⟩ ih
  refine lv_iload_n hx hb dX0_coins_4 rfl (lv_at hl 2 rfl) ?_
  refine lv_aload_n hx hb dX0_coins_5 rfl (lv_at hl 0 rfl) ?_
  refine va_get (D := D) (ci := 0) (v := .int (nI n)) (C := RX0) (T := TX0) (N := 13) hx hb hts in_X0 hown hK hP 0 rfl rfl 0 (by decide) (hts _ q28) (fun _ h9 => h9) rfl dX0_coins_6 ?_
  refine cu_icmp_ge (tgt := 29) (j := k) (k := n) (by omega) (by omega) hx hb dX0_coins_9 (by decide) (fun c9 => ?_) (fun c9 => ?_)
  · refine lv_iload_n hx hb dX0_coins_29 rfl (lv_at hl 1 rfl) ?_
    exact W.iret (v := nI t) hx hb hr (fun t_ ht_ hW => ⟨⟨nI t, (), rfl, by rw [ht9, show k = n from by omega], by rw [ht_]; exact hP, va_K.moved hW.alike hK, hD⟩, hS.F ht_⟩) hS.2.2 dX0_coins_30
  · refine lv_aload_n hx hb dX0_coins_12 rfl (lv_at hl 0 rfl) ?_
    refine lv_iload_n hx hb dX0_coins_13 rfl (lv_at hl 2 rfl) ?_
    refine cu_calli (As := [.int (nI k)]) (rest := []) (mX_isThere l D ad cB cI cL H.size n tip (cu_LG P s1 s2 tip) tip und P lev own amt s1 s2 wu (cu_WL P s1 s2 own amt tip) (nI k) hn20) ⟨hx, hb, hml, hown, hts⟩ (cwV 1 hts (lw_V q111 q113 qs8 q18 q114) rfl rfl rfl (by decide +kernel) ⟨Nat.le_of_ble_eq_true rfl, Nat.le_of_ble_eq_true rfl⟩) hK hP hD hS hA (ci := 0) rfl rfl ⟨Nat.le_of_ble_eq_true rfl, Nat.le_of_ble_eq_true rfl⟩ rfl hl.1 rfl (Nat.le_of_ble_eq_true rfl) dX0_coins_14 (fun r14 u14 H locs hw14 hP hD hS => ?_)
    obtain rfl : r14 = cu_bI (cu_Lg P s1 s2 k tip) := hw14.trans (congrArg cu_bI ((cu_th_bt h ht (nI k)).trans (cu_th_n hn20 (by omega) (by omega))))
    have hP : va_P D vwCl (XW ad cB cI cL n tip (cu_LG P s1 s2 tip) tip und P lev own amt s1 s2 wu (cu_WL P s1 s2 own amt tip)) H := hP
    have hD : va_D A (XW ad cB cI cL n tip (cu_LG P s1 s2 tip) tip und P lev own amt s1 s2 wu (cu_WL P s1 s2 own amt tip)) := hD
    refine cuB_if_eq (tgt := 23) hx hb dX0_coins_17 (by decide) (fun c17 => ?_) (fun c17 => ?_)
    · refine lv_iinc (v := nI (k + 1)) (lv' := [(2, .int (nI (k + 1))), (0, .ref (ad 0)), (1, .int (nI t))]) hx hb dX0_coins_23 hl (k := 2) rfl (cu_inc _) (by decide) rfl (fun ls hl => ?_)
      refine lv_goto (tgt := 4) hx hb dX0_coins_26 (by decide) ?_
      exact ih (k + 1, t) _ _ _ ⟨hP, hD, hS, lv_sub hl [1, 2, 0] rfl, by omega, by omega, by rw [cu_cnt, if_neg (by rw [c17]; decide), ht9]⟩ (show n - (k + 1) < n - k by omega)
    · refine lv_iinc (v := nI (t + 1)) (lv' := [(1, .int (nI (t + 1))), (0, .ref (ad 0)), (2, .int (nI k))]) hx hb dX0_coins_20 hl (k := 1) rfl (cu_inc _) (by decide) rfl (fun ls hl => ?_)
      refine lv_iinc (v := nI (k + 1)) (lv' := [(2, .int (nI (k + 1))), (1, .int (nI (t + 1))), (0, .ref (ad 0))]) hx hb dX0_coins_23 hl (k := 2) rfl (cu_inc _) (by decide) rfl (fun ls hl => ?_)
      refine lv_goto (tgt := 4) hx hb dX0_coins_26 (by decide) ?_
      exact ih (k + 1, t + 1) _ _ _ ⟨hP, hD, hS, lv_sub hl [2, 1, 0] rfl, by omega, by omega, by rw [cu_cnt, if_pos c17, ht9]⟩ (show n - (k + 1) < n - k by omega)
set_option maxHeartbeats 4000000 in
set_option maxRecDepth 100000 in
theorem mX_meeting (l : Launch) (D : va_G) (ad : Nat → Nat) (cB cI cL : ClassId) (sz : Nat) (n tip : Nat) (und : Int32) (P lev own amt : Nat → Nat) (s1 s2 wu : Nat → Int32) (x y : Int32) (h : cu_OK n P lev own amt s1 s2) (ht : tip < n) : Met l yX0_meeting (ws_ yX0_meeting cX0_meeting 3 (some .int)) ({ frames := 1, cells := 0, slots := 0, locals := 24 }) (va_Pc [.ref (ad 0), .int x, .int y] (cu_In D vwCl (XT cB cI cL) (XW ad cB cI cL n tip (cu_LG P s1 s2 tip) tip und P lev own amt s1 s2 wu (cu_WL P s1 s2 own amt tip)) sz)) (va_Qi (fun (r : Int32) (u : Unit) => r = cu_mee n P x y) (fun u => cu_Out D vwCl (XT cB cI cL) (va_A (XW ad cB cI cL n tip (cu_LG P s1 s2 tip) tip und P lev own amt s1 s2 wu (cu_WL P s1 s2 own amt tip)) sz) (XW ad cB cI cL n tip (cu_LG P s1 s2 tip) tip und P lev own amt s1 s2 wu (cu_WL P s1 s2 own amt tip))) (va_A (XW ad cB cI cL n tip (cu_LG P s1 s2 tip) tip und P lev own amt s1 s2 wu (cu_WL P s1 s2 own amt tip)) sz)) 0 0 (va_A (XW ad cB cI cL n tip (cu_LG P s1 s2 tip) tip und P lev own amt s1 s2 wu (cu_WL P s1 s2 own amt tip)) sz) := by
  refine Met.ofW (cc := cX0_meeting) (maxL := 3) (ret := (some .int)) (by decide) rfl ?_
  intro p e s m args below meth c s₁ B hml hv
  obtain ⟨rfl, hsz, hP, hK, hD0⟩ := hv
  have hx := B.exec
  have hb := B.bytes
  have hr := B.returns
  have hts := atoms_spec (ws := ws_ yX0_meeting cX0_meeting 3 (some .int)) B.pre
  have hts : ∀ w ∈ lw_all, w.before _ s = true := fun w h => hts w (List.mem_cons_of_mem _ h)
  have hown : s.vm.findClass RX0 = some m.cls := findClass_of_methodNamed B.named
  have hlocks := B.notSynchronized
  subst hsz
  have hD := hD0.self (sz := s.heap.size)
  generalize hAe : va_A (XW ad cB cI cL n tip (cu_LG P s1 s2 tip) tip und P lev own amt s1 s2 wu (cu_WL P s1 s2 own amt tip)) s.heap.size = A at hD ⊢
  have hA : ∀ q : Nat, s.heap.size ≤ q → A q := fun q h => by rw [← hAe]; exact Or.inr h
  have hl := lv_entry ([.ref (ad 0), .int x, .int y]) (n := 3) (Nat.le_of_ble_eq_true rfl)
  rw [lg_entry_eq]
  generalize (lg_sl ([.ref (ad 0), .int x, .int y]) ++ List.replicate (3 - (lg_sl ([.ref (ad 0), .int x, .int y])).length) Slot.unset).toArray = ls at hl ⊢
  have hl : lv_has ls 3 [(0, .ref (ad 0)), (1, .int x), (2, .int y)] := hl
  refine cu_start (fun H locs eH eL => ?_)
  have hP : va_P D vwCl (XW ad cB cI cL n tip (cu_LG P s1 s2 tip) tip und P lev own amt s1 s2 wu (cu_WL P s1 s2 own amt tip)) H := by rw [eH]; exact hP
  have hS : va_S A s.heap H locs := by rw [eH, eL]; exact va_S.rf
  have hn20 := h.n20
  refine lv_aload_n hx hb dX0_meeting_0 rfl (lv_at hl 0 rfl) ?_
  refine lv_iload_n hx hb dX0_meeting_1 rfl (lv_at hl 1 rfl) ?_
  refine cu_calli (As := [.int x]) (rest := []) (mX_isBlock l D ad cB cI cL H.size n tip (cu_LG P s1 s2 tip) tip und P lev own amt s1 s2 wu (cu_WL P s1 s2 own amt tip) x hn20) ⟨hx, hb, hml, hown, hts⟩ (cwV 1 hts (lw_V q75 q77 qs0 q18 q78) rfl rfl rfl (by decide +kernel) ⟨Nat.le_of_ble_eq_true rfl, Nat.le_of_ble_eq_true rfl⟩) hK hP hD hS hA (ci := 0) rfl rfl ⟨Nat.le_of_ble_eq_true rfl, Nat.le_of_ble_eq_true rfl⟩ rfl hl.1 rfl (Nat.le_of_ble_eq_true rfl) dX0_meeting_2 (fun r2 u2 H locs hw2 hP hD hS => ?_)
  obtain rfl : r2 = cu_bI (cu_in n x) := hw2
  have hP : va_P D vwCl (XW ad cB cI cL n tip (cu_LG P s1 s2 tip) tip und P lev own amt s1 s2 wu (cu_WL P s1 s2 own amt tip)) H := hP
  have hD : va_D A (XW ad cB cI cL n tip (cu_LG P s1 s2 tip) tip und P lev own amt s1 s2 wu (cu_WL P s1 s2 own amt tip)) := hD
  refine cuB_if_eq (tgt := 16) hx hb dX0_meeting_5 (by decide) (fun c5 => ?_) (fun c5 => ?_)
  · refine lv_iconst (v := (-1)) hx hb dX0_meeting_16 (by decide) ?_
    exact W.iret (v := (-1)) hx hb hr (fun t_ ht_ hW => ⟨⟨(-1), (), rfl, cu_mee_1 c5, by rw [ht_]; exact hP, va_K.moved hW.alike hK, hD⟩, hS.F ht_⟩) hS.2.2 dX0_meeting_17
  · refine lv_aload_n hx hb dX0_meeting_8 rfl (lv_at hl 0 rfl) ?_
    refine lv_iload_n hx hb dX0_meeting_9 rfl (lv_at hl 2 rfl) ?_
    refine cu_calli (As := [.int y]) (rest := []) (mX_isBlock l D ad cB cI cL H.size n tip (cu_LG P s1 s2 tip) tip und P lev own amt s1 s2 wu (cu_WL P s1 s2 own amt tip) y hn20) ⟨hx, hb, hml, hown, hts⟩ (cwV 1 hts (lw_V q75 q77 qs0 q18 q78) rfl rfl rfl (by decide +kernel) ⟨Nat.le_of_ble_eq_true rfl, Nat.le_of_ble_eq_true rfl⟩) hK hP hD hS hA (ci := 0) rfl rfl ⟨Nat.le_of_ble_eq_true rfl, Nat.le_of_ble_eq_true rfl⟩ rfl hl.1 rfl (Nat.le_of_ble_eq_true rfl) dX0_meeting_10 (fun r10 u10 H locs hw10 hP hD hS => ?_)
    obtain rfl : r10 = cu_bI (cu_in n y) := hw10
    have hP : va_P D vwCl (XW ad cB cI cL n tip (cu_LG P s1 s2 tip) tip und P lev own amt s1 s2 wu (cu_WL P s1 s2 own amt tip)) H := hP
    have hD : va_D A (XW ad cB cI cL n tip (cu_LG P s1 s2 tip) tip und P lev own amt s1 s2 wu (cu_WL P s1 s2 own amt tip)) := hD
    refine cuB_if_ne (tgt := 18) hx hb dX0_meeting_13 (by decide) (fun c13 => ?_) (fun c13 => ?_)
    · obtain ⟨k1, hk1, rfl⟩ := cu_in_of hn20 c5
      obtain ⟨k2, hk2, rfl⟩ := cu_in_of hn20 c13
      refine lv_aload_n hx hb dX0_meeting_18 rfl (lv_at hl 0 rfl) ?_
      refine lv_iload_n hx hb dX0_meeting_19 rfl (lv_at hl 1 rfl) ?_
      refine lv_iload_n hx hb dX0_meeting_20 rfl (lv_at hl 2 rfl) ?_
      refine cu_calli (As := [.int (nI k1), .int (nI k2)]) (rest := []) (mX_partingOf l D ad cB cI cL H.size n tip (cu_LG P s1 s2 tip) tip und P lev own amt s1 s2 wu (cu_WL P s1 s2 own amt tip) k1 k2 h hk1 hk2) ⟨hx, hb, hml, hown, hts⟩ (cwV 2 hts (lw_V q87 q89 qs3 q18 q90) rfl rfl rfl (by decide +kernel) ⟨Nat.le_of_ble_eq_true rfl, Nat.le_of_ble_eq_true rfl⟩) hK hP hD hS hA (ci := 0) rfl rfl ⟨Nat.le_of_ble_eq_true rfl, Nat.le_of_ble_eq_true rfl⟩ rfl hl.1 rfl (Nat.le_of_ble_eq_true rfl) dX0_meeting_21 (fun r21 u21 H locs hw21 hP hD hS => ?_)
      obtain rfl : r21 = nI (cu_mt P k1 k2 n) := hw21
      have hP : va_P D vwCl (XW ad cB cI cL n tip (cu_LG P s1 s2 tip) tip und P lev own amt s1 s2 wu (cu_WL P s1 s2 own amt tip)) H := hP
      have hD : va_D A (XW ad cB cI cL n tip (cu_LG P s1 s2 tip) tip und P lev own amt s1 s2 wu (cu_WL P s1 s2 own amt tip)) := hD
      exact W.iret (v := nI (cu_mt P k1 k2 n)) hx hb hr (fun t_ ht_ hW => ⟨⟨nI (cu_mt P k1 k2 n), (), rfl, cu_mee_n hn20 hk1 hk2, by rw [ht_]; exact hP, va_K.moved hW.alike hK, hD⟩, hS.F ht_⟩) hS.2.2 dX0_meeting_24
    · refine lv_iconst (v := (-1)) hx hb dX0_meeting_16 (by decide) ?_
      exact W.iret (v := (-1)) hx hb hr (fun t_ ht_ hW => ⟨⟨(-1), (), rfl, cu_mee_2 c13, by rw [ht_]; exact hP, va_K.moved hW.alike hK, hD⟩, hS.F ht_⟩) hS.2.2 dX0_meeting_17
set_option maxHeartbeats 4000000 in
set_option maxRecDepth 100000 in
theorem mX_largestOf (l : Launch) (D : va_G) (ad : Nat → Nat) (cB cI cL : ClassId) (sz : Nat) (n tip : Nat) (und : Int32) (P lev own amt : Nat → Nat) (s1 s2 wu : Nat → Int32) (o : Nat) (ub : Int32) (U : Nat → Bool) (h : cu_OK n P lev own amt s1 s2) (ht : tip < n) (ho : o < 4) (hU : ∀ c, c < n → bt ub c = U c) : Met l yX0_largestOf (ws_ yX0_largestOf cX0_largestOf 5 (some .int)) ({ frames := 1, cells := 0, slots := 0, locals := 21 }) (va_Pc [.ref (ad 0), .int (nI o), .int ub] (cu_In D vwCl (XT cB cI cL) (XW ad cB cI cL n tip (cu_LG P s1 s2 tip) tip und P lev own amt s1 s2 wu (cu_WL P s1 s2 own amt tip)) sz)) (va_Qi (fun (r : Int32) (u : Unit) => r = nI (cu_scan (cu_cn (cu_cand P s1 s2 own (nI o) tip) U) amt n)) (fun u => cu_Out D vwCl (XT cB cI cL) (va_A (XW ad cB cI cL n tip (cu_LG P s1 s2 tip) tip und P lev own amt s1 s2 wu (cu_WL P s1 s2 own amt tip)) sz) (XW ad cB cI cL n tip (cu_LG P s1 s2 tip) tip und P lev own amt s1 s2 wu (cu_WL P s1 s2 own amt tip))) (va_A (XW ad cB cI cL n tip (cu_LG P s1 s2 tip) tip und P lev own amt s1 s2 wu (cu_WL P s1 s2 own amt tip)) sz)) 0 0 (va_A (XW ad cB cI cL n tip (cu_LG P s1 s2 tip) tip und P lev own amt s1 s2 wu (cu_WL P s1 s2 own amt tip)) sz) := by
  refine Met.ofW (cc := cX0_largestOf) (maxL := 5) (ret := (some .int)) (by decide) rfl ?_
  intro p e s m args below meth c s₁ B hml hv
  obtain ⟨rfl, hsz, hP, hK, hD0⟩ := hv
  have hx := B.exec
  have hb := B.bytes
  have hr := B.returns
  have hts := atoms_spec (ws := ws_ yX0_largestOf cX0_largestOf 5 (some .int)) B.pre
  have hts : ∀ w ∈ lw_all, w.before _ s = true := fun w h => hts w (List.mem_cons_of_mem _ h)
  have hown : s.vm.findClass RX0 = some m.cls := findClass_of_methodNamed B.named
  have hlocks := B.notSynchronized
  subst hsz
  have hD := hD0.self (sz := s.heap.size)
  generalize hAe : va_A (XW ad cB cI cL n tip (cu_LG P s1 s2 tip) tip und P lev own amt s1 s2 wu (cu_WL P s1 s2 own amt tip)) s.heap.size = A at hD ⊢
  have hA : ∀ q : Nat, s.heap.size ≤ q → A q := fun q h => by rw [← hAe]; exact Or.inr h
  have hl := lv_entry ([.ref (ad 0), .int (nI o), .int ub]) (n := 5) (Nat.le_of_ble_eq_true rfl)
  rw [lg_entry_eq]
  generalize (lg_sl ([.ref (ad 0), .int (nI o), .int ub]) ++ List.replicate (5 - (lg_sl ([.ref (ad 0), .int (nI o), .int ub])).length) Slot.unset).toArray = ls at hl ⊢
  have hl : lv_has ls 5 [(0, .ref (ad 0)), (1, .int (nI o)), (2, .int ub)] := hl
  refine cu_start (fun H locs eH eL => ?_)
  have hP : va_P D vwCl (XW ad cB cI cL n tip (cu_LG P s1 s2 tip) tip und P lev own amt s1 s2 wu (cu_WL P s1 s2 own amt tip)) H := by rw [eH]; exact hP
  have hS : va_S A s.heap H locs := by rw [eH, eL]; exact va_S.rf
  have hn20 := h.n20
  refine lv_iconst (v := nI 0) hx hb dX0_largestOf_0 (by decide) ?_
  refine lv_istore_n (lv' := [(3, .int (nI 0)), (0, .ref (ad 0)), (1, .int (nI o)), (2, .int ub)]) hx hb dX0_largestOf_1 rfl hl (by decide) rfl (fun ls hl => ?_)
  refine lv_iconst (v := nI 1) hx hb dX0_largestOf_2 (by decide) ?_
  refine lv_istore (lv' := [(4, .int (nI 1)), (3, .int (nI 0)), (0, .ref (ad 0)), (1, .int (nI o)), (2, .int ub)]) hx hb dX0_largestOf_3 hl (by decide) rfl (fun ls hl => ?_)
  refine cu_loop (σ := Nat × Nat) (I := fun (x_ : Nat × Nat) H locs ls => match x_ with | (k, t) => va_P D vwCl (XW ad cB cI cL n tip (cu_LG P s1 s2 tip) tip und P lev own amt s1 s2 wu (cu_WL P s1 s2 own amt tip)) H ∧ va_D A (XW ad cB cI cL n tip (cu_LG P s1 s2 tip) tip und P lev own amt s1 s2 wu (cu_WL P s1 s2 own amt tip)) ∧ va_S A s.heap H locs ∧ lv_has ls 5 [(0, .ref (ad 0)), (1, .int (nI o)), (2, .int ub), (3, .int (nI t)), (4, .int (nI k))] ∧ (0 < k) ∧ (k ≤ n) ∧ (t < k) ∧ (t = cu_scan (cu_cn (cu_cand P s1 s2 own (nI o) tip) U) amt k)) (μ := fun (x_ : Nat × Nat) => match x_ with | (k, t) => n - k) ?_ (1, 0) ⟨hP, hD, hS, lv_sub hl [2, 3, 4, 1, 0] rfl, by omega, h.1, by omega, by rw [cu_scan, cu_cn_0 cu_cand_0]; simp [cu_scan]⟩
  rintro ⟨k, t⟩ H locs ls ⟨hP, hD, hS, hl, ⟨hk0, hkn, htk, hbe⟩⟩ ih
  refine lv_iload hx hb dX0_largestOf_5 (lv_at hl 4 rfl) ?_
  refine lv_aload_n hx hb dX0_largestOf_7 rfl (lv_at hl 0 rfl) ?_
  refine va_get (D := D) (ci := 0) (v := .int (nI n)) (C := RX0) (T := TX0) (N := 13) hx hb hts in_X0 hown hK hP 0 rfl rfl 0 (by decide) (hts _ q28) (fun _ h9 => h9) rfl dX0_largestOf_8 ?_
  refine cu_icmp_ge (tgt := 75) (j := k) (k := n) (by omega) (by omega) hx hb dX0_largestOf_11 (by decide) (fun c11 => ?_) (fun c11 => ?_)
  · refine lv_iload_n hx hb dX0_largestOf_75 rfl (lv_at hl 3 rfl) ?_
    exact W.iret (v := nI t) hx hb hr (fun t_ ht_ hW => ⟨⟨nI t, (), rfl, by rw [hbe, show k = n from by omega], by rw [ht_]; exact hP, va_K.moved hW.alike hK, hD⟩, hS.F ht_⟩) hS.2.2 dX0_largestOf_76
  · have hok := h.own_le hk0 (show k < n by omega)
    have hak := h.amt_lt (show k < n by omega)
    have hat := h.amt_lt (show t < n by omega)
    refine lv_aload_n hx hb dX0_largestOf_14 rfl (lv_at hl 0 rfl) ?_
    refine lv_iload hx hb dX0_largestOf_15 (lv_at hl 4 rfl) ?_
    refine cu_calli (As := [.int (nI k)]) (rest := []) (mX_isThere l D ad cB cI cL H.size n tip (cu_LG P s1 s2 tip) tip und P lev own amt s1 s2 wu (cu_WL P s1 s2 own amt tip) (nI k) hn20) ⟨hx, hb, hml, hown, hts⟩ (cwV 1 hts (lw_V q111 q113 qs8 q18 q114) rfl rfl rfl (by decide +kernel) ⟨Nat.le_of_ble_eq_true rfl, Nat.le_of_ble_eq_true rfl⟩) hK hP hD hS hA (ci := 0) rfl rfl ⟨Nat.le_of_ble_eq_true rfl, Nat.le_of_ble_eq_true rfl⟩ rfl hl.1 rfl (Nat.le_of_ble_eq_true rfl) dX0_largestOf_17 (fun r17 u17 H locs hw17 hP hD hS => ?_)
    obtain rfl : r17 = cu_bI (cu_Lg P s1 s2 k tip) := hw17.trans (congrArg cu_bI ((cu_th_bt h ht (nI k)).trans (cu_th_n hn20 (by omega) (by omega))))
    have hP : va_P D vwCl (XW ad cB cI cL n tip (cu_LG P s1 s2 tip) tip und P lev own amt s1 s2 wu (cu_WL P s1 s2 own amt tip)) H := hP
    have hD : va_D A (XW ad cB cI cL n tip (cu_LG P s1 s2 tip) tip und P lev own amt s1 s2 wu (cu_WL P s1 s2 own amt tip)) := hD
    refine cuB_if_eq (tgt := 69) hx hb dX0_largestOf_20 (by decide) (fun c20 => ?_) (fun c20 => ?_)
    · refine lv_iinc (v := nI (k + 1)) (lv' := [(4, .int (nI (k + 1))), (0, .ref (ad 0)), (1, .int (nI o)), (2, .int ub), (3, .int (nI t))]) hx hb dX0_largestOf_69 hl (k := 4) rfl (cu_inc _) (by decide) rfl (fun ls hl => ?_)
      refine lv_goto (tgt := 5) hx hb dX0_largestOf_72 (by decide) ?_
      exact ih (k + 1, t) _ _ _ ⟨hP, hD, hS, lv_sub hl [1, 2, 3, 4, 0] rfl, by omega, by omega, by omega, by rw [cu_scan, ← hbe, if_neg (fun z => absurd ((show cu_cn (cu_cand P s1 s2 own (nI o) tip) U k = false from by unfold cu_cn cu_cand; rw [c20]; simp).symm.trans z.1) (by decide))]⟩ (show n - (k + 1) < n - k by omega)
    · refine lv_aload_n hx hb dX0_largestOf_23 rfl (lv_at hl 0 rfl) ?_
      refine va_get (D := D) (ci := 0) (v := .ref (ad 3)) (C := RX0) (T := TX0) (N := 13) hx hb hts in_X0 hown hK hP 0 rfl rfl 3 (by decide) (hts _ q31) (fun _ h9 => h9) rfl dX0_largestOf_24 ?_
      refine lv_iload hx hb dX0_largestOf_27 (lv_at hl 4 rfl) ?_
      refine cu_bald (v := nI (own k)) hx hb hK hP 3 0 rfl rfl k (by omega) (Nat.le_of_ble_eq_true rfl) rfl dX0_largestOf_29 ?_
      refine lv_iload_n hx hb dX0_largestOf_30 rfl (lv_at hl 1 rfl) ?_
      refine cu_icmp_ne (tgt := 69) (j := own k) (k := o) (by omega) (by omega) hx hb dX0_largestOf_31 (by decide) (fun c31 => ?_) (fun c31 => ?_)
      · refine lv_iinc (v := nI (k + 1)) (lv' := [(4, .int (nI (k + 1))), (0, .ref (ad 0)), (1, .int (nI o)), (2, .int ub), (3, .int (nI t))]) hx hb dX0_largestOf_69 hl (k := 4) rfl (cu_inc _) (by decide) rfl (fun ls hl => ?_)
        refine lv_goto (tgt := 5) hx hb dX0_largestOf_72 (by decide) ?_
        exact ih (k + 1, t) _ _ _ ⟨hP, hD, hS, lv_sub hl [1, 2, 3, 4, 0] rfl, by omega, by omega, by omega, by rw [cu_scan, ← hbe, if_neg (fun z => absurd ((show cu_cn (cu_cand P s1 s2 own (nI o) tip) U k = false from by unfold cu_cn cu_cand; rw [decide_eq_false (fun z => c31 ((nI_eq (by omega) (by omega)).mp z))]; simp).symm.trans z.1) (by decide))]⟩ (show n - (k + 1) < n - k by omega)
      · refine lv_iload_n hx hb dX0_largestOf_34 rfl (lv_at hl 2 rfl) ?_
        refine lv_iload hx hb dX0_largestOf_35 (lv_at hl 4 rfl) ?_
        refine lv_ishr hx hb dX0_largestOf_37 ?_
        refine lv_iconst (v := nI 1) hx hb dX0_largestOf_38 (by decide) ?_
        refine lv_iand hx hb dX0_largestOf_39 ?_
        refine lv_if_eq (tgt := 46) hx hb dX0_largestOf_40 (by decide) (fun c40 => ?_) (fun c40 => ?_)
        · refine lv_iload_n hx hb dX0_largestOf_46 rfl (lv_at hl 3 rfl) ?_
          refine cu_if_eq (tgt := 66) (j := t) (by omega) hx hb dX0_largestOf_47 (by decide) (fun c47 => ?_) (fun c47 => ?_)
          · refine lv_iload hx hb dX0_largestOf_66 (lv_at hl 4 rfl) ?_
            refine lv_istore_n (lv' := [(3, .int (nI k)), (0, .ref (ad 0)), (1, .int (nI o)), (2, .int ub), (4, .int (nI k))]) hx hb dX0_largestOf_68 rfl hl (by decide) rfl (fun ls hl => ?_)
            refine lv_iinc (v := nI (k + 1)) (lv' := [(4, .int (nI (k + 1))), (3, .int (nI k)), (0, .ref (ad 0)), (1, .int (nI o)), (2, .int ub)]) hx hb dX0_largestOf_69 hl (k := 4) rfl (cu_inc _) (by decide) rfl (fun ls hl => ?_)
            refine lv_goto (tgt := 5) hx hb dX0_largestOf_72 (by decide) ?_
            exact ih (k + 1, k) _ _ _ ⟨hP, hD, hS, lv_sub hl [2, 3, 4, 1, 0] rfl, by omega, by omega, by omega, by rw [cu_scan, ← hbe, if_pos ⟨(by unfold cu_cn cu_cand; rw [c20, decide_eq_true (by rw [c31]), ← hU k (by omega), (cu_test ub (by omega)).mp c40]; rfl), Or.inl c47⟩]⟩ (show n - (k + 1) < n - k by omega)
          · refine lv_aload_n hx hb dX0_largestOf_50 rfl (lv_at hl 0 rfl) ?_
            refine va_get (D := D) (ci := 0) (v := .ref (ad 4)) (C := RX0) (T := TX0) (N := 13) hx hb hts in_X0 hown hK hP 0 rfl rfl 4 (by decide) (hts _ q32) (fun _ h9 => h9) rfl dX0_largestOf_51 ?_
            refine lv_iload hx hb dX0_largestOf_54 (lv_at hl 4 rfl) ?_
            refine cu_iald (v := nI (amt k)) hx hb hK hP 4 1 rfl rfl k (by omega) (Nat.le_of_ble_eq_true rfl) rfl dX0_largestOf_56 ?_
            refine lv_aload_n hx hb dX0_largestOf_57 rfl (lv_at hl 0 rfl) ?_
            refine va_get (D := D) (ci := 0) (v := .ref (ad 4)) (C := RX0) (T := TX0) (N := 13) hx hb hts in_X0 hown hK hP 0 rfl rfl 4 (by decide) (hts _ q32) (fun _ h9 => h9) rfl dX0_largestOf_58 ?_
            refine lv_iload_n hx hb dX0_largestOf_61 rfl (lv_at hl 3 rfl) ?_
            refine cu_iald (v := nI (amt t)) hx hb hK hP 4 1 rfl rfl t (by omega) (Nat.le_of_ble_eq_true rfl) rfl dX0_largestOf_62 ?_
            refine cu_icmp_le (tgt := 69) (j := amt k) (k := amt t) (by omega) (by omega) hx hb dX0_largestOf_63 (by decide) (fun c63 => ?_) (fun c63 => ?_)
            · refine lv_iinc (v := nI (k + 1)) (lv' := [(4, .int (nI (k + 1))), (0, .ref (ad 0)), (1, .int (nI o)), (2, .int ub), (3, .int (nI t))]) hx hb dX0_largestOf_69 hl (k := 4) rfl (cu_inc _) (by decide) rfl (fun ls hl => ?_)
              refine lv_goto (tgt := 5) hx hb dX0_largestOf_72 (by decide) ?_
              exact ih (k + 1, t) _ _ _ ⟨hP, hD, hS, lv_sub hl [1, 2, 3, 4, 0] rfl, by omega, by omega, by omega, by rw [cu_scan, ← hbe, if_neg (by omega)]⟩ (show n - (k + 1) < n - k by omega)
            · refine lv_iload hx hb dX0_largestOf_66 (lv_at hl 4 rfl) ?_
              refine lv_istore_n (lv' := [(3, .int (nI k)), (0, .ref (ad 0)), (1, .int (nI o)), (2, .int ub), (4, .int (nI k))]) hx hb dX0_largestOf_68 rfl hl (by decide) rfl (fun ls hl => ?_)
              refine lv_iinc (v := nI (k + 1)) (lv' := [(4, .int (nI (k + 1))), (3, .int (nI k)), (0, .ref (ad 0)), (1, .int (nI o)), (2, .int ub)]) hx hb dX0_largestOf_69 hl (k := 4) rfl (cu_inc _) (by decide) rfl (fun ls hl => ?_)
              refine lv_goto (tgt := 5) hx hb dX0_largestOf_72 (by decide) ?_
              exact ih (k + 1, k) _ _ _ ⟨hP, hD, hS, lv_sub hl [2, 3, 4, 1, 0] rfl, by omega, by omega, by omega, by rw [cu_scan, ← hbe, if_pos ⟨(by unfold cu_cn cu_cand; rw [c20, decide_eq_true (by rw [c31]), ← hU k (by omega), (cu_test ub (by omega)).mp c40]; rfl), Or.inr (by omega)⟩]⟩ (show n - (k + 1) < n - k by omega)
        · refine lv_goto (tgt := 69) hx hb dX0_largestOf_43 (by decide) ?_
          refine lv_iinc (v := nI (k + 1)) (lv' := [(4, .int (nI (k + 1))), (0, .ref (ad 0)), (1, .int (nI o)), (2, .int ub), (3, .int (nI t))]) hx hb dX0_largestOf_69 hl (k := 4) rfl (cu_inc _) (by decide) rfl (fun ls hl => ?_)
          refine lv_goto (tgt := 5) hx hb dX0_largestOf_72 (by decide) ?_
          exact ih (k + 1, t) _ _ _ ⟨hP, hD, hS, lv_sub hl [1, 2, 3, 4, 0] rfl, by omega, by omega, by omega, by rw [cu_scan, ← hbe, if_neg (fun z => absurd ((show cu_cn (cu_cand P s1 s2 own (nI o) tip) U k = false from by unfold cu_cn; rw [← hU k (by omega), cu_testt ub (by omega) c40]; simp).symm.trans z.1) (by decide))]⟩ (show n - (k + 1) < n - k by omega)
set_option maxHeartbeats 4000000 in
set_option maxRecDepth 100000 in
theorem mX_fewestFor (l : Launch) (D : va_G) (ad : Nat → Nat) (cB cI cL : ClassId) (sz : Nat) (n tip : Nat) (und : Int32) (P lev own amt : Nat → Nat) (s1 s2 wu : Nat → Int32) (oo aa : Int32) (h : cu_OK n P lev own amt s1 s2) (ht : tip < n) : Met l yX0_fewestFor (ws_ yX0_fewestFor cX0_fewestFor 8 (some .int)) ({ frames := 2, cells := 0, slots := 0, locals := 45 }) (va_Pc [.ref (ad 0), .int oo, .int aa] (cu_In D vwCl (XT cB cI cL) (XW ad cB cI cL n tip (cu_LG P s1 s2 tip) tip und P lev own amt s1 s2 wu (cu_WL P s1 s2 own amt tip)) sz)) (va_Qi (fun (r : Int32) (u : Unit) => r = cu_few (n, tip, und, P, lev, own, amt, s1, s2) oo aa) (fun u => cu_Out D vwCl (XT cB cI cL) (va_A (XW ad cB cI cL n tip (cu_LG P s1 s2 tip) tip und P lev own amt s1 s2 wu (cu_WL P s1 s2 own amt tip)) sz) (XW ad cB cI cL n tip (cu_LG P s1 s2 tip) tip und P lev own amt s1 s2 wu (cu_WL P s1 s2 own amt tip))) (va_A (XW ad cB cI cL n tip (cu_LG P s1 s2 tip) tip und P lev own amt s1 s2 wu (cu_WL P s1 s2 own amt tip)) sz)) 0 0 (va_A (XW ad cB cI cL n tip (cu_LG P s1 s2 tip) tip und P lev own amt s1 s2 wu (cu_WL P s1 s2 own amt tip)) sz) := by
  refine Met.ofW (cc := cX0_fewestFor) (maxL := 8) (ret := (some .int)) (by decide) rfl ?_
  intro p e s m args below meth c s₁ B hml hv
  obtain ⟨rfl, hsz, hP, hK, hD0⟩ := hv
  have hx := B.exec
  have hb := B.bytes
  have hr := B.returns
  have hts := atoms_spec (ws := ws_ yX0_fewestFor cX0_fewestFor 8 (some .int)) B.pre
  have hts : ∀ w ∈ lw_all, w.before _ s = true := fun w h => hts w (List.mem_cons_of_mem _ h)
  have hown : s.vm.findClass RX0 = some m.cls := findClass_of_methodNamed B.named
  have hlocks := B.notSynchronized
  subst hsz
  have hD := hD0.self (sz := s.heap.size)
  generalize hAe : va_A (XW ad cB cI cL n tip (cu_LG P s1 s2 tip) tip und P lev own amt s1 s2 wu (cu_WL P s1 s2 own amt tip)) s.heap.size = A at hD ⊢
  have hA : ∀ q : Nat, s.heap.size ≤ q → A q := fun q h => by rw [← hAe]; exact Or.inr h
  have hl := lv_entry ([.ref (ad 0), .int oo, .int aa]) (n := 8) (Nat.le_of_ble_eq_true rfl)
  rw [lg_entry_eq]
  generalize (lg_sl ([.ref (ad 0), .int oo, .int aa]) ++ List.replicate (8 - (lg_sl ([.ref (ad 0), .int oo, .int aa])).length) Slot.unset).toArray = ls at hl ⊢
  have hl : lv_has ls 8 [(0, .ref (ad 0)), (1, .int oo), (2, .int aa)] := hl
  refine cu_start (fun H locs eH eL => ?_)
  have hP : va_P D vwCl (XW ad cB cI cL n tip (cu_LG P s1 s2 tip) tip und P lev own amt s1 s2 wu (cu_WL P s1 s2 own amt tip)) H := by rw [eH]; exact hP
  have hS : va_S A s.heap H locs := by rw [eH, eL]; exact va_S.rf
  have hn20 := h.n20
  refine lv_iload_n hx hb dX0_fewestFor_0 rfl (lv_at hl 1 rfl) ?_
  refine cuI_if_lt (tgt := 9) hx hb dX0_fewestFor_1 (by decide) (fun c1 => ?_) (fun c1 => ?_)
  · refine lv_iconst (v := (-1)) hx hb dX0_fewestFor_9 (by decide) ?_
    exact W.iret (v := (-1)) hx hb hr (fun t_ ht_ hW => ⟨⟨(-1), (), rfl, (if_neg (by omega)).symm, by rw [ht_]; exact hP, va_K.moved hW.alike hK, hD⟩, hS.F ht_⟩) hS.2.2 dX0_fewestFor_10
  · refine lv_iload_n hx hb dX0_fewestFor_4 rfl (lv_at hl 1 rfl) ?_
    refine lv_iconst (v := nI 3) hx hb dX0_fewestFor_5 (by decide) ?_
    refine cuI_icmp_le (tgt := 11) (i := (oo).toInt) (j := (3 : Int)) rfl (nI_toInt (by omega)) hx hb dX0_fewestFor_6 (by decide) (fun c6 => ?_) (fun c6 => ?_)
    · obtain ⟨o, ho, rfl⟩ := cu_rng (n := 4) (x := oo) (by omega) (by omega)
      have eo : (nI o).toInt = (o : Int) := nI_toInt (by omega)
      have hfew : cu_few (n, tip, und, P, lev, own, amt, s1, s2) (nI o) aa = cu_gr (cu_cand P s1 s2 own (nI o) tip) amt n aa.toInt 20 (fun _ => false) 0 0 := if_pos (by omega)
      have hsm := cu_F_small h (nI o) tip
      refine lv_iload_n hx hb dX0_fewestFor_11 rfl (lv_at hl 2 rfl) ?_
      refine lv_i2l (v := (aa).toInt64) hx hb dX0_fewestFor_12 rfl ?_
      refine lv_aload_n hx hb dX0_fewestFor_13 rfl (lv_at hl 0 rfl) ?_
      refine va_get (D := D) (ci := 0) (v := .ref (ad 7)) (C := RX0) (T := TX0) (N := 13) hx hb hts in_X0 hown hK hP 0 rfl rfl 9 (by decide) (hts _ q37) (fun _ h9 => h9) rfl dX0_fewestFor_14 ?_
      refine lv_iload_n hx hb dX0_fewestFor_17 rfl (lv_at hl 1 rfl) ?_
      refine cu_lald (v := lN (cu_sum (cu_F P s1 s2 own amt (nI o) tip) n)) hx hb hK hP 7 2 rfl rfl o (by omega) (Nat.le_of_ble_eq_true rfl) (cu_WL_sum h (by omega) tip ht) dX0_fewestFor_18 ?_
      refine W.lcmp hx hb dX0_fewestFor_19 ?_
      refine lv_if_le (tgt := 26) hx hb dX0_fewestFor_20 (by decide) (fun c20 => ?_) (fun c20 => ?_)
      · have c20 := (lg_cmp_le _ _).mp c20
        have c20 := (cu_lle aa (k := cu_sum (cu_F P s1 s2 own amt (nI o) tip) n) (by omega)).mp c20
        refine lv_lconst (v := lN 0) hx hb dX0_fewestFor_26 (by decide) ?_
        refine lv_lstore_n (lv' := [(3, .long (lN 0)), (0, .ref (ad 0)), (1, .int (nI o)), (2, .int aa)]) hx hb dX0_fewestFor_27 rfl hl (by decide) rfl (fun ls hl => ?_)
        refine lv_iconst (v := nI 0) hx hb dX0_fewestFor_28 (by decide) ?_
        refine lv_istore (lv' := [(5, .int (nI 0)), (3, .long (lN 0)), (0, .ref (ad 0)), (1, .int (nI o)), (2, .int aa)]) hx hb dX0_fewestFor_29 hl (by decide) rfl (fun ls hl => ?_)
        refine lv_iconst (v := nI 0) hx hb dX0_fewestFor_31 (by decide) ?_
        refine lv_istore (lv' := [(6, .int (nI 0)), (5, .int (nI 0)), (3, .long (lN 0)), (0, .ref (ad 0)), (1, .int (nI o)), (2, .int aa)]) hx hb dX0_fewestFor_32 hl (by decide) rfl (fun ls hl => ?_)
        refine cu_loop (σ := Nat × Nat × Nat × (Nat → Bool) × Int32) (I := fun (x_ : Nat × Nat × Nat × (Nat → Bool) × Int32) H locs ls => match x_ with | (f, s0, t, U, ub) => va_P D vwCl (XW ad cB cI cL n tip (cu_LG P s1 s2 tip) tip und P lev own amt s1 s2 wu (cu_WL P s1 s2 own amt tip)) H ∧ va_D A (XW ad cB cI cL n tip (cu_LG P s1 s2 tip) tip und P lev own amt s1 s2 wu (cu_WL P s1 s2 own amt tip)) ∧ va_S A s.heap H locs ∧ lv_has ls 8 [(0, .ref (ad 0)), (1, .int (nI o)), (2, .int aa), (3, .long (lN s0)), (5, .int (nI t)), (6, .int ub)] ∧ (∀ c, c < n → bt ub c = U c) ∧ (s0 + cu_rs (cu_cand P s1 s2 own (nI o) tip) amt n U = cu_sum (cu_F P s1 s2 own amt (nI o) tip) n) ∧ (cu_rs (cu_cand P s1 s2 own (nI o) tip) (fun _ => 1) n U < f) ∧ (cu_gr (cu_cand P s1 s2 own (nI o) tip) amt n aa.toInt f U s0 t = cu_gr (cu_cand P s1 s2 own (nI o) tip) amt n aa.toInt 20 (fun _ => false) 0 0)) (μ := fun (x_ : Nat × Nat × Nat × (Nat → Bool) × Int32) => match x_ with | (f, s0, t, U, ub) => f) ?_ (20, 0, 0, (fun _ => false), nI 0) ⟨hP, hD, hS, lv_sub hl [3, 4, 5, 2, 1, 0] rfl, fun c _ => b_0 c, (by rw [cu_rs_all]; omega), (by have := cu_rs_lt (cand := cu_cand P s1 s2 own (nI o) tip) (U := fun _ => false) cu_cand_0 (n := n) (by omega); omega), rfl⟩
        rintro ⟨f, s0, t, U, ub⟩ H locs ls ⟨hP, hD, hS, hl, ⟨hU, hrs, hfu, hgr⟩⟩ ih
        rcases f with _ | f
        · exact absurd hfu (Nat.not_lt_zero _)
        · refine lv_lload_n hx hb dX0_fewestFor_34 rfl (lv_at hl 3 rfl) ?_
          refine lv_iload_n hx hb dX0_fewestFor_35 rfl (lv_at hl 2 rfl) ?_
          refine lv_i2l (v := (aa).toInt64) hx hb dX0_fewestFor_36 rfl ?_
          refine W.lcmp hx hb dX0_fewestFor_37 ?_
          refine lv_if_ge (tgt := 76) hx hb dX0_fewestFor_38 (by decide) (fun c38 => ?_) (fun c38 => ?_)
          · have c38 := (lg_cmp_ge _ _).mp c38
            have c38 := (cu_lle aa (k := s0) (by omega)).mp c38
            refine lv_iload hx hb dX0_fewestFor_76 (lv_at hl 4 rfl) ?_
            exact W.iret (v := nI t) hx hb hr (fun t_ ht_ hW => ⟨⟨nI t, (), rfl, (by show nI t = cu_few (n, tip, und, P, lev, own, amt, s1, s2) (nI o) aa; rw [hfew, ← hgr, cu_gr_done c38]), by rw [ht_]; exact hP, va_K.moved hW.alike hK, hD⟩, hS.F ht_⟩) hS.2.2 dX0_fewestFor_78
          · have c38 := fun z => c38 ((lg_cmp_ge _ _).mpr z)
            have hns : ¬ aa.toInt ≤ (s0 : Int) := fun z => c38 ((cu_lle aa (k := s0) (by omega)).mpr z)
            have hb0 := cu_gr_some (amt := amt) (n := n) (cand := cu_cand P s1 s2 own (nI o) tip) cu_cand_0 (U := U) hns (by omega)
            obtain ⟨hb1, hbn⟩ := (cu_scan_ok (amt := amt) (cu_cn_0 (cand := cu_cand P s1 s2 own (nI o) tip) (U := U) cu_cand_0) n).1 hb0
            have hr1 := cu_rs_step (w := amt) hbn hb1
            have hr2 := cu_rs_step (w := fun _ => 1) hbn hb1
            have hab := h.amt_lt hbn
            have hU1 : ∀ c, c < n → bt (cu_gv ub (nI (cu_scan (cu_cn (cu_cand P s1 s2 own (nI o) tip) U) amt n))) c = cu_U1 U (cu_scan (cu_cn (cu_cand P s1 s2 own (nI o) tip) U) amt n) c := by
              intro c hc
              rw [cu_bgv ub (by omega) (by omega), hU c hc]
              rfl
            refine lv_aload_n hx hb dX0_fewestFor_41 rfl (lv_at hl 0 rfl) ?_
            refine lv_iload_n hx hb dX0_fewestFor_42 rfl (lv_at hl 1 rfl) ?_
            refine lv_iload hx hb dX0_fewestFor_43 (lv_at hl 5 rfl) ?_
            refine cu_calli (As := [.int (nI o), .int ub]) (rest := []) (mX_largestOf l D ad cB cI cL H.size n tip und P lev own amt s1 s2 wu o ub U h ht ho hU) ⟨hx, hb, hml, hown, hts⟩ (cwV 2 hts (lw_V q155 q157 qs9 q18 q158) rfl rfl rfl (by decide +kernel) ⟨Nat.le_of_ble_eq_true rfl, Nat.le_of_ble_eq_true rfl⟩) hK hP hD hS hA (ci := 0) rfl rfl ⟨Nat.le_of_ble_eq_true rfl, Nat.le_of_ble_eq_true rfl⟩ rfl hl.1 rfl (Nat.le_of_ble_eq_true rfl) dX0_fewestFor_45 (fun r45 u45 H locs hw45 hP hD hS => ?_)
            obtain rfl : r45 = nI (cu_scan (cu_cn (cu_cand P s1 s2 own (nI o) tip) U) amt n) := hw45
            have hP : va_P D vwCl (XW ad cB cI cL n tip (cu_LG P s1 s2 tip) tip und P lev own amt s1 s2 wu (cu_WL P s1 s2 own amt tip)) H := hP
            have hD : va_D A (XW ad cB cI cL n tip (cu_LG P s1 s2 tip) tip und P lev own amt s1 s2 wu (cu_WL P s1 s2 own amt tip)) := hD
            refine lv_istore (lv' := [(7, .int (nI (cu_scan (cu_cn (cu_cand P s1 s2 own (nI o) tip) U) amt n))), (0, .ref (ad 0)), (1, .int (nI o)), (2, .int aa), (3, .long (lN s0)), (5, .int (nI t)), (6, .int ub)]) hx hb dX0_fewestFor_48 hl (by decide) rfl (fun ls hl => ?_)
            refine lv_iload hx hb dX0_fewestFor_50 (lv_at hl 6 rfl) ?_
            refine lv_iconst (v := nI 1) hx hb dX0_fewestFor_52 (by decide) ?_
            refine lv_iload hx hb dX0_fewestFor_53 (lv_at hl 0 rfl) ?_
            refine lv_ishl hx hb dX0_fewestFor_55 ?_
            refine lv_ior hx hb dX0_fewestFor_56 ?_
            refine cu_top (y := cu_gv ub (nI (cu_scan (cu_cn (cu_cand P s1 s2 own (nI o) tip) U) amt n))) rfl ?_
            refine lv_istore (lv' := [(6, .int (cu_gv ub (nI (cu_scan (cu_cn (cu_cand P s1 s2 own (nI o) tip) U) amt n)))), (7, .int (nI (cu_scan (cu_cn (cu_cand P s1 s2 own (nI o) tip) U) amt n))), (0, .ref (ad 0)), (1, .int (nI o)), (2, .int aa), (3, .long (lN s0)), (5, .int (nI t))]) hx hb dX0_fewestFor_57 hl (by decide) rfl (fun ls hl => ?_)
            refine lv_lload_n hx hb dX0_fewestFor_59 rfl (lv_at hl 5 rfl) ?_
            refine lv_aload_n hx hb dX0_fewestFor_60 rfl (lv_at hl 2 rfl) ?_
            refine va_get (D := D) (ci := 0) (v := .ref (ad 4)) (C := RX0) (T := TX0) (N := 13) hx hb hts in_X0 hown hK hP 0 rfl rfl 4 (by decide) (hts _ q32) (fun _ h9 => h9) rfl dX0_fewestFor_61 ?_
            refine lv_iload hx hb dX0_fewestFor_64 (lv_at hl 1 rfl) ?_
            refine cu_iald (v := nI (amt (cu_scan (cu_cn (cu_cand P s1 s2 own (nI o) tip) U) amt n))) hx hb hK hP 4 1 rfl rfl (cu_scan (cu_cn (cu_cand P s1 s2 own (nI o) tip) U) amt n) (by omega) (Nat.le_of_ble_eq_true rfl) rfl dX0_fewestFor_66 ?_
            refine lv_i2l (v := (nI (amt (cu_scan (cu_cn (cu_cand P s1 s2 own (nI o) tip) U) amt n))).toInt64) hx hb dX0_fewestFor_67 rfl ?_
            refine lv_ladd hx hb dX0_fewestFor_68 ?_
            refine cu_topl (y := lN (s0 + amt (cu_scan (cu_cn (cu_cand P s1 s2 own (nI o) tip) U) amt n))) (by rw [nI_l (by omega), lN_add]) ?_
            refine lv_lstore_n (lv' := [(3, .long (lN (s0 + amt (cu_scan (cu_cn (cu_cand P s1 s2 own (nI o) tip) U) amt n)))), (6, .int (cu_gv ub (nI (cu_scan (cu_cn (cu_cand P s1 s2 own (nI o) tip) U) amt n)))), (7, .int (nI (cu_scan (cu_cn (cu_cand P s1 s2 own (nI o) tip) U) amt n))), (0, .ref (ad 0)), (1, .int (nI o)), (2, .int aa), (5, .int (nI t))]) hx hb dX0_fewestFor_69 rfl hl (by decide) rfl (fun ls hl => ?_)
            refine lv_iinc (v := nI (t + 1)) (lv' := [(5, .int (nI (t + 1))), (3, .long (lN (s0 + amt (cu_scan (cu_cn (cu_cand P s1 s2 own (nI o) tip) U) amt n)))), (6, .int (cu_gv ub (nI (cu_scan (cu_cn (cu_cand P s1 s2 own (nI o) tip) U) amt n)))), (7, .int (nI (cu_scan (cu_cn (cu_cand P s1 s2 own (nI o) tip) U) amt n))), (0, .ref (ad 0)), (1, .int (nI o)), (2, .int aa)]) hx hb dX0_fewestFor_70 hl (k := 6) rfl (cu_inc _) (by decide) rfl (fun ls hl => ?_)
            refine lv_goto (tgt := 34) hx hb dX0_fewestFor_73 (by decide) ?_
            exact ih (f, s0 + amt (cu_scan (cu_cn (cu_cand P s1 s2 own (nI o) tip) U) amt n), t + 1, cu_U1 U (cu_scan (cu_cn (cu_cand P s1 s2 own (nI o) tip) U) amt n), cu_gv ub (nI (cu_scan (cu_cn (cu_cand P s1 s2 own (nI o) tip) U) amt n))) _ _ _ ⟨hP, hD, hS, lv_sub hl [4, 5, 6, 1, 0, 2] rfl, hU1, by omega, by omega, by rw [← hgr, cu_gr_step hns rfl hb0]⟩ (show f < f + 1 by omega)
      · have c20 := fun z => c20 ((lg_cmp_le _ _).mpr z)
        have c20 : ¬ aa.toInt ≤ ((cu_sum (cu_F P s1 s2 own amt (nI o) tip) n : Nat) : Int) := fun z => c20 ((cu_lle aa (k := cu_sum (cu_F P s1 s2 own amt (nI o) tip) n) (by omega)).mpr z)
        refine lv_bipush (v := (-4)) hx hb dX0_fewestFor_23 (by decide) ?_
        exact W.iret (v := (-4)) hx hb hr (fun t_ ht_ hW => ⟨⟨(-4), (), rfl, (hfew.trans (cu_gr_no cu_cand_0 20 (fun _ => false) 0 0 (by rw [cu_rs_all]; omega))).symm, by rw [ht_]; exact hP, va_K.moved hW.alike hK, hD⟩, hS.F ht_⟩) hS.2.2 dX0_fewestFor_25
    · refine lv_iconst (v := (-1)) hx hb dX0_fewestFor_9 (by decide) ?_
      exact W.iret (v := (-1)) hx hb hr (fun t_ ht_ hW => ⟨⟨(-1), (), rfl, (if_neg (by omega)).symm, by rw [ht_]; exact hP, va_K.moved hW.alike hK, hD⟩, hS.F ht_⟩) hS.2.2 dX0_fewestFor_10
set_option maxHeartbeats 4000000 in
set_option maxRecDepth 100000 in
theorem mX_forget (l : Launch) (D : va_G) (ad : Nat → Nat) (cB cI cL : ClassId) (sz : Nat) (n tip : Nat) (und : Int32) (P lev own amt : Nat → Nat) (s1 s2 wu : Nat → Int32) (x : Int32) (h : cu_OK n P lev own amt s1 s2) (ht : tip < n) : Met l yX0_forget (ws_ yX0_forget cX0_forget 2 (some .int)) ({ frames := 0, cells := 0, slots := 0, locals := 0 }) (va_Pc [.ref (ad 0), .int x] (cu_In D vwCl (XT cB cI cL) (XW ad cB cI cL n tip (cu_LG P s1 s2 tip) tip und P lev own amt s1 s2 wu (cu_WL P s1 s2 own amt tip)) sz)) (va_Qi (fun (r : Int32) (u : Nat → Int32) => r = (cu_forget (n, tip, und, P, lev, own, amt, s1, s2) x).1) (fun u => cu_Out D vwCl (XT cB cI cL) (va_A (XW ad cB cI cL n tip (cu_LG P s1 s2 tip) tip und P lev own amt s1 s2 wu (cu_WL P s1 s2 own amt tip)) sz) (XS ad cB cI cL (cu_forget (n, tip, und, P, lev, own, amt, s1, s2) x).2 u)) (va_A (XW ad cB cI cL n tip (cu_LG P s1 s2 tip) tip und P lev own amt s1 s2 wu (cu_WL P s1 s2 own amt tip)) sz)) 0 0 (va_A (XW ad cB cI cL n tip (cu_LG P s1 s2 tip) tip und P lev own amt s1 s2 wu (cu_WL P s1 s2 own amt tip)) sz) := by
  refine Met.ofW (cc := cX0_forget) (maxL := 2) (ret := (some .int)) (by decide) rfl ?_
  intro p e s m args below meth c s₁ B hml hv
  obtain ⟨rfl, hsz, hP, hK, hD0⟩ := hv
  have hx := B.exec
  have hb := B.bytes
  have hr := B.returns
  have hts := atoms_spec (ws := ws_ yX0_forget cX0_forget 2 (some .int)) B.pre
  have hts : ∀ w ∈ lw_all, w.before _ s = true := fun w h => hts w (List.mem_cons_of_mem _ h)
  have hown : s.vm.findClass RX0 = some m.cls := findClass_of_methodNamed B.named
  have hlocks := B.notSynchronized
  subst hsz
  have hD := hD0.self (sz := s.heap.size)
  generalize hAe : va_A (XW ad cB cI cL n tip (cu_LG P s1 s2 tip) tip und P lev own amt s1 s2 wu (cu_WL P s1 s2 own amt tip)) s.heap.size = A at hD ⊢
  have hA : ∀ q : Nat, s.heap.size ≤ q → A q := fun q h => by rw [← hAe]; exact Or.inr h
  have hl := lv_entry ([.ref (ad 0), .int x]) (n := 2) (Nat.le_of_ble_eq_true rfl)
  rw [lg_entry_eq]
  generalize (lg_sl ([.ref (ad 0), .int x]) ++ List.replicate (2 - (lg_sl ([.ref (ad 0), .int x])).length) Slot.unset).toArray = ls at hl ⊢
  have hl : lv_has ls 2 [(0, .ref (ad 0)), (1, .int x)] := hl
  refine cu_start (fun H locs eH eL => ?_)
  have hP : va_P D vwCl (XW ad cB cI cL n tip (cu_LG P s1 s2 tip) tip und P lev own amt s1 s2 wu (cu_WL P s1 s2 own amt tip)) H := by rw [eH]; exact hP
  have hS : va_S A s.heap H locs := by rw [eH, eL]; exact va_S.rf
  have hn20 := h.n20
  refine lv_iload_n hx hb dX0_forget_0 rfl (lv_at hl 1 rfl) ?_
  refine cuI_if_le (tgt := 22) hx hb dX0_forget_1 (by decide) (fun c1 => ?_) (fun c1 => ?_)
  · refine lv_bipush (v := (-4)) hx hb dX0_forget_22 (by decide) ?_
    exact W.iret (v := (-4)) hx hb hr (fun t_ ht_ hW => ⟨⟨(-4), wu, rfl, (congrArg Prod.fst (cu_forget_no (by omega))).symm, by rw [ht_]; exact (by rw [cu_forget_no (by omega)]; exact hP), va_K.moved hW.alike hK, (by rw [cu_forget_no (by omega)]; exact hD)⟩, hS.F ht_⟩) hS.2.2 dX0_forget_24
  · refine lv_iload_n hx hb dX0_forget_4 rfl (lv_at hl 1 rfl) ?_
    refine lv_aload_n hx hb dX0_forget_5 rfl (lv_at hl 0 rfl) ?_
    refine va_get (D := D) (ci := 0) (v := .int (nI n)) (C := RX0) (T := TX0) (N := 13) hx hb hts in_X0 hown hK hP 0 rfl rfl 0 (by decide) (hts _ q28) (fun _ h9 => h9) rfl dX0_forget_6 ?_
    refine lv_iconst (v := nI 1) hx hb dX0_forget_9 (by decide) ?_
    refine lv_isub hx hb dX0_forget_10 ?_
    refine cu_top (y := nI (n - 1)) (pk_sub h.1) ?_
    refine lv_icmp_ne (tgt := 22) hx hb dX0_forget_11 (by decide) (fun c11 => ?_) (fun c11 => ?_)
    · have c11 : ¬ x.toInt = (n : Int) - 1 := fun z => c11 (Int32.toInt_inj.mp (by rw [nI_toInt (by omega)]; omega))
      refine lv_bipush (v := (-4)) hx hb dX0_forget_22 (by decide) ?_
      exact W.iret (v := (-4)) hx hb hr (fun t_ ht_ hW => ⟨⟨(-4), wu, rfl, (congrArg Prod.fst (cu_forget_no (by omega))).symm, by rw [ht_]; exact (by rw [cu_forget_no (by omega)]; exact hP), va_K.moved hW.alike hK, (by rw [cu_forget_no (by omega)]; exact hD)⟩, hS.F ht_⟩) hS.2.2 dX0_forget_24
    · have c11 : x.toInt = (n : Int) - 1 := by rw [c11, nI_toInt (by omega)]; omega
      refine lv_iload_n hx hb dX0_forget_14 rfl (lv_at hl 1 rfl) ?_
      refine lv_aload_n hx hb dX0_forget_15 rfl (lv_at hl 0 rfl) ?_
      refine va_get (D := D) (ci := 0) (v := .int (nI tip)) (C := RX0) (T := TX0) (N := 13) hx hb hts in_X0 hown hK hP 0 rfl rfl 11 (by decide) (hts _ q39) (fun _ h9 => h9) rfl dX0_forget_16 ?_
      refine lv_icmp_ne (tgt := 25) hx hb dX0_forget_19 (by decide) (fun c19 => ?_) (fun c19 => ?_)
      · have c19 : ¬ x.toInt = (tip : Int) := fun z => c19 (Int32.toInt_inj.mp (by rw [nI_toInt (by omega)]; exact z))
        refine lv_aload_n hx hb dX0_forget_25 rfl (lv_at hl 0 rfl) ?_
        refine lv_dup hx hb dX0_forget_26 rfl ?_
        refine va_get (D := D) (ci := 0) (v := .int (nI n)) (C := RX0) (T := TX0) (N := 13) hx hb hts in_X0 hown hK hP 0 rfl rfl 0 (by decide) (hts _ q28) (fun _ h9 => h9) rfl dX0_forget_27 ?_
        refine lv_iconst (v := nI 1) hx hb dX0_forget_30 (by decide) ?_
        refine lv_isub hx hb dX0_forget_31 ?_
        refine cu_top (y := nI (n - 1)) (pk_sub h.1) ?_
        refine va_put (D := D) (ci := 0) (v := .int (nI (n - 1))) (ty := .int) (C := RX0) (T := TX0) (N := 13) hx hb hts in_X0 tyX0 tyX0_ok nmX0 hown hK hP hD hS 0 rfl rfl 0 (by decide) (hts _ q28) (fun _ h9 => h9) rfl (by decide +kernel) rfl rfl (Nat.le_of_ble_eq_true rfl) dX0_forget_32 (fun H locs hP hD hS => ?_)
        have hP : va_P D vwCl (XW ad cB cI cL (n - 1) tip (cu_LG P s1 s2 tip) tip und P lev own amt s1 s2 wu (cu_WL P s1 s2 own amt tip)) H := hP
        have hD : va_D A (XW ad cB cI cL (n - 1) tip (cu_LG P s1 s2 tip) tip und P lev own amt s1 s2 wu (cu_WL P s1 s2 own amt tip)) := hD
        refine lv_iload_n hx hb dX0_forget_35 rfl (lv_at hl 1 rfl) ?_
        exact W.iret (v := x) hx hb hr (fun t_ ht_ hW => ⟨⟨x, wu, rfl, (congrArg Prod.fst (cu_forget_ok (by omega))).symm, by rw [ht_]; exact (by rw [cu_forget_ok (by omega)]; exact hP), va_K.moved hW.alike hK, (by rw [cu_forget_ok (by omega)]; exact hD)⟩, hS.F ht_⟩) hS.2.2 dX0_forget_36
      · have c19 : x.toInt = (tip : Int) := by rw [c19, nI_toInt (by omega)]
        refine lv_bipush (v := (-4)) hx hb dX0_forget_22 (by decide) ?_
        exact W.iret (v := (-4)) hx hb hr (fun t_ ht_ hW => ⟨⟨(-4), wu, rfl, (congrArg Prod.fst (cu_forget_no (by omega))).symm, by rw [ht_]; exact (by rw [cu_forget_no (by omega)]; exact hP), va_K.moved hW.alike hK, (by rw [cu_forget_no (by omega)]; exact hD)⟩, hS.F ht_⟩) hS.2.2 dX0_forget_24
end
section
/-! rows for the reference's methods -/
theorem cu_free_f {n : Nat} {P lev own amt : Nat → Nat} {s1 s2 : Nat → Int32} (h : cu_OK n P lev own amt s1 s2) {c b : Nat} (hc : c < n) (hb : b < n) (hA : cu_An P c b = false) : cu_Lg P s1 s2 c b = false := by
  cases hq : cu_Lg P s1 s2 c b with
  | false => rfl
  | true =>
    have h1 := ((cu_free_iff h hc b hb).mp hq).2.1
    rw [hA] at h1
    cases h1
theorem cu_free_g {n : Nat} {P lev own amt : Nat → Nat} {s1 s2 : Nat → Int32} (h : cu_OK n P lev own amt s1 s2) {c b d : Nat} (hc : c < n) (hb : b < n) (h1 : 1 ≤ d) (hd : d < n) (e : s1 d = nI c ∨ s2 d = nI c) (hA : cu_An P d b = true) : cu_Lg P s1 s2 c b = false := by
  cases hq : cu_Lg P s1 s2 c b with
  | false => rfl
  | true =>
    have h2 := ((cu_free_iff h hc b hb).mp hq).2.2 d h1 hd e
    rw [hA] at h2
    cases h2
theorem cu_sound_eq {n : Nat} {P : Nat → Nat} {s1 s2 : Nat → Int32} {a : Nat} {f : Int32} : cu_sound n P s1 s2 a f f = false := by
  unfold cu_sound
  by_cases hf : f = -1
  · have e : cu_th n P s1 s2 a f = false := by
      unfold cu_th
      rw [hf, decide_eq_false (fun z => absurd z.1 (by decide))]
      rfl
    rw [e]; rfl
  · rw [decide_eq_false hf]
    simp
theorem cu_nz0 : vp_nar .boolean (nI 0) = nI 0 := by decide +kernel
theorem cu_nz1 : vp_nar .boolean (nI 1) = nI 1 := by decide +kernel
theorem cu_lsub (x : Int64) (a b : Nat) : x - lN a - lN b = x - lN (a + b) := by
  rw [← lN_add]
  generalize lN a = y
  generalize lN b = z
  grind
theorem cu_lsub0 (x : Int64) : x = x - lN 0 := by
  have h : lN 0 = 0 := by decide +kernel
  rw [h]
  grind
theorem cu_lgt (a : Int32) {k : Nat} (hk : k < 2 ^ 40) : lN 0 < a.toInt64 - lN k ↔ ¬ a.toInt ≤ (k : Int) := by
  have h1 : a.toInt < 2 ^ 31 := Int32.toInt_lt a
  have h2 : -2 ^ 31 ≤ a.toInt := Int32.le_toInt a
  have e : (a.toInt64 - lN k).toInt = a.toInt - (k : Int) := by
    rw [Int64.toInt_sub, Int32.toInt_toInt64, pk_lT (by omega)]
    apply Int.bmod_eq_of_le
    · omega
    · omega
  rw [Int64.lt_iff_toInt_lt, e, pk_lT (by omega)]
  omega
end
section
/-! contracts: printed by gen/make.py -/
set_option maxHeartbeats 4000000 in
set_option maxRecDepth 100000 in
theorem mM_isBlock (l : Launch) (D : va_G) (ad : Nat → Nat) (cI cZ : ClassId) (sz : Nat) (n tip : Nat) (und : Int32) (P lev own amt : Nat → Nat) (s1 s2 tk : Nat → Int32) (x : Int32) (hn20 : n ≤ 20) : Met l yX1_isBlock (ws_ yX1_isBlock cX1_isBlock 2 (some .boolean)) ({ frames := 0, cells := 0, slots := 0, locals := 0 }) (va_Pc [.ref (ad 0), .int x] (cu_In D vwCl (MT cI cZ) (MW ad cI cZ n tip und P own amt s1 s2 tk) sz)) (va_Qi (fun (r : Int32) (u : Unit) => r = cu_bI (cu_in n x)) (fun u => cu_Out D vwCl (MT cI cZ) (va_A (MW ad cI cZ n tip und P own amt s1 s2 tk) sz) (MW ad cI cZ n tip und P own amt s1 s2 tk)) (va_A (MW ad cI cZ n tip und P own amt s1 s2 tk) sz)) 0 0 (va_A (MW ad cI cZ n tip und P own amt s1 s2 tk) sz) := by
  refine Met.ofW (cc := cX1_isBlock) (maxL := 2) (ret := (some .boolean)) (by decide) rfl ?_
  intro p e s m args below meth c s₁ B hml hv
  obtain ⟨rfl, hsz, hP, hK, hD0⟩ := hv
  have hx := B.exec
  have hb := B.bytes
  have hr := B.returns
  have hts := atoms_spec (ws := ws_ yX1_isBlock cX1_isBlock 2 (some .boolean)) B.pre
  have hts : ∀ w ∈ lw_all, w.before _ s = true := fun w h => hts w (List.mem_cons_of_mem _ h)
  have hown : s.vm.findClass RX1 = some m.cls := findClass_of_methodNamed B.named
  have hlocks := B.notSynchronized
  subst hsz
  have hD := hD0.self (sz := s.heap.size)
  generalize hAe : va_A (MW ad cI cZ n tip und P own amt s1 s2 tk) s.heap.size = A at hD ⊢
  have hA : ∀ q : Nat, s.heap.size ≤ q → A q := fun q h => by rw [← hAe]; exact Or.inr h
  have hl := lv_entry ([.ref (ad 0), .int x]) (n := 2) (Nat.le_of_ble_eq_true rfl)
  rw [lg_entry_eq]
  generalize (lg_sl ([.ref (ad 0), .int x]) ++ List.replicate (2 - (lg_sl ([.ref (ad 0), .int x])).length) Slot.unset).toArray = ls at hl ⊢
  have hl : lv_has ls 2 [(0, .ref (ad 0)), (1, .int x)] := hl
  refine cu_start (fun H locs eH eL => ?_)
  have hP : va_P D vwCl (MW ad cI cZ n tip und P own amt s1 s2 tk) H := by rw [eH]; exact hP
  have hS : va_S A s.heap H locs := by rw [eH, eL]; exact va_S.rf
  refine lv_iload_n hx hb dX1_isBlock_0 rfl (lv_at hl 1 rfl) ?_
  refine cuI_if_lt (tgt := 16) hx hb dX1_isBlock_1 (by decide) (fun c1 => ?_) (fun c1 => ?_)
  · refine lv_iconst (v := nI 0) hx hb dX1_isBlock_16 (by decide) ?_
    exact W.zret (v := nI 0) hx hb hr rfl (fun t_ ht_ hW => ⟨⟨nI 0, (), rfl, cu_bI_f (decide_eq_false (by omega)), by rw [ht_]; exact hP, va_K.moved hW.alike hK, hD⟩, hS.F ht_⟩) hS.2.2 dX1_isBlock_17
  · refine lv_iload_n hx hb dX1_isBlock_4 rfl (lv_at hl 1 rfl) ?_
    refine lv_aload_n hx hb dX1_isBlock_5 rfl (lv_at hl 0 rfl) ?_
    refine va_get (D := D) (ci := 1) (v := .int (nI n)) (C := RX1) (T := TX1) (N := 9) hx hb hts in_X1 hown hK hP 0 rfl rfl 0 (by decide) (hts _ q169) (fun _ h9 => h9) rfl dX1_isBlock_6 ?_
    refine cuI_icmp_ge (tgt := 16) (i := (x).toInt) (j := (n : Int)) rfl (nI_toInt (by omega)) hx hb dX1_isBlock_9 (by decide) (fun c9 => ?_) (fun c9 => ?_)
    · refine lv_iconst (v := nI 0) hx hb dX1_isBlock_16 (by decide) ?_
      exact W.zret (v := nI 0) hx hb hr rfl (fun t_ ht_ hW => ⟨⟨nI 0, (), rfl, cu_bI_f (decide_eq_false (by omega)), by rw [ht_]; exact hP, va_K.moved hW.alike hK, hD⟩, hS.F ht_⟩) hS.2.2 dX1_isBlock_17
    · refine lv_iconst (v := nI 1) hx hb dX1_isBlock_12 (by decide) ?_
      refine lv_goto (tgt := 17) hx hb dX1_isBlock_13 (by decide) ?_
      exact W.zret (v := nI 1) hx hb hr rfl (fun t_ ht_ hW => ⟨⟨nI 1, (), rfl, cu_bI_t (decide_eq_true (by omega)), by rw [ht_]; exact hP, va_K.moved hW.alike hK, hD⟩, hS.F ht_⟩) hS.2.2 dX1_isBlock_17
set_option maxHeartbeats 4000000 in
set_option maxRecDepth 100000 in
theorem mM_heightOf (l : Launch) (D : va_G) (ad : Nat → Nat) (cI cZ : ClassId) (sz : Nat) (n tip : Nat) (und : Int32) (P lev own amt : Nat → Nat) (s1 s2 tk : Nat → Int32) (b : Nat) (h : cu_OK n P lev own amt s1 s2) (hb9 : b < n) : Met l yX1_heightOf (ws_ yX1_heightOf cX1_heightOf 5 (some .int)) ({ frames := 0, cells := 0, slots := 0, locals := 0 }) (va_Pc [.ref (ad 0), .int (nI b)] (cu_In D vwCl (MT cI cZ) (MW ad cI cZ n tip und P own amt s1 s2 tk) sz)) (va_Qi (fun (r : Int32) (u : Unit) => r = nI (lev b)) (fun u => cu_Out D vwCl (MT cI cZ) (va_A (MW ad cI cZ n tip und P own amt s1 s2 tk) sz) (MW ad cI cZ n tip und P own amt s1 s2 tk)) (va_A (MW ad cI cZ n tip und P own amt s1 s2 tk) sz)) 0 0 (va_A (MW ad cI cZ n tip und P own amt s1 s2 tk) sz) := by
  refine Met.ofW (cc := cX1_heightOf) (maxL := 5) (ret := (some .int)) (by decide) rfl ?_
  intro p e s m args below meth c s₁ B hml hv
  obtain ⟨rfl, hsz, hP, hK, hD0⟩ := hv
  have hx := B.exec
  have hb := B.bytes
  have hr := B.returns
  have hts := atoms_spec (ws := ws_ yX1_heightOf cX1_heightOf 5 (some .int)) B.pre
  have hts : ∀ w ∈ lw_all, w.before _ s = true := fun w h => hts w (List.mem_cons_of_mem _ h)
  have hown : s.vm.findClass RX1 = some m.cls := findClass_of_methodNamed B.named
  have hlocks := B.notSynchronized
  subst hsz
  have hD := hD0.self (sz := s.heap.size)
  generalize hAe : va_A (MW ad cI cZ n tip und P own amt s1 s2 tk) s.heap.size = A at hD ⊢
  have hA : ∀ q : Nat, s.heap.size ≤ q → A q := fun q h => by rw [← hAe]; exact Or.inr h
  have hl := lv_entry ([.ref (ad 0), .int (nI b)]) (n := 5) (Nat.le_of_ble_eq_true rfl)
  rw [lg_entry_eq]
  generalize (lg_sl ([.ref (ad 0), .int (nI b)]) ++ List.replicate (5 - (lg_sl ([.ref (ad 0), .int (nI b)])).length) Slot.unset).toArray = ls at hl ⊢
  have hl : lv_has ls 5 [(0, .ref (ad 0)), (1, .int (nI b))] := hl
  refine cu_start (fun H locs eH eL => ?_)
  have hP : va_P D vwCl (MW ad cI cZ n tip und P own amt s1 s2 tk) H := by rw [eH]; exact hP
  have hS : va_S A s.heap H locs := by rw [eH, eL]; exact va_S.rf
  have hn20 := h.n20
  have hlb := h.lev_le b hb9
  refine lv_iconst (v := nI 0) hx hb dX1_heightOf_0 (by decide) ?_
  refine lv_istore_n (lv' := [(2, .int (nI 0)), (0, .ref (ad 0)), (1, .int (nI b))]) hx hb dX1_heightOf_1 rfl hl (by decide) rfl (fun ls hl => ?_)
  refine lv_iload_n hx hb dX1_heightOf_2 rfl (lv_at hl 2 rfl) ?_
  refine lv_istore_n (lv' := [(3, .int (nI b)), (2, .int (nI 0)), (0, .ref (ad 0)), (1, .int (nI b))]) hx hb dX1_heightOf_3 rfl hl (by decide) rfl (fun ls hl => ?_)
  refine lv_iconst (v := nI 0) hx hb dX1_heightOf_4 (by decide) ?_
  refine lv_istore (lv' := [(4, .int (nI 0)), (3, .int (nI b)), (2, .int (nI 0)), (0, .ref (ad 0)), (1, .int (nI b))]) hx hb dX1_heightOf_5 hl (by decide) rfl (fun ls hl => ?_)
  refine cu_loop (σ := Nat × Nat) (I := fun (x_ : Nat × Nat) H locs ls => match x_ with | (d, k) => va_P D vwCl (MW ad cI cZ n tip und P own amt s1 s2 tk) H ∧ va_D A (MW ad cI cZ n tip und P own amt s1 s2 tk) ∧ va_S A s.heap H locs ∧ lv_has ls 5 [(0, .ref (ad 0)), (1, .int (nI b)), (2, .int (nI k)), (3, .int (nI d)), (4, .int (nI k))] ∧ (d < n) ∧ (k + lev d = lev b)) (μ := fun (x_ : Nat × Nat) => match x_ with | (d, k) => d) ?_ (b, 0) ⟨hP, hD, hS, lv_sub hl [3, 4, 2, 1, 0] rfl, hb9, by omega⟩
  rintro ⟨d, k⟩ H locs ls ⟨hP, hD, hS, hl, ⟨hd, hk⟩⟩ ih
  refine lv_iload hx hb dX1_heightOf_7 (lv_at hl 4 rfl) ?_
  refine lv_bipush (v := nI 20) hx hb dX1_heightOf_9 (by decide) ?_
  refine cu_icmp_ge (tgt := 34) (j := k) (k := 20) (by omega) (by omega) hx hb dX1_heightOf_11 (by decide) (fun c11 => ?_) (fun c11 => ?_)
  · exfalso; omega
  · refine lv_iload_n hx hb dX1_heightOf_14 rfl (lv_at hl 3 rfl) ?_
    refine cu_if_le (tgt := 34) (j := d) (by omega) hx hb dX1_heightOf_15 (by decide) (fun c15 => ?_) (fun c15 => ?_)
    · refine lv_iload_n hx hb dX1_heightOf_34 rfl (lv_at hl 2 rfl) ?_
      exact W.iret (v := nI k) hx hb hr (fun t_ ht_ hW => ⟨⟨nI k, (), rfl, congrArg nI (by rw [c15, h.2.2.2.1] at hk; omega), by rw [ht_]; exact hP, va_K.moved hW.alike hK, hD⟩, hS.F ht_⟩) hS.2.2 dX1_heightOf_35
    · have hp := h.pos (by omega) hd
      have hl9 := (h.2.2.2.2.2 d (by omega) hd).2.1
      refine lv_iinc (v := nI (k + 1)) (lv' := [(2, .int (nI (k + 1))), (0, .ref (ad 0)), (1, .int (nI b)), (3, .int (nI d)), (4, .int (nI k))]) hx hb dX1_heightOf_18 hl (k := 2) rfl (cu_inc _) (by decide) rfl (fun ls hl => ?_)
      refine lv_aload_n hx hb dX1_heightOf_21 rfl (lv_at hl 1 rfl) ?_
      refine va_get (D := D) (ci := 1) (v := .ref (ad 1)) (C := RX1) (T := TX1) (N := 9) hx hb hts in_X1 hown hK hP 0 rfl rfl 1 (by decide) (hts _ q170) (fun _ h9 => h9) rfl dX1_heightOf_22 ?_
      refine lv_iload_n hx hb dX1_heightOf_25 rfl (lv_at hl 3 rfl) ?_
      refine cu_iald (v := nI (P d)) hx hb hK hP 1 0 rfl rfl d (by omega) (Nat.le_of_ble_eq_true rfl) (cu_MP_s P (by omega)) dX1_heightOf_26 ?_
      refine lv_istore_n (lv' := [(3, .int (nI (P d))), (2, .int (nI (k + 1))), (0, .ref (ad 0)), (1, .int (nI b)), (4, .int (nI k))]) hx hb dX1_heightOf_27 rfl hl (by decide) rfl (fun ls hl => ?_)
      refine lv_iinc (v := nI (k + 1)) (lv' := [(4, .int (nI (k + 1))), (3, .int (nI (P d))), (2, .int (nI (k + 1))), (0, .ref (ad 0)), (1, .int (nI b))]) hx hb dX1_heightOf_28 hl (k := 4) rfl (cu_inc _) (by decide) rfl (fun ls hl => ?_)
      refine lv_goto (tgt := 7) hx hb dX1_heightOf_31 (by decide) ?_
      exact ih (P d, k + 1) _ _ _ ⟨hP, hD, hS, lv_sub hl [3, 4, 2, 1, 0] rfl, by omega, by omega⟩ (show P d < d by omega)
set_option maxHeartbeats 4000000 in
set_option maxRecDepth 100000 in
theorem mM_inBranch (l : Launch) (D : va_G) (ad : Nat → Nat) (cI cZ : ClassId) (sz : Nat) (n tip : Nat) (und : Int32) (P lev own amt : Nat → Nat) (s1 s2 tk : Nat → Int32) (a b : Nat) (h : cu_OK n P lev own amt s1 s2) (ha9 : a < 20) (hb9 : b < n) : Met l yX1_inBranch (ws_ yX1_inBranch cX1_inBranch 5 (some .boolean)) ({ frames := 0, cells := 0, slots := 0, locals := 0 }) (va_Pc [.ref (ad 0), .int (nI a), .int (nI b)] (cu_In D vwCl (MT cI cZ) (MW ad cI cZ n tip und P own amt s1 s2 tk) sz)) (va_Qi (fun (r : Int32) (u : Unit) => r = cu_bI (cu_An P a b)) (fun u => cu_Out D vwCl (MT cI cZ) (va_A (MW ad cI cZ n tip und P own amt s1 s2 tk) sz) (MW ad cI cZ n tip und P own amt s1 s2 tk)) (va_A (MW ad cI cZ n tip und P own amt s1 s2 tk) sz)) 0 0 (va_A (MW ad cI cZ n tip und P own amt s1 s2 tk) sz) := by
  refine Met.ofW (cc := cX1_inBranch) (maxL := 5) (ret := (some .boolean)) (by decide) rfl ?_
  intro p e s m args below meth c s₁ B hml hv
  obtain ⟨rfl, hsz, hP, hK, hD0⟩ := hv
  have hx := B.exec
  have hb := B.bytes
  have hr := B.returns
  have hts := atoms_spec (ws := ws_ yX1_inBranch cX1_inBranch 5 (some .boolean)) B.pre
  have hts : ∀ w ∈ lw_all, w.before _ s = true := fun w h => hts w (List.mem_cons_of_mem _ h)
  have hown : s.vm.findClass RX1 = some m.cls := findClass_of_methodNamed B.named
  have hlocks := B.notSynchronized
  subst hsz
  have hD := hD0.self (sz := s.heap.size)
  generalize hAe : va_A (MW ad cI cZ n tip und P own amt s1 s2 tk) s.heap.size = A at hD ⊢
  have hA : ∀ q : Nat, s.heap.size ≤ q → A q := fun q h => by rw [← hAe]; exact Or.inr h
  have hl := lv_entry ([.ref (ad 0), .int (nI a), .int (nI b)]) (n := 5) (Nat.le_of_ble_eq_true rfl)
  rw [lg_entry_eq]
  generalize (lg_sl ([.ref (ad 0), .int (nI a), .int (nI b)]) ++ List.replicate (5 - (lg_sl ([.ref (ad 0), .int (nI a), .int (nI b)])).length) Slot.unset).toArray = ls at hl ⊢
  have hl : lv_has ls 5 [(0, .ref (ad 0)), (1, .int (nI a)), (2, .int (nI b))] := hl
  refine cu_start (fun H locs eH eL => ?_)
  have hP : va_P D vwCl (MW ad cI cZ n tip und P own amt s1 s2 tk) H := by rw [eH]; exact hP
  have hS : va_S A s.heap H locs := by rw [eH, eL]; exact va_S.rf
  have hn20 := h.n20
  refine lv_iload_n hx hb dX1_inBranch_0 rfl (lv_at hl 2 rfl) ?_
  refine lv_istore_n (lv' := [(3, .int (nI b)), (0, .ref (ad 0)), (1, .int (nI a)), (2, .int (nI b))]) hx hb dX1_inBranch_1 rfl hl (by decide) rfl (fun ls hl => ?_)
  refine lv_iconst (v := nI 0) hx hb dX1_inBranch_2 (by decide) ?_
  refine lv_istore (lv' := [(4, .int (nI 0)), (3, .int (nI b)), (0, .ref (ad 0)), (1, .int (nI a)), (2, .int (nI b))]) hx hb dX1_inBranch_3 hl (by decide) rfl (fun ls hl => ?_)
  refine cu_loop (σ := Nat × Int32) (I := fun (x_ : Nat × Int32) H locs ls => match x_ with | (k, v) => va_P D vwCl (MW ad cI cZ n tip und P own amt s1 s2 tk) H ∧ va_D A (MW ad cI cZ n tip und P own amt s1 s2 tk) ∧ va_S A s.heap H locs ∧ lv_has ls 5 [(0, .ref (ad 0)), (1, .int (nI a)), (2, .int (nI b)), (3, .int v), (4, .int (nI k))] ∧ ((∃ w9, v = nI w9 ∧ w9 < n ∧ cu_An P a b = cu_An P a w9 ∧ k + w9 ≤ b) ∨ (v = -1 ∧ cu_An P a b = false ∧ k ≤ 20))) (μ := fun (x_ : Nat × Int32) => match x_ with | (k, v) => 21 - k) ?_ (0, nI b) ⟨hP, hD, hS, lv_sub hl [2, 3, 4, 1, 0] rfl, Or.inl ⟨b, rfl, hb9, rfl, by omega⟩⟩
  rintro ⟨k, v⟩ H locs ls ⟨hP, hD, hS, hl, hinv⟩ ih
  rcases hinv with ⟨d, rfl, hdn, hAn, hkd⟩ | ⟨rfl, hAn, hk20⟩
  · refine lv_iload hx hb dX1_inBranch_5 (lv_at hl 4 rfl) ?_
    refine lv_bipush (v := nI 20) hx hb dX1_inBranch_7 (by decide) ?_
    refine cu_icmp_ge (tgt := 36) (j := k) (k := 20) (by omega) (by omega) hx hb dX1_inBranch_9 (by decide) (fun c9 => ?_) (fun c9 => ?_)
    · exfalso; omega
    · refine lv_iload_n hx hb dX1_inBranch_12 rfl (lv_at hl 3 rfl) ?_
      refine cuI_if_lt (tgt := 36) hx hb dX1_inBranch_13 (by decide) (fun c13 => ?_) (fun c13 => ?_)
      · exact absurd c13 (by rw [nI_toInt (by omega)]; omega)
      · refine lv_iload_n hx hb dX1_inBranch_16 rfl (lv_at hl 3 rfl) ?_
        refine lv_iload_n hx hb dX1_inBranch_17 rfl (lv_at hl 1 rfl) ?_
        refine cu_icmp_ne (tgt := 23) (j := d) (k := a) (by omega) (by omega) hx hb dX1_inBranch_18 (by decide) (fun c18 => ?_) (fun c18 => ?_)
        · have hinv1 : (∃ w9, cu_MP P d = nI w9 ∧ w9 < n ∧ cu_An P a b = cu_An P a w9 ∧ k + 1 + w9 ≤ b) ∨ (cu_MP P d = -1 ∧ cu_An P a b = false ∧ k + 1 ≤ 20) := by
            rcases Nat.eq_zero_or_pos d with z | z
            · right
              subst z
              refine ⟨cu_MP_0 P, ?_, by omega⟩
              rw [hAn]
              cases hq : cu_An P a 0 with
              | false => rfl
              | true => have := cu_An_le 0 hq; omega
            · left
              have hp := h.pos z hdn
              refine ⟨P d, cu_MP_s P z, by omega, ?_, by omega⟩
              rw [hAn, Bool.eq_iff_iff, cu_An_iff]
              exact ⟨fun q => q.elim (fun q => absurd q.symm c18) (fun q => q.2), fun q => Or.inr ⟨hp, q⟩⟩
          refine lv_aload_n hx hb dX1_inBranch_23 rfl (lv_at hl 0 rfl) ?_
          refine va_get (D := D) (ci := 1) (v := .ref (ad 1)) (C := RX1) (T := TX1) (N := 9) hx hb hts in_X1 hown hK hP 0 rfl rfl 1 (by decide) (hts _ q170) (fun _ h9 => h9) rfl dX1_inBranch_24 ?_
          refine lv_iload_n hx hb dX1_inBranch_27 rfl (lv_at hl 3 rfl) ?_
          refine cu_iald (v := cu_MP P d) hx hb hK hP 1 0 rfl rfl d (by omega) (Nat.le_of_ble_eq_true rfl) rfl dX1_inBranch_28 ?_
          refine lv_istore_n (lv' := [(3, .int (cu_MP P d)), (0, .ref (ad 0)), (1, .int (nI a)), (2, .int (nI b)), (4, .int (nI k))]) hx hb dX1_inBranch_29 rfl hl (by decide) rfl (fun ls hl => ?_)
          refine lv_iinc (v := nI (k + 1)) (lv' := [(4, .int (nI (k + 1))), (3, .int (cu_MP P d)), (0, .ref (ad 0)), (1, .int (nI a)), (2, .int (nI b))]) hx hb dX1_inBranch_30 hl (k := 4) rfl (cu_inc _) (by decide) rfl (fun ls hl => ?_)
          refine lv_goto (tgt := 5) hx hb dX1_inBranch_33 (by decide) ?_
          exact ih (k + 1, cu_MP P d) _ _ _ ⟨hP, hD, hS, lv_sub hl [2, 3, 4, 1, 0] rfl, hinv1⟩ (show 21 - (k + 1) < 21 - k by omega)
        · refine lv_iconst (v := nI 1) hx hb dX1_inBranch_21 (by decide) ?_
          exact W.zret (v := nI 1) hx hb hr rfl (fun t_ ht_ hW => ⟨⟨nI 1, (), rfl, cu_bI_t (by rw [hAn, c18]; exact cu_An_self P a), by rw [ht_]; exact hP, va_K.moved hW.alike hK, hD⟩, hS.F ht_⟩) hS.2.2 dX1_inBranch_22
  · refine lv_iload hx hb dX1_inBranch_5 (lv_at hl 4 rfl) ?_
    refine lv_bipush (v := nI 20) hx hb dX1_inBranch_7 (by decide) ?_
    refine cu_icmp_ge (tgt := 36) (j := k) (k := 20) (by omega) (by omega) hx hb dX1_inBranch_9 (by decide) (fun c9 => ?_) (fun c9 => ?_)
    · refine lv_iconst (v := nI 0) hx hb dX1_inBranch_36 (by decide) ?_
      exact W.zret (v := nI 0) hx hb hr rfl (fun t_ ht_ hW => ⟨⟨nI 0, (), rfl, cu_bI_f hAn, by rw [ht_]; exact hP, va_K.moved hW.alike hK, hD⟩, hS.F ht_⟩) hS.2.2 dX1_inBranch_37
    · refine lv_iload_n hx hb dX1_inBranch_12 rfl (lv_at hl 3 rfl) ?_
      refine cuI_if_lt (tgt := 36) hx hb dX1_inBranch_13 (by decide) (fun c13 => ?_) (fun c13 => ?_)
      · refine lv_iconst (v := nI 0) hx hb dX1_inBranch_36 (by decide) ?_
        exact W.zret (v := nI 0) hx hb hr rfl (fun t_ ht_ hW => ⟨⟨nI 0, (), rfl, cu_bI_f hAn, by rw [ht_]; exact hP, va_K.moved hW.alike hK, hD⟩, hS.F ht_⟩) hS.2.2 dX1_inBranch_37
      · exact absurd c13 (by decide)
set_option maxHeartbeats 4000000 in
set_option maxRecDepth 100000 in
theorem mM_free (l : Launch) (D : va_G) (ad : Nat → Nat) (cI cZ : ClassId) (sz : Nat) (n tip : Nat) (und : Int32) (P lev own amt : Nat → Nat) (s1 s2 tk : Nat → Int32) (x : Int32) (b : Nat) (h : cu_OK n P lev own amt s1 s2) (hb9 : b < n) : Met l yX1_free (ws_ yX1_free cX1_free 4 (some .boolean)) ({ frames := 1, cells := 0, slots := 0, locals := 24 }) (va_Pc [.ref (ad 0), .int x, .int (nI b)] (cu_In D vwCl (MT cI cZ) (MW ad cI cZ n tip und P own amt s1 s2 tk) sz)) (va_Qi (fun (r : Int32) (u : Unit) => r = cu_bI (cu_th n P s1 s2 b x)) (fun u => cu_Out D vwCl (MT cI cZ) (va_A (MW ad cI cZ n tip und P own amt s1 s2 tk) sz) (MW ad cI cZ n tip und P own amt s1 s2 tk)) (va_A (MW ad cI cZ n tip und P own amt s1 s2 tk) sz)) 0 0 (va_A (MW ad cI cZ n tip und P own amt s1 s2 tk) sz) := by
  refine Met.ofW (cc := cX1_free) (maxL := 4) (ret := (some .boolean)) (by decide) rfl ?_
  intro p e s m args below meth c s₁ B hml hv
  obtain ⟨rfl, hsz, hP, hK, hD0⟩ := hv
  have hx := B.exec
  have hb := B.bytes
  have hr := B.returns
  have hts := atoms_spec (ws := ws_ yX1_free cX1_free 4 (some .boolean)) B.pre
  have hts : ∀ w ∈ lw_all, w.before _ s = true := fun w h => hts w (List.mem_cons_of_mem _ h)
  have hown : s.vm.findClass RX1 = some m.cls := findClass_of_methodNamed B.named
  have hlocks := B.notSynchronized
  subst hsz
  have hD := hD0.self (sz := s.heap.size)
  generalize hAe : va_A (MW ad cI cZ n tip und P own amt s1 s2 tk) s.heap.size = A at hD ⊢
  have hA : ∀ q : Nat, s.heap.size ≤ q → A q := fun q h => by rw [← hAe]; exact Or.inr h
  have hl := lv_entry ([.ref (ad 0), .int x, .int (nI b)]) (n := 4) (Nat.le_of_ble_eq_true rfl)
  rw [lg_entry_eq]
  generalize (lg_sl ([.ref (ad 0), .int x, .int (nI b)]) ++ List.replicate (4 - (lg_sl ([.ref (ad 0), .int x, .int (nI b)])).length) Slot.unset).toArray = ls at hl ⊢
  have hl : lv_has ls 4 [(0, .ref (ad 0)), (1, .int x), (2, .int (nI b))] := hl
  refine cu_start (fun H locs eH eL => ?_)
  have hP : va_P D vwCl (MW ad cI cZ n tip und P own amt s1 s2 tk) H := by rw [eH]; exact hP
  have hS : va_S A s.heap H locs := by rw [eH, eL]; exact va_S.rf
  have hn20 := h.n20
  refine lv_iload_n hx hb dX1_free_0 rfl (lv_at hl 1 rfl) ?_
  refine lv_iconst (v := nI 1) hx hb dX1_free_1 (by decide) ?_
  refine cuI_icmp_lt (tgt := 22) (i := (x).toInt) (j := (1 : Int)) rfl (nI_toInt (by omega)) hx hb dX1_free_2 (by decide) (fun c2 => ?_) (fun c2 => ?_)
  · refine lv_iconst (v := nI 0) hx hb dX1_free_22 (by decide) ?_
    exact W.zret (v := nI 0) hx hb hr rfl (fun t_ ht_ hW => ⟨⟨nI 0, (), rfl, cu_bI_f (by unfold cu_th; rw [decide_eq_false (by omega)]; rfl), by rw [ht_]; exact hP, va_K.moved hW.alike hK, hD⟩, hS.F ht_⟩) hS.2.2 dX1_free_23
  · refine lv_iload_n hx hb dX1_free_5 rfl (lv_at hl 1 rfl) ?_
    refine lv_aload_n hx hb dX1_free_6 rfl (lv_at hl 0 rfl) ?_
    refine va_get (D := D) (ci := 1) (v := .int (nI n)) (C := RX1) (T := TX1) (N := 9) hx hb hts in_X1 hown hK hP 0 rfl rfl 0 (by decide) (hts _ q169) (fun _ h9 => h9) rfl dX1_free_7 ?_
    refine cuI_icmp_ge (tgt := 22) (i := (x).toInt) (j := (n : Int)) rfl (nI_toInt (by omega)) hx hb dX1_free_10 (by decide) (fun c10 => ?_) (fun c10 => ?_)
    · refine lv_iconst (v := nI 0) hx hb dX1_free_22 (by decide) ?_
      exact W.zret (v := nI 0) hx hb hr rfl (fun t_ ht_ hW => ⟨⟨nI 0, (), rfl, cu_bI_f (by unfold cu_th; rw [decide_eq_false (by omega)]; rfl), by rw [ht_]; exact hP, va_K.moved hW.alike hK, hD⟩, hS.F ht_⟩) hS.2.2 dX1_free_23
    · obtain ⟨k, hk, rfl⟩ := cu_rng (n := n) (x := x) (by omega) (by omega)
      have ek : (nI k).toInt = (k : Int) := nI_toInt (by omega)
      refine lv_aload_n hx hb dX1_free_13 rfl (lv_at hl 0 rfl) ?_
      refine lv_iload_n hx hb dX1_free_14 rfl (lv_at hl 1 rfl) ?_
      refine lv_iload_n hx hb dX1_free_15 rfl (lv_at hl 2 rfl) ?_
      refine cu_calli (As := [.int (nI k), .int (nI b)]) (rest := []) (mM_inBranch l D ad cI cZ H.size n tip und P lev own amt s1 s2 tk k b h (by omega) hb9) ⟨hx, hb, hml, hown, hts⟩ (cwV 2 hts (lw_V q218 q220 qs14 q19 q221) rfl rfl rfl (by decide +kernel) ⟨Nat.le_of_ble_eq_true rfl, Nat.le_of_ble_eq_true rfl⟩) hK hP hD hS hA (ci := 1) rfl rfl ⟨Nat.le_of_ble_eq_true rfl, Nat.le_of_ble_eq_true rfl⟩ rfl hl.1 rfl (Nat.le_of_ble_eq_true rfl) dX1_free_16 (fun r16 u16 H locs hw16 hP hD hS => ?_)
      obtain rfl : r16 = cu_bI (cu_An P k b) := hw16
      have hP : va_P D vwCl (MW ad cI cZ n tip und P own amt s1 s2 tk) H := hP
      have hD : va_D A (MW ad cI cZ n tip und P own amt s1 s2 tk) := hD
      refine cuB_if_ne (tgt := 24) hx hb dX1_free_19 (by decide) (fun c19 => ?_) (fun c19 => ?_)
      · refine lv_iconst (v := nI 1) hx hb dX1_free_24 (by decide) ?_
        refine lv_istore_n (lv' := [(3, .int (nI 1)), (0, .ref (ad 0)), (1, .int (nI k)), (2, .int (nI b))]) hx hb dX1_free_25 rfl hl (by decide) rfl (fun ls hl => ?_)
        refine cu_loop (σ := Nat) (I := fun (x_ : Nat) H locs ls => match x_ with | d => va_P D vwCl (MW ad cI cZ n tip und P own amt s1 s2 tk) H ∧ va_D A (MW ad cI cZ n tip und P own amt s1 s2 tk) ∧ va_S A s.heap H locs ∧ lv_has ls 4 [(0, .ref (ad 0)), (1, .int (nI k)), (2, .int (nI b)), (3, .int (nI d))] ∧ (1 ≤ d) ∧ (d ≤ n) ∧ (∀ j, 1 ≤ j → j < d → (s1 j = nI k ∨ s2 j = nI k) → cu_An P j b = false)) (μ := fun (x_ : Nat) => match x_ with | d => n - d) ?_ 1 ⟨hP, hD, hS, lv_sub hl [1, 2, 3, 0] rfl, Nat.le_refl 1, h.1, fun j h1 h2 => absurd h2 (by omega)⟩
        rintro d H locs ls ⟨hP, hD, hS, hl, ⟨hd1, hdn, hinv⟩⟩ ih
        refine lv_iload_n hx hb dX1_free_26 rfl (lv_at hl 3 rfl) ?_
        refine lv_aload_n hx hb dX1_free_27 rfl (lv_at hl 0 rfl) ?_
        refine va_get (D := D) (ci := 1) (v := .int (nI n)) (C := RX1) (T := TX1) (N := 9) hx hb hts in_X1 hown hK hP 0 rfl rfl 0 (by decide) (hts _ q169) (fun _ h9 => h9) rfl dX1_free_28 ?_
        refine cu_icmp_ge (tgt := 71) (j := d) (k := n) (by omega) (by omega) hx hb dX1_free_31 (by decide) (fun c31 => ?_) (fun c31 => ?_)
        · refine lv_iconst (v := nI 1) hx hb dX1_free_71 (by decide) ?_
          exact W.zret (v := nI 1) hx hb hr rfl (fun t_ ht_ hW => ⟨⟨nI 1, (), rfl, cu_bI_t (by rw [cu_th_n hn20 (by omega) hk]; exact (cu_free_iff h hk b hb9).mpr ⟨by omega, c19, fun j h1 h2 => hinv j h1 (by omega)⟩), by rw [ht_]; exact hP, va_K.moved hW.alike hK, hD⟩, hS.F ht_⟩) hS.2.2 dX1_free_72
        · refine lv_aload_n hx hb dX1_free_34 rfl (lv_at hl 0 rfl) ?_
          refine va_get (D := D) (ci := 1) (v := .ref (ad 4)) (C := RX1) (T := TX1) (N := 9) hx hb hts in_X1 hown hK hP 0 rfl rfl 4 (by decide) (hts _ q173) (fun _ h9 => h9) rfl dX1_free_35 ?_
          refine lv_iload_n hx hb dX1_free_38 rfl (lv_at hl 3 rfl) ?_
          refine cu_iald (v := s1 d) hx hb hK hP 4 0 rfl rfl d (by omega) (Nat.le_of_ble_eq_true rfl) rfl dX1_free_39 ?_
          refine lv_iload_n hx hb dX1_free_40 rfl (lv_at hl 1 rfl) ?_
          refine lv_icmp_eq (tgt := 54) hx hb dX1_free_41 (by decide) (fun c41 => ?_) (fun c41 => ?_)
          · refine lv_aload_n hx hb dX1_free_54 rfl (lv_at hl 0 rfl) ?_
            refine lv_iload_n hx hb dX1_free_55 rfl (lv_at hl 3 rfl) ?_
            refine lv_iload_n hx hb dX1_free_56 rfl (lv_at hl 2 rfl) ?_
            refine cu_calli (As := [.int (nI d), .int (nI b)]) (rest := []) (mM_inBranch l D ad cI cZ H.size n tip und P lev own amt s1 s2 tk d b h (by omega) hb9) ⟨hx, hb, hml, hown, hts⟩ (cwV 2 hts (lw_V q218 q220 qs14 q19 q221) rfl rfl rfl (by decide +kernel) ⟨Nat.le_of_ble_eq_true rfl, Nat.le_of_ble_eq_true rfl⟩) hK hP hD hS hA (ci := 1) rfl rfl ⟨Nat.le_of_ble_eq_true rfl, Nat.le_of_ble_eq_true rfl⟩ rfl hl.1 rfl (Nat.le_of_ble_eq_true rfl) dX1_free_57 (fun r57 u57 H locs hw57 hP hD hS => ?_)
            obtain rfl : r57 = cu_bI (cu_An P d b) := hw57
            have hP : va_P D vwCl (MW ad cI cZ n tip und P own amt s1 s2 tk) H := hP
            have hD : va_D A (MW ad cI cZ n tip und P own amt s1 s2 tk) := hD
            refine cuB_if_eq (tgt := 65) hx hb dX1_free_60 (by decide) (fun c60 => ?_) (fun c60 => ?_)
            · refine lv_iinc (v := nI (d + 1)) (lv' := [(3, .int (nI (d + 1))), (0, .ref (ad 0)), (1, .int (nI k)), (2, .int (nI b))]) hx hb dX1_free_65 hl (k := 3) rfl (cu_inc _) (by decide) rfl (fun ls hl => ?_)
              refine lv_goto (tgt := 26) hx hb dX1_free_68 (by decide) ?_
              have hinv1 : ∀ j, 1 ≤ j → j < d + 1 → (s1 j = nI k ∨ s2 j = nI k) → cu_An P j b = false := by
                intro j h1 h2 e9
                by_cases ej : j = d
                · subst ej
                  exact c60
                · exact hinv j h1 (by omega) e9
              exact ih (d + 1) _ _ _ ⟨hP, hD, hS, lv_sub hl [1, 2, 3, 0] rfl, by omega, by omega, hinv1⟩ (show n - (d + 1) < n - d by omega)
            · refine lv_iconst (v := nI 0) hx hb dX1_free_63 (by decide) ?_
              exact W.zret (v := nI 0) hx hb hr rfl (fun t_ ht_ hW => ⟨⟨nI 0, (), rfl, cu_bI_f (by rw [cu_th_n hn20 (by omega) hk]; exact cu_free_g h hk hb9 hd1 (by omega) (Or.inl c41) c60), by rw [ht_]; exact hP, va_K.moved hW.alike hK, hD⟩, hS.F ht_⟩) hS.2.2 dX1_free_64
          · refine lv_aload_n hx hb dX1_free_44 rfl (lv_at hl 0 rfl) ?_
            refine va_get (D := D) (ci := 1) (v := .ref (ad 5)) (C := RX1) (T := TX1) (N := 9) hx hb hts in_X1 hown hK hP 0 rfl rfl 5 (by decide) (hts _ q174) (fun _ h9 => h9) rfl dX1_free_45 ?_
            refine lv_iload_n hx hb dX1_free_48 rfl (lv_at hl 3 rfl) ?_
            refine cu_iald (v := s2 d) hx hb hK hP 5 0 rfl rfl d (by omega) (Nat.le_of_ble_eq_true rfl) rfl dX1_free_49 ?_
            refine lv_iload_n hx hb dX1_free_50 rfl (lv_at hl 1 rfl) ?_
            refine lv_icmp_ne (tgt := 65) hx hb dX1_free_51 (by decide) (fun c51 => ?_) (fun c51 => ?_)
            · refine lv_iinc (v := nI (d + 1)) (lv' := [(3, .int (nI (d + 1))), (0, .ref (ad 0)), (1, .int (nI k)), (2, .int (nI b))]) hx hb dX1_free_65 hl (k := 3) rfl (cu_inc _) (by decide) rfl (fun ls hl => ?_)
              refine lv_goto (tgt := 26) hx hb dX1_free_68 (by decide) ?_
              have hinv1 : ∀ j, 1 ≤ j → j < d + 1 → (s1 j = nI k ∨ s2 j = nI k) → cu_An P j b = false := by
                intro j h1 h2 e9
                by_cases ej : j = d
                · subst ej
                  rcases e9 with z | z
                  · exact absurd z c41
                  · exact absurd z c51
                · exact hinv j h1 (by omega) e9
              exact ih (d + 1) _ _ _ ⟨hP, hD, hS, lv_sub hl [1, 2, 3, 0] rfl, by omega, by omega, hinv1⟩ (show n - (d + 1) < n - d by omega)
            · refine lv_aload_n hx hb dX1_free_54 rfl (lv_at hl 0 rfl) ?_
              refine lv_iload_n hx hb dX1_free_55 rfl (lv_at hl 3 rfl) ?_
              refine lv_iload_n hx hb dX1_free_56 rfl (lv_at hl 2 rfl) ?_
              refine cu_calli (As := [.int (nI d), .int (nI b)]) (rest := []) (mM_inBranch l D ad cI cZ H.size n tip und P lev own amt s1 s2 tk d b h (by omega) hb9) ⟨hx, hb, hml, hown, hts⟩ (cwV 2 hts (lw_V q218 q220 qs14 q19 q221) rfl rfl rfl (by decide +kernel) ⟨Nat.le_of_ble_eq_true rfl, Nat.le_of_ble_eq_true rfl⟩) hK hP hD hS hA (ci := 1) rfl rfl ⟨Nat.le_of_ble_eq_true rfl, Nat.le_of_ble_eq_true rfl⟩ rfl hl.1 rfl (Nat.le_of_ble_eq_true rfl) dX1_free_57 (fun r57 u57 H locs hw57 hP hD hS => ?_)
              obtain rfl : r57 = cu_bI (cu_An P d b) := hw57
              have hP : va_P D vwCl (MW ad cI cZ n tip und P own amt s1 s2 tk) H := hP
              have hD : va_D A (MW ad cI cZ n tip und P own amt s1 s2 tk) := hD
              refine cuB_if_eq (tgt := 65) hx hb dX1_free_60 (by decide) (fun c60 => ?_) (fun c60 => ?_)
              · refine lv_iinc (v := nI (d + 1)) (lv' := [(3, .int (nI (d + 1))), (0, .ref (ad 0)), (1, .int (nI k)), (2, .int (nI b))]) hx hb dX1_free_65 hl (k := 3) rfl (cu_inc _) (by decide) rfl (fun ls hl => ?_)
                refine lv_goto (tgt := 26) hx hb dX1_free_68 (by decide) ?_
                have hinv1 : ∀ j, 1 ≤ j → j < d + 1 → (s1 j = nI k ∨ s2 j = nI k) → cu_An P j b = false := by
                  intro j h1 h2 e9
                  by_cases ej : j = d
                  · subst ej
                    exact c60
                  · exact hinv j h1 (by omega) e9
                exact ih (d + 1) _ _ _ ⟨hP, hD, hS, lv_sub hl [1, 2, 3, 0] rfl, by omega, by omega, hinv1⟩ (show n - (d + 1) < n - d by omega)
              · refine lv_iconst (v := nI 0) hx hb dX1_free_63 (by decide) ?_
                exact W.zret (v := nI 0) hx hb hr rfl (fun t_ ht_ hW => ⟨⟨nI 0, (), rfl, cu_bI_f (by rw [cu_th_n hn20 (by omega) hk]; exact cu_free_g h hk hb9 hd1 (by omega) (Or.inr c51) c60), by rw [ht_]; exact hP, va_K.moved hW.alike hK, hD⟩, hS.F ht_⟩) hS.2.2 dX1_free_64
      · refine lv_iconst (v := nI 0) hx hb dX1_free_22 (by decide) ?_
        exact W.zret (v := nI 0) hx hb hr rfl (fun t_ ht_ hW => ⟨⟨nI 0, (), rfl, cu_bI_f (by rw [cu_th_n hn20 (by omega) hk]; exact cu_free_f h hk hb9 c19), by rw [ht_]; exact hP, va_K.moved hW.alike hK, hD⟩, hS.F ht_⟩) hS.2.2 dX1_free_23
set_option maxHeartbeats 4000000 in
set_option maxRecDepth 100000 in
theorem mM_meet (l : Launch) (D : va_G) (ad : Nat → Nat) (cI cZ : ClassId) (sz : Nat) (n tip : Nat) (und : Int32) (P lev own amt : Nat → Nat) (s1 s2 tk : Nat → Int32) (a b : Nat) (h : cu_OK n P lev own amt s1 s2) (ha9 : a < n) (hb9 : b < n) : Met l yX1_meet (ws_ yX1_meet cX1_meet 5 (some .int)) ({ frames := 1, cells := 0, slots := 0, locals := 24 }) (va_Pc [.ref (ad 0), .int (nI a), .int (nI b)] (cu_In D vwCl (MT cI cZ) (MW ad cI cZ n tip und P own amt s1 s2 tk) sz)) (va_Qi (fun (r : Int32) (u : Unit) => r = nI (cu_mt P a b n)) (fun u => cu_Out D vwCl (MT cI cZ) (va_A (MW ad cI cZ n tip und P own amt s1 s2 tk) sz) (MW ad cI cZ n tip und P own amt s1 s2 tk)) (va_A (MW ad cI cZ n tip und P own amt s1 s2 tk) sz)) 0 0 (va_A (MW ad cI cZ n tip und P own amt s1 s2 tk) sz) := by
  refine Met.ofW (cc := cX1_meet) (maxL := 5) (ret := (some .int)) (by decide) rfl ?_
  intro p e s m args below meth c s₁ B hml hv
  obtain ⟨rfl, hsz, hP, hK, hD0⟩ := hv
  have hx := B.exec
  have hb := B.bytes
  have hr := B.returns
  have hts := atoms_spec (ws := ws_ yX1_meet cX1_meet 5 (some .int)) B.pre
  have hts : ∀ w ∈ lw_all, w.before _ s = true := fun w h => hts w (List.mem_cons_of_mem _ h)
  have hown : s.vm.findClass RX1 = some m.cls := findClass_of_methodNamed B.named
  have hlocks := B.notSynchronized
  subst hsz
  have hD := hD0.self (sz := s.heap.size)
  generalize hAe : va_A (MW ad cI cZ n tip und P own amt s1 s2 tk) s.heap.size = A at hD ⊢
  have hA : ∀ q : Nat, s.heap.size ≤ q → A q := fun q h => by rw [← hAe]; exact Or.inr h
  have hl := lv_entry ([.ref (ad 0), .int (nI a), .int (nI b)]) (n := 5) (Nat.le_of_ble_eq_true rfl)
  rw [lg_entry_eq]
  generalize (lg_sl ([.ref (ad 0), .int (nI a), .int (nI b)]) ++ List.replicate (5 - (lg_sl ([.ref (ad 0), .int (nI a), .int (nI b)])).length) Slot.unset).toArray = ls at hl ⊢
  have hl : lv_has ls 5 [(0, .ref (ad 0)), (1, .int (nI a)), (2, .int (nI b))] := hl
  refine cu_start (fun H locs eH eL => ?_)
  have hP : va_P D vwCl (MW ad cI cZ n tip und P own amt s1 s2 tk) H := by rw [eH]; exact hP
  have hS : va_S A s.heap H locs := by rw [eH, eL]; exact va_S.rf
  have hn20 := h.n20
  refine lv_iconst (v := nI 0) hx hb dX1_meet_0 (by decide) ?_
  refine lv_istore_n (lv' := [(3, .int (nI 0)), (0, .ref (ad 0)), (1, .int (nI a)), (2, .int (nI b))]) hx hb dX1_meet_1 rfl hl (by decide) rfl (fun ls hl => ?_)
  refine lv_iconst (v := nI 0) hx hb dX1_meet_2 (by decide) ?_
  refine lv_istore (lv' := [(4, .int (nI 0)), (3, .int (nI 0)), (0, .ref (ad 0)), (1, .int (nI a)), (2, .int (nI b))]) hx hb dX1_meet_3 hl (by decide) rfl (fun ls hl => ?_)
  refine cu_loop (σ := Nat × Nat) (I := fun (x_ : Nat × Nat) H locs ls => match x_ with | (k, t) => va_P D vwCl (MW ad cI cZ n tip und P own amt s1 s2 tk) H ∧ va_D A (MW ad cI cZ n tip und P own amt s1 s2 tk) ∧ va_S A s.heap H locs ∧ lv_has ls 5 [(0, .ref (ad 0)), (1, .int (nI a)), (2, .int (nI b)), (3, .int (nI t)), (4, .int (nI k))] ∧ (k ≤ n) ∧ (t = cu_mt P a b k)) (μ := fun (x_ : Nat × Nat) => match x_ with | (k, t) => n - k) ?_ (0, 0) ⟨hP, hD, hS, lv_sub hl [2, 3, 4, 1, 0] rfl, Nat.zero_le n, rfl⟩
  rintro ⟨k, t⟩ H locs ls ⟨hP, hD, hS, hl, ⟨hkn, ht9⟩⟩ ih
  refine lv_iload hx hb dX1_meet_5 (lv_at hl 4 rfl) ?_
  refine lv_aload_n hx hb dX1_meet_7 rfl (lv_at hl 0 rfl) ?_
  refine va_get (D := D) (ci := 1) (v := .int (nI n)) (C := RX1) (T := TX1) (N := 9) hx hb hts in_X1 hown hK hP 0 rfl rfl 0 (by decide) (hts _ q169) (fun _ h9 => h9) rfl dX1_meet_8 ?_
  refine cu_icmp_ge (tgt := 43) (j := k) (k := n) (by omega) (by omega) hx hb dX1_meet_11 (by decide) (fun c11 => ?_) (fun c11 => ?_)
  · refine lv_iload_n hx hb dX1_meet_43 rfl (lv_at hl 3 rfl) ?_
    exact W.iret (v := nI t) hx hb hr (fun t_ ht_ hW => ⟨⟨nI t, (), rfl, by rw [ht9, show k = n from by omega], by rw [ht_]; exact hP, va_K.moved hW.alike hK, hD⟩, hS.F ht_⟩) hS.2.2 dX1_meet_44
  · refine lv_aload_n hx hb dX1_meet_14 rfl (lv_at hl 0 rfl) ?_
    refine lv_iload hx hb dX1_meet_15 (lv_at hl 4 rfl) ?_
    refine lv_iload_n hx hb dX1_meet_17 rfl (lv_at hl 1 rfl) ?_
    refine cu_calli (As := [.int (nI k), .int (nI a)]) (rest := []) (mM_inBranch l D ad cI cZ H.size n tip und P lev own amt s1 s2 tk k a h (by omega) ha9) ⟨hx, hb, hml, hown, hts⟩ (cwV 2 hts (lw_V q218 q220 qs14 q19 q221) rfl rfl rfl (by decide +kernel) ⟨Nat.le_of_ble_eq_true rfl, Nat.le_of_ble_eq_true rfl⟩) hK hP hD hS hA (ci := 1) rfl rfl ⟨Nat.le_of_ble_eq_true rfl, Nat.le_of_ble_eq_true rfl⟩ rfl hl.1 rfl (Nat.le_of_ble_eq_true rfl) dX1_meet_18 (fun r18 u18 H locs hw18 hP hD hS => ?_)
    obtain rfl : r18 = cu_bI (cu_An P k a) := hw18
    have hP : va_P D vwCl (MW ad cI cZ n tip und P own amt s1 s2 tk) H := hP
    have hD : va_D A (MW ad cI cZ n tip und P own amt s1 s2 tk) := hD
    refine cuB_if_eq (tgt := 37) hx hb dX1_meet_21 (by decide) (fun c21 => ?_) (fun c21 => ?_)
    · refine lv_iinc (v := nI (k + 1)) (lv' := [(4, .int (nI (k + 1))), (0, .ref (ad 0)), (1, .int (nI a)), (2, .int (nI b)), (3, .int (nI t))]) hx hb dX1_meet_37 hl (k := 4) rfl (cu_inc _) (by decide) rfl (fun ls hl => ?_)
      refine lv_goto (tgt := 5) hx hb dX1_meet_40 (by decide) ?_
      exact ih (k + 1, t) _ _ _ ⟨hP, hD, hS, lv_sub hl [1, 2, 3, 4, 0] rfl, by omega, by rw [cu_mt, if_neg (fun z => absurd (c21.symm.trans z.1) (by decide)), ht9]⟩ (show n - (k + 1) < n - k by omega)
    · refine lv_aload_n hx hb dX1_meet_24 rfl (lv_at hl 0 rfl) ?_
      refine lv_iload hx hb dX1_meet_25 (lv_at hl 4 rfl) ?_
      refine lv_iload_n hx hb dX1_meet_27 rfl (lv_at hl 2 rfl) ?_
      refine cu_calli (As := [.int (nI k), .int (nI b)]) (rest := []) (mM_inBranch l D ad cI cZ H.size n tip und P lev own amt s1 s2 tk k b h (by omega) hb9) ⟨hx, hb, hml, hown, hts⟩ (cwV 2 hts (lw_V q218 q220 qs14 q19 q221) rfl rfl rfl (by decide +kernel) ⟨Nat.le_of_ble_eq_true rfl, Nat.le_of_ble_eq_true rfl⟩) hK hP hD hS hA (ci := 1) rfl rfl ⟨Nat.le_of_ble_eq_true rfl, Nat.le_of_ble_eq_true rfl⟩ rfl hl.1 rfl (Nat.le_of_ble_eq_true rfl) dX1_meet_28 (fun r28 u28 H locs hw28 hP hD hS => ?_)
      obtain rfl : r28 = cu_bI (cu_An P k b) := hw28
      have hP : va_P D vwCl (MW ad cI cZ n tip und P own amt s1 s2 tk) H := hP
      have hD : va_D A (MW ad cI cZ n tip und P own amt s1 s2 tk) := hD
      refine cuB_if_eq (tgt := 37) hx hb dX1_meet_31 (by decide) (fun c31 => ?_) (fun c31 => ?_)
      · refine lv_iinc (v := nI (k + 1)) (lv' := [(4, .int (nI (k + 1))), (0, .ref (ad 0)), (1, .int (nI a)), (2, .int (nI b)), (3, .int (nI t))]) hx hb dX1_meet_37 hl (k := 4) rfl (cu_inc _) (by decide) rfl (fun ls hl => ?_)
        refine lv_goto (tgt := 5) hx hb dX1_meet_40 (by decide) ?_
        exact ih (k + 1, t) _ _ _ ⟨hP, hD, hS, lv_sub hl [1, 2, 3, 4, 0] rfl, by omega, by rw [cu_mt, if_neg (fun z => absurd (c31.symm.trans z.2) (by decide)), ht9]⟩ (show n - (k + 1) < n - k by omega)
      · refine lv_iload hx hb dX1_meet_34 (lv_at hl 4 rfl) ?_
        refine lv_istore_n (lv' := [(3, .int (nI k)), (0, .ref (ad 0)), (1, .int (nI a)), (2, .int (nI b)), (4, .int (nI k))]) hx hb dX1_meet_36 rfl hl (by decide) rfl (fun ls hl => ?_)
        refine lv_iinc (v := nI (k + 1)) (lv' := [(4, .int (nI (k + 1))), (3, .int (nI k)), (0, .ref (ad 0)), (1, .int (nI a)), (2, .int (nI b))]) hx hb dX1_meet_37 hl (k := 4) rfl (cu_inc _) (by decide) rfl (fun ls hl => ?_)
        refine lv_goto (tgt := 5) hx hb dX1_meet_40 (by decide) ?_
        exact ih (k + 1, k) _ _ _ ⟨hP, hD, hS, lv_sub hl [2, 3, 4, 1, 0] rfl, by omega, by rw [cu_mt, if_pos ⟨c21, c31⟩]⟩ (show n - (k + 1) < n - k by omega)
end
section
/-! contracts: printed by gen/make.py -/
set_option maxHeartbeats 4000000 in
set_option maxRecDepth 100000 in
theorem mM_addBlock (l : Launch) (D : va_G) (ad : Nat → Nat) (cI cZ : ClassId) (sz : Nat) (n tip : Nat) (und : Int32) (P lev own amt : Nat → Nat) (s1 s2 tk : Nat → Int32) (a o mm : Nat) (x y : Int32) (h : cu_OK n P lev own amt s1 s2) (ht : tip < n) (hn : n < 20) (ha : a < n) (hok : cu_OK (n + 1) (cu_up P n a) (cu_up lev n (lev a + 1)) (cu_up own n o) (cu_up amt n mm) (upd s1 n x) (upd s2 n y)) : Met l yX1_addBlock (ws_ yX1_addBlock cX1_addBlock 7 (some .int)) ({ frames := 2, cells := 0, slots := 0, locals := 48 }) (va_Pc [.ref (ad 0), .int (nI a), .int (nI o), .int (nI mm), .int x, .int y] (cu_In D vwCl (MT cI cZ) (MW ad cI cZ n tip und P own amt s1 s2 tk) sz)) (va_Qi (fun (r : Int32) (u : Unit) => r = nI n) (fun u => cu_Out D vwCl (MT cI cZ) (va_A (MW ad cI cZ n tip und P own amt s1 s2 tk) sz) (MS ad cI cZ (cu_add (n, tip, und, P, lev, own, amt, s1, s2) a o mm x y) tk)) (va_A (MW ad cI cZ n tip und P own amt s1 s2 tk) sz)) 0 0 (va_A (MW ad cI cZ n tip und P own amt s1 s2 tk) sz) := by
  refine Met.ofW (cc := cX1_addBlock) (maxL := 7) (ret := (some .int)) (by decide) rfl ?_
  intro p e s m args below meth c s₁ B hml hv
  obtain ⟨rfl, hsz, hP, hK, hD0⟩ := hv
  have hx := B.exec
  have hb := B.bytes
  have hr := B.returns
  have hts := atoms_spec (ws := ws_ yX1_addBlock cX1_addBlock 7 (some .int)) B.pre
  have hts : ∀ w ∈ lw_all, w.before _ s = true := fun w h => hts w (List.mem_cons_of_mem _ h)
  have hown : s.vm.findClass RX1 = some m.cls := findClass_of_methodNamed B.named
  have hlocks := B.notSynchronized
  subst hsz
  have hD := hD0.self (sz := s.heap.size)
  generalize hAe : va_A (MW ad cI cZ n tip und P own amt s1 s2 tk) s.heap.size = A at hD ⊢
  have hA : ∀ q : Nat, s.heap.size ≤ q → A q := fun q h => by rw [← hAe]; exact Or.inr h
  have hl := lv_entry ([.ref (ad 0), .int (nI a), .int (nI o), .int (nI mm), .int x, .int y]) (n := 7) (Nat.le_of_ble_eq_true rfl)
  rw [lg_entry_eq]
  generalize (lg_sl ([.ref (ad 0), .int (nI a), .int (nI o), .int (nI mm), .int x, .int y]) ++ List.replicate (7 - (lg_sl ([.ref (ad 0), .int (nI a), .int (nI o), .int (nI mm), .int x, .int y])).length) Slot.unset).toArray = ls at hl ⊢
  have hl : lv_has ls 7 [(0, .ref (ad 0)), (1, .int (nI a)), (2, .int (nI o)), (3, .int (nI mm)), (4, .int x), (5, .int y)] := hl
  refine cu_start (fun H locs eH eL => ?_)
  have hP : va_P D vwCl (MW ad cI cZ n tip und P own amt s1 s2 tk) H := by rw [eH]; exact hP
  have hS : va_S A s.heap H locs := by rw [eH, eL]; exact va_S.rf
  have hn20 := h.n20
  have h1n := h.1
  have hla := h.lev_le a ha
  have hlt := h.lev_le tip ht
  refine lv_aload_n hx hb dX1_addBlock_0 rfl (lv_at hl 0 rfl) ?_
  refine va_get (D := D) (ci := 1) (v := .ref (ad 1)) (C := RX1) (T := TX1) (N := 9) hx hb hts in_X1 hown hK hP 0 rfl rfl 1 (by decide) (hts _ q170) (fun _ h9 => h9) rfl dX1_addBlock_1 ?_
  refine lv_aload_n hx hb dX1_addBlock_4 rfl (lv_at hl 0 rfl) ?_
  refine va_get (D := D) (ci := 1) (v := .int (nI n)) (C := RX1) (T := TX1) (N := 9) hx hb hts in_X1 hown hK hP 0 rfl rfl 0 (by decide) (hts _ q169) (fun _ h9 => h9) rfl dX1_addBlock_5 ?_
  refine lv_iload_n hx hb dX1_addBlock_8 rfl (lv_at hl 1 rfl) ?_
  refine cu_iast (f' := cu_MP (cu_up P n a)) hx hb hK hP hD hS 1 0 rfl rfl n (by omega) (Nat.le_of_ble_eq_true rfl) (cu_MP_up P (by omega)) dX1_addBlock_9 (fun H locs hP hD hS => ?_)
  have hP : va_P D vwCl (MW ad cI cZ n tip und (cu_up P n a) own amt s1 s2 tk) H := hP
  have hD : va_D A (MW ad cI cZ n tip und (cu_up P n a) own amt s1 s2 tk) := hD
  refine lv_aload_n hx hb dX1_addBlock_10 rfl (lv_at hl 0 rfl) ?_
  refine va_get (D := D) (ci := 1) (v := .ref (ad 2)) (C := RX1) (T := TX1) (N := 9) hx hb hts in_X1 hown hK hP 0 rfl rfl 2 (by decide) (hts _ q171) (fun _ h9 => h9) rfl dX1_addBlock_11 ?_
  refine lv_aload_n hx hb dX1_addBlock_14 rfl (lv_at hl 0 rfl) ?_
  refine va_get (D := D) (ci := 1) (v := .int (nI n)) (C := RX1) (T := TX1) (N := 9) hx hb hts in_X1 hown hK hP 0 rfl rfl 0 (by decide) (hts _ q169) (fun _ h9 => h9) rfl dX1_addBlock_15 ?_
  refine lv_iload_n hx hb dX1_addBlock_18 rfl (lv_at hl 2 rfl) ?_
  refine cu_iast (f' := fun j => nI ((cu_up own n o) j)) hx hb hK hP hD hS 2 0 rfl rfl n (by omega) (Nat.le_of_ble_eq_true rfl) (cu_up_nI _ _ _) dX1_addBlock_19 (fun H locs hP hD hS => ?_)
  have hP : va_P D vwCl (MW ad cI cZ n tip und (cu_up P n a) (cu_up own n o) amt s1 s2 tk) H := hP
  have hD : va_D A (MW ad cI cZ n tip und (cu_up P n a) (cu_up own n o) amt s1 s2 tk) := hD
  refine lv_aload_n hx hb dX1_addBlock_20 rfl (lv_at hl 0 rfl) ?_
  refine va_get (D := D) (ci := 1) (v := .ref (ad 3)) (C := RX1) (T := TX1) (N := 9) hx hb hts in_X1 hown hK hP 0 rfl rfl 3 (by decide) (hts _ q172) (fun _ h9 => h9) rfl dX1_addBlock_21 ?_
  refine lv_aload_n hx hb dX1_addBlock_24 rfl (lv_at hl 0 rfl) ?_
  refine va_get (D := D) (ci := 1) (v := .int (nI n)) (C := RX1) (T := TX1) (N := 9) hx hb hts in_X1 hown hK hP 0 rfl rfl 0 (by decide) (hts _ q169) (fun _ h9 => h9) rfl dX1_addBlock_25 ?_
  refine lv_iload_n hx hb dX1_addBlock_28 rfl (lv_at hl 3 rfl) ?_
  refine cu_iast (f' := fun j => nI ((cu_up amt n mm) j)) hx hb hK hP hD hS 3 0 rfl rfl n (by omega) (Nat.le_of_ble_eq_true rfl) (cu_up_nI _ _ _) dX1_addBlock_29 (fun H locs hP hD hS => ?_)
  have hP : va_P D vwCl (MW ad cI cZ n tip und (cu_up P n a) (cu_up own n o) (cu_up amt n mm) s1 s2 tk) H := hP
  have hD : va_D A (MW ad cI cZ n tip und (cu_up P n a) (cu_up own n o) (cu_up amt n mm) s1 s2 tk) := hD
  refine lv_aload_n hx hb dX1_addBlock_30 rfl (lv_at hl 0 rfl) ?_
  refine va_get (D := D) (ci := 1) (v := .ref (ad 4)) (C := RX1) (T := TX1) (N := 9) hx hb hts in_X1 hown hK hP 0 rfl rfl 4 (by decide) (hts _ q173) (fun _ h9 => h9) rfl dX1_addBlock_31 ?_
  refine lv_aload_n hx hb dX1_addBlock_34 rfl (lv_at hl 0 rfl) ?_
  refine va_get (D := D) (ci := 1) (v := .int (nI n)) (C := RX1) (T := TX1) (N := 9) hx hb hts in_X1 hown hK hP 0 rfl rfl 0 (by decide) (hts _ q169) (fun _ h9 => h9) rfl dX1_addBlock_35 ?_
  refine lv_iload hx hb dX1_addBlock_38 (lv_at hl 4 rfl) ?_
  refine cu_iast (f' := upd s1 n x) hx hb hK hP hD hS 4 0 rfl rfl n (by omega) (Nat.le_of_ble_eq_true rfl) rfl dX1_addBlock_40 (fun H locs hP hD hS => ?_)
  have hP : va_P D vwCl (MW ad cI cZ n tip und (cu_up P n a) (cu_up own n o) (cu_up amt n mm) (upd s1 n x) s2 tk) H := hP
  have hD : va_D A (MW ad cI cZ n tip und (cu_up P n a) (cu_up own n o) (cu_up amt n mm) (upd s1 n x) s2 tk) := hD
  refine lv_aload_n hx hb dX1_addBlock_41 rfl (lv_at hl 0 rfl) ?_
  refine va_get (D := D) (ci := 1) (v := .ref (ad 5)) (C := RX1) (T := TX1) (N := 9) hx hb hts in_X1 hown hK hP 0 rfl rfl 5 (by decide) (hts _ q174) (fun _ h9 => h9) rfl dX1_addBlock_42 ?_
  refine lv_aload_n hx hb dX1_addBlock_45 rfl (lv_at hl 0 rfl) ?_
  refine va_get (D := D) (ci := 1) (v := .int (nI n)) (C := RX1) (T := TX1) (N := 9) hx hb hts in_X1 hown hK hP 0 rfl rfl 0 (by decide) (hts _ q169) (fun _ h9 => h9) rfl dX1_addBlock_46 ?_
  refine lv_iload hx hb dX1_addBlock_49 (lv_at hl 5 rfl) ?_
  refine cu_iast (f' := upd s2 n y) hx hb hK hP hD hS 5 0 rfl rfl n (by omega) (Nat.le_of_ble_eq_true rfl) rfl dX1_addBlock_51 (fun H locs hP hD hS => ?_)
  have hP : va_P D vwCl (MW ad cI cZ n tip und (cu_up P n a) (cu_up own n o) (cu_up amt n mm) (upd s1 n x) (upd s2 n y) tk) H := hP
  have hD : va_D A (MW ad cI cZ n tip und (cu_up P n a) (cu_up own n o) (cu_up amt n mm) (upd s1 n x) (upd s2 n y) tk) := hD
  refine lv_aload_n hx hb dX1_addBlock_52 rfl (lv_at hl 0 rfl) ?_
  refine lv_dup hx hb dX1_addBlock_53 rfl ?_
  refine va_get (D := D) (ci := 1) (v := .int (nI n)) (C := RX1) (T := TX1) (N := 9) hx hb hts in_X1 hown hK hP 0 rfl rfl 0 (by decide) (hts _ q169) (fun _ h9 => h9) rfl dX1_addBlock_54 ?_
  refine lv_iconst (v := nI 1) hx hb dX1_addBlock_57 (by decide) ?_
  refine lv_iadd hx hb dX1_addBlock_58 ?_
  refine cu_top (y := nI (n + 1)) (nI_add _ _) ?_
  refine va_put (D := D) (ci := 1) (v := .int (nI (n + 1))) (ty := .int) (C := RX1) (T := TX1) (N := 9) hx hb hts in_X1 tyX1 tyX1_ok nmX1 hown hK hP hD hS 0 rfl rfl 0 (by decide) (hts _ q169) (fun _ h9 => h9) rfl (by decide +kernel) rfl rfl (Nat.le_of_ble_eq_true rfl) dX1_addBlock_59 (fun H locs hP hD hS => ?_)
  have hP : va_P D vwCl (MW ad cI cZ (n + 1) tip und (cu_up P n a) (cu_up own n o) (cu_up amt n mm) (upd s1 n x) (upd s2 n y) tk) H := hP
  have hD : va_D A (MW ad cI cZ (n + 1) tip und (cu_up P n a) (cu_up own n o) (cu_up amt n mm) (upd s1 n x) (upd s2 n y) tk) := hD
  have e1 : cu_up lev n (lev a + 1) n = lev a + 1 := cu_up_s _ _ _
  have e2 : cu_up lev n (lev a + 1) tip = lev tip := cu_up_n _ _ (by omega)
  refine lv_aload_n hx hb dX1_addBlock_62 rfl (lv_at hl 0 rfl) ?_
  refine lv_aload_n hx hb dX1_addBlock_63 rfl (lv_at hl 0 rfl) ?_
  refine va_get (D := D) (ci := 1) (v := .int (nI (n + 1))) (C := RX1) (T := TX1) (N := 9) hx hb hts in_X1 hown hK hP 0 rfl rfl 0 (by decide) (hts _ q169) (fun _ h9 => h9) rfl dX1_addBlock_64 ?_
  refine lv_iconst (v := nI 1) hx hb dX1_addBlock_67 (by decide) ?_
  refine lv_isub hx hb dX1_addBlock_68 ?_
  refine cu_top (y := nI n) (cu_p1 n) ?_
  refine cu_calli (As := [.int (nI n)]) (rest := []) (mM_heightOf l D ad cI cZ H.size (n + 1) tip und (cu_up P n a) (cu_up lev n (lev a + 1)) (cu_up own n o) (cu_up amt n mm) (upd s1 n x) (upd s2 n y) tk n hok (by omega)) ⟨hx, hb, hml, hown, hts⟩ (cwV 1 hts (lw_V q210 q212 qs12 q19 q213) rfl rfl rfl (by decide +kernel) ⟨Nat.le_of_ble_eq_true rfl, Nat.le_of_ble_eq_true rfl⟩) hK hP hD hS hA (ci := 1) rfl rfl ⟨Nat.le_of_ble_eq_true rfl, Nat.le_of_ble_eq_true rfl⟩ rfl hl.1 rfl (Nat.le_of_ble_eq_true rfl) dX1_addBlock_69 (fun r69 u69 H locs hw69 hP hD hS => ?_)
  obtain rfl : r69 = nI ((cu_up lev n (lev a + 1)) n) := hw69
  have hP : va_P D vwCl (MW ad cI cZ (n + 1) tip und (cu_up P n a) (cu_up own n o) (cu_up amt n mm) (upd s1 n x) (upd s2 n y) tk) H := hP
  have hD : va_D A (MW ad cI cZ (n + 1) tip und (cu_up P n a) (cu_up own n o) (cu_up amt n mm) (upd s1 n x) (upd s2 n y) tk) := hD
  refine lv_aload_n hx hb dX1_addBlock_72 rfl (lv_at hl 0 rfl) ?_
  refine lv_aload_n hx hb dX1_addBlock_73 rfl (lv_at hl 0 rfl) ?_
  refine va_get (D := D) (ci := 1) (v := .int (nI tip)) (C := RX1) (T := TX1) (N := 9) hx hb hts in_X1 hown hK hP 0 rfl rfl 7 (by decide) (hts _ q176) (fun _ h9 => h9) rfl dX1_addBlock_74 ?_
  refine cu_calli (As := [.int (nI tip)]) (rest := [.int (nI ((cu_up lev n (lev a + 1)) n))]) (mM_heightOf l D ad cI cZ H.size (n + 1) tip und (cu_up P n a) (cu_up lev n (lev a + 1)) (cu_up own n o) (cu_up amt n mm) (upd s1 n x) (upd s2 n y) tk tip hok (by omega)) ⟨hx, hb, hml, hown, hts⟩ (cwV 1 hts (lw_V q210 q212 qs12 q19 q213) rfl rfl rfl (by decide +kernel) ⟨Nat.le_of_ble_eq_true rfl, Nat.le_of_ble_eq_true rfl⟩) hK hP hD hS hA (ci := 1) rfl rfl ⟨Nat.le_of_ble_eq_true rfl, Nat.le_of_ble_eq_true rfl⟩ rfl hl.1 rfl (Nat.le_of_ble_eq_true rfl) dX1_addBlock_77 (fun r77 u77 H locs hw77 hP hD hS => ?_)
  obtain rfl : r77 = nI ((cu_up lev n (lev a + 1)) tip) := hw77
  have hP : va_P D vwCl (MW ad cI cZ (n + 1) tip und (cu_up P n a) (cu_up own n o) (cu_up amt n mm) (upd s1 n x) (upd s2 n y) tk) H := hP
  have hD : va_D A (MW ad cI cZ (n + 1) tip und (cu_up P n a) (cu_up own n o) (cu_up amt n mm) (upd s1 n x) (upd s2 n y) tk) := hD
  refine cu_icmp_le (tgt := 128) (j := (cu_up lev n (lev a + 1)) n) (k := (cu_up lev n (lev a + 1)) tip) (by omega) (by omega) hx hb dX1_addBlock_80 (by decide) (fun c80 => ?_) (fun c80 => ?_)
  · refine lv_aload_n hx hb dX1_addBlock_128 rfl (lv_at hl 0 rfl) ?_
    refine va_get (D := D) (ci := 1) (v := .int (nI (n + 1))) (C := RX1) (T := TX1) (N := 9) hx hb hts in_X1 hown hK hP 0 rfl rfl 0 (by decide) (hts _ q169) (fun _ h9 => h9) rfl dX1_addBlock_129 ?_
    refine lv_iconst (v := nI 1) hx hb dX1_addBlock_132 (by decide) ?_
    refine lv_isub hx hb dX1_addBlock_133 ?_
    refine cu_top (y := nI n) (cu_p1 n) ?_
    exact W.iret (v := nI n) hx hb hr (fun t_ ht_ hW => ⟨⟨nI n, (), rfl, rfl, by rw [ht_]; exact (by rw [cu_add_f (by omega)]; exact hP), va_K.moved hW.alike hK, (by rw [cu_add_f (by omega)]; exact hD)⟩, hS.F ht_⟩) hS.2.2 dX1_addBlock_134
  · have hmn := cu_mt_lt (P := cu_up P n a) (a := tip) (b := n) (n + 1) (by omega)
    have hml9 : cu_up lev n (lev a + 1) (cu_mt (cu_up P n a) tip n (n + 1)) ≤ cu_up lev n (lev a + 1) tip := by
      rcases cu_An_lev hok tip (by omega) (cu_mt_An hok (a := tip) (b := n) (by omega) (by omega)).1 with z | z
      · rw [z]; exact Nat.le_refl _
      · exact Nat.le_of_lt z
    refine lv_aload_n hx hb dX1_addBlock_83 rfl (lv_at hl 0 rfl) ?_
    refine lv_aload_n hx hb dX1_addBlock_84 rfl (lv_at hl 0 rfl) ?_
    refine va_get (D := D) (ci := 1) (v := .int (nI tip)) (C := RX1) (T := TX1) (N := 9) hx hb hts in_X1 hown hK hP 0 rfl rfl 7 (by decide) (hts _ q176) (fun _ h9 => h9) rfl dX1_addBlock_85 ?_
    refine lv_aload_n hx hb dX1_addBlock_88 rfl (lv_at hl 0 rfl) ?_
    refine va_get (D := D) (ci := 1) (v := .int (nI (n + 1))) (C := RX1) (T := TX1) (N := 9) hx hb hts in_X1 hown hK hP 0 rfl rfl 0 (by decide) (hts _ q169) (fun _ h9 => h9) rfl dX1_addBlock_89 ?_
    refine lv_iconst (v := nI 1) hx hb dX1_addBlock_92 (by decide) ?_
    refine lv_isub hx hb dX1_addBlock_93 ?_
    refine cu_top (y := nI n) (cu_p1 n) ?_
    refine cu_calli (As := [.int (nI tip), .int (nI n)]) (rest := []) (mM_meet l D ad cI cZ H.size (n + 1) tip und (cu_up P n a) (cu_up lev n (lev a + 1)) (cu_up own n o) (cu_up amt n mm) (upd s1 n x) (upd s2 n y) tk tip n hok (by omega) (by omega)) ⟨hx, hb, hml, hown, hts⟩ (cwV 2 hts (lw_V q214 q216 qs13 q19 q217) rfl rfl rfl (by decide +kernel) ⟨Nat.le_of_ble_eq_true rfl, Nat.le_of_ble_eq_true rfl⟩) hK hP hD hS hA (ci := 1) rfl rfl ⟨Nat.le_of_ble_eq_true rfl, Nat.le_of_ble_eq_true rfl⟩ rfl hl.1 rfl (Nat.le_of_ble_eq_true rfl) dX1_addBlock_94 (fun r94 u94 H locs hw94 hP hD hS => ?_)
    obtain rfl : r94 = nI (cu_mt (cu_up P n a) tip n (n + 1)) := hw94
    have hP : va_P D vwCl (MW ad cI cZ (n + 1) tip und (cu_up P n a) (cu_up own n o) (cu_up amt n mm) (upd s1 n x) (upd s2 n y) tk) H := hP
    have hD : va_D A (MW ad cI cZ (n + 1) tip und (cu_up P n a) (cu_up own n o) (cu_up amt n mm) (upd s1 n x) (upd s2 n y) tk) := hD
    refine lv_istore (lv' := [(6, .int (nI (cu_mt (cu_up P n a) tip n (n + 1)))), (0, .ref (ad 0)), (1, .int (nI a)), (2, .int (nI o)), (3, .int (nI mm)), (4, .int x), (5, .int y)]) hx hb dX1_addBlock_97 hl (by decide) rfl (fun ls hl => ?_)
    refine lv_aload_n hx hb dX1_addBlock_99 rfl (lv_at hl 1 rfl) ?_
    refine lv_aload_n hx hb dX1_addBlock_100 rfl (lv_at hl 1 rfl) ?_
    refine lv_aload_n hx hb dX1_addBlock_101 rfl (lv_at hl 1 rfl) ?_
    refine va_get (D := D) (ci := 1) (v := .int (nI tip)) (C := RX1) (T := TX1) (N := 9) hx hb hts in_X1 hown hK hP 0 rfl rfl 7 (by decide) (hts _ q176) (fun _ h9 => h9) rfl dX1_addBlock_102 ?_
    refine cu_calli (As := [.int (nI tip)]) (rest := [.ref (ad 0)]) (mM_heightOf l D ad cI cZ H.size (n + 1) tip und (cu_up P n a) (cu_up lev n (lev a + 1)) (cu_up own n o) (cu_up amt n mm) (upd s1 n x) (upd s2 n y) tk tip hok (by omega)) ⟨hx, hb, hml, hown, hts⟩ (cwV 1 hts (lw_V q210 q212 qs12 q19 q213) rfl rfl rfl (by decide +kernel) ⟨Nat.le_of_ble_eq_true rfl, Nat.le_of_ble_eq_true rfl⟩) hK hP hD hS hA (ci := 1) rfl rfl ⟨Nat.le_of_ble_eq_true rfl, Nat.le_of_ble_eq_true rfl⟩ rfl hl.1 rfl (Nat.le_of_ble_eq_true rfl) dX1_addBlock_105 (fun r105 u105 H locs hw105 hP hD hS => ?_)
    obtain rfl : r105 = nI ((cu_up lev n (lev a + 1)) tip) := hw105
    have hP : va_P D vwCl (MW ad cI cZ (n + 1) tip und (cu_up P n a) (cu_up own n o) (cu_up amt n mm) (upd s1 n x) (upd s2 n y) tk) H := hP
    have hD : va_D A (MW ad cI cZ (n + 1) tip und (cu_up P n a) (cu_up own n o) (cu_up amt n mm) (upd s1 n x) (upd s2 n y) tk) := hD
    refine lv_aload_n hx hb dX1_addBlock_108 rfl (lv_at hl 1 rfl) ?_
    refine lv_iload hx hb dX1_addBlock_109 (lv_at hl 0 rfl) ?_
    refine cu_calli (As := [.int (nI (cu_mt (cu_up P n a) tip n (n + 1)))]) (rest := [.int (nI ((cu_up lev n (lev a + 1)) tip)), .ref (ad 0)]) (mM_heightOf l D ad cI cZ H.size (n + 1) tip und (cu_up P n a) (cu_up lev n (lev a + 1)) (cu_up own n o) (cu_up amt n mm) (upd s1 n x) (upd s2 n y) tk (cu_mt (cu_up P n a) tip n (n + 1)) hok (by omega)) ⟨hx, hb, hml, hown, hts⟩ (cwV 1 hts (lw_V q210 q212 qs12 q19 q213) rfl rfl rfl (by decide +kernel) ⟨Nat.le_of_ble_eq_true rfl, Nat.le_of_ble_eq_true rfl⟩) hK hP hD hS hA (ci := 1) rfl rfl ⟨Nat.le_of_ble_eq_true rfl, Nat.le_of_ble_eq_true rfl⟩ rfl hl.1 rfl (Nat.le_of_ble_eq_true rfl) dX1_addBlock_111 (fun r111 u111 H locs hw111 hP hD hS => ?_)
    obtain rfl : r111 = nI ((cu_up lev n (lev a + 1)) (cu_mt (cu_up P n a) tip n (n + 1))) := hw111
    have hP : va_P D vwCl (MW ad cI cZ (n + 1) tip und (cu_up P n a) (cu_up own n o) (cu_up amt n mm) (upd s1 n x) (upd s2 n y) tk) H := hP
    have hD : va_D A (MW ad cI cZ (n + 1) tip und (cu_up P n a) (cu_up own n o) (cu_up amt n mm) (upd s1 n x) (upd s2 n y) tk) := hD
    refine lv_isub hx hb dX1_addBlock_114 ?_
    refine cu_top (y := nI (((cu_up lev n (lev a + 1)) tip) - ((cu_up lev n (lev a + 1)) (cu_mt (cu_up P n a) tip n (n + 1))))) (pk_sub (by omega)) ?_
    refine va_put (D := D) (ci := 1) (v := .int (nI (((cu_up lev n (lev a + 1)) tip) - ((cu_up lev n (lev a + 1)) (cu_mt (cu_up P n a) tip n (n + 1)))))) (ty := .int) (C := RX1) (T := TX1) (N := 9) hx hb hts in_X1 tyX1 tyX1_ok nmX1 hown hK hP hD hS 0 rfl rfl 8 (by decide) (hts _ q177) (fun _ h9 => h9) rfl (by decide +kernel) rfl rfl (Nat.le_of_ble_eq_true rfl) dX1_addBlock_115 (fun H locs hP hD hS => ?_)
    have hP : va_P D vwCl (MW ad cI cZ (n + 1) tip (nI (((cu_up lev n (lev a + 1)) tip) - ((cu_up lev n (lev a + 1)) (cu_mt (cu_up P n a) tip n (n + 1))))) (cu_up P n a) (cu_up own n o) (cu_up amt n mm) (upd s1 n x) (upd s2 n y) tk) H := hP
    have hD : va_D A (MW ad cI cZ (n + 1) tip (nI (((cu_up lev n (lev a + 1)) tip) - ((cu_up lev n (lev a + 1)) (cu_mt (cu_up P n a) tip n (n + 1))))) (cu_up P n a) (cu_up own n o) (cu_up amt n mm) (upd s1 n x) (upd s2 n y) tk) := hD
    refine lv_aload_n hx hb dX1_addBlock_118 rfl (lv_at hl 1 rfl) ?_
    refine lv_aload_n hx hb dX1_addBlock_119 rfl (lv_at hl 1 rfl) ?_
    refine va_get (D := D) (ci := 1) (v := .int (nI (n + 1))) (C := RX1) (T := TX1) (N := 9) hx hb hts in_X1 hown hK hP 0 rfl rfl 0 (by decide) (hts _ q169) (fun _ h9 => h9) rfl dX1_addBlock_120 ?_
    refine lv_iconst (v := nI 1) hx hb dX1_addBlock_123 (by decide) ?_
    refine lv_isub hx hb dX1_addBlock_124 ?_
    refine cu_top (y := nI n) (cu_p1 n) ?_
    refine va_put (D := D) (ci := 1) (v := .int (nI n)) (ty := .int) (C := RX1) (T := TX1) (N := 9) hx hb hts in_X1 tyX1 tyX1_ok nmX1 hown hK hP hD hS 0 rfl rfl 7 (by decide) (hts _ q176) (fun _ h9 => h9) rfl (by decide +kernel) rfl rfl (Nat.le_of_ble_eq_true rfl) dX1_addBlock_125 (fun H locs hP hD hS => ?_)
    have hP : va_P D vwCl (MW ad cI cZ (n + 1) n (nI (((cu_up lev n (lev a + 1)) tip) - ((cu_up lev n (lev a + 1)) (cu_mt (cu_up P n a) tip n (n + 1))))) (cu_up P n a) (cu_up own n o) (cu_up amt n mm) (upd s1 n x) (upd s2 n y) tk) H := hP
    have hD : va_D A (MW ad cI cZ (n + 1) n (nI (((cu_up lev n (lev a + 1)) tip) - ((cu_up lev n (lev a + 1)) (cu_mt (cu_up P n a) tip n (n + 1))))) (cu_up P n a) (cu_up own n o) (cu_up amt n mm) (upd s1 n x) (upd s2 n y) tk) := hD
    refine lv_aload_n hx hb dX1_addBlock_128 rfl (lv_at hl 1 rfl) ?_
    refine va_get (D := D) (ci := 1) (v := .int (nI (n + 1))) (C := RX1) (T := TX1) (N := 9) hx hb hts in_X1 hown hK hP 0 rfl rfl 0 (by decide) (hts _ q169) (fun _ h9 => h9) rfl dX1_addBlock_129 ?_
    refine lv_iconst (v := nI 1) hx hb dX1_addBlock_132 (by decide) ?_
    refine lv_isub hx hb dX1_addBlock_133 ?_
    refine cu_top (y := nI n) (cu_p1 n) ?_
    exact W.iret (v := nI n) hx hb hr (fun t_ ht_ hW => ⟨⟨nI n, (), rfl, rfl, by rw [ht_]; exact (by rw [cu_add_t (by omega)]; exact hP), va_K.moved hW.alike hK, (by rw [cu_add_t (by omega)]; exact hD)⟩, hS.F ht_⟩) hS.2.2 dX1_addBlock_134
set_option maxHeartbeats 4000000 in
set_option maxRecDepth 100000 in
theorem mM_mint (l : Launch) (D : va_G) (ad : Nat → Nat) (cI cZ : ClassId) (sz : Nat) (n tip : Nat) (und : Int32) (P lev own amt : Nat → Nat) (s1 s2 tk : Nat → Int32) (pp oo aa : Int32) (h : cu_OK n P lev own amt s1 s2) (ht : tip < n) : Met l yX1_mint (ws_ yX1_mint cX1_mint 4 (some .int)) ({ frames := 3, cells := 0, slots := 0, locals := 74 }) (va_Pc [.ref (ad 0), .int pp, .int oo, .int aa] (cu_In D vwCl (MT cI cZ) (MW ad cI cZ n tip und P own amt s1 s2 tk) sz)) (va_Qi (fun (r : Int32) (u : Unit) => r = (cu_mint (n, tip, und, P, lev, own, amt, s1, s2) pp oo aa).1) (fun u => cu_Out D vwCl (MT cI cZ) (va_A (MW ad cI cZ n tip und P own amt s1 s2 tk) sz) (MS ad cI cZ (cu_mint (n, tip, und, P, lev, own, amt, s1, s2) pp oo aa).2 tk)) (va_A (MW ad cI cZ n tip und P own amt s1 s2 tk) sz)) 0 0 (va_A (MW ad cI cZ n tip und P own amt s1 s2 tk) sz) := by
  refine Met.ofW (cc := cX1_mint) (maxL := 4) (ret := (some .int)) (by decide) rfl ?_
  intro p e s m args below meth c s₁ B hml hv
  obtain ⟨rfl, hsz, hP, hK, hD0⟩ := hv
  have hx := B.exec
  have hb := B.bytes
  have hr := B.returns
  have hts := atoms_spec (ws := ws_ yX1_mint cX1_mint 4 (some .int)) B.pre
  have hts : ∀ w ∈ lw_all, w.before _ s = true := fun w h => hts w (List.mem_cons_of_mem _ h)
  have hown : s.vm.findClass RX1 = some m.cls := findClass_of_methodNamed B.named
  have hlocks := B.notSynchronized
  subst hsz
  have hD := hD0.self (sz := s.heap.size)
  generalize hAe : va_A (MW ad cI cZ n tip und P own amt s1 s2 tk) s.heap.size = A at hD ⊢
  have hA : ∀ q : Nat, s.heap.size ≤ q → A q := fun q h => by rw [← hAe]; exact Or.inr h
  have hl := lv_entry ([.ref (ad 0), .int pp, .int oo, .int aa]) (n := 4) (Nat.le_of_ble_eq_true rfl)
  rw [lg_entry_eq]
  generalize (lg_sl ([.ref (ad 0), .int pp, .int oo, .int aa]) ++ List.replicate (4 - (lg_sl ([.ref (ad 0), .int pp, .int oo, .int aa])).length) Slot.unset).toArray = ls at hl ⊢
  have hl : lv_has ls 4 [(0, .ref (ad 0)), (1, .int pp), (2, .int oo), (3, .int aa)] := hl
  refine cu_start (fun H locs eH eL => ?_)
  have hP : va_P D vwCl (MW ad cI cZ n tip und P own amt s1 s2 tk) H := by rw [eH]; exact hP
  have hS : va_S A s.heap H locs := by rw [eH, eL]; exact va_S.rf
  have hn20 := h.n20
  refine lv_aload_n hx hb dX1_mint_0 rfl (lv_at hl 0 rfl) ?_
  refine va_get (D := D) (ci := 1) (v := .int (nI n)) (C := RX1) (T := TX1) (N := 9) hx hb hts in_X1 hown hK hP 0 rfl rfl 0 (by decide) (hts _ q169) (fun _ h9 => h9) rfl dX1_mint_1 ?_
  refine lv_bipush (v := nI 20) hx hb dX1_mint_4 (by decide) ?_
  refine cu_icmp_ne (tgt := 12) (j := n) (k := 20) (by omega) (by omega) hx hb dX1_mint_6 (by decide) (fun c6 => ?_) (fun c6 => ?_)
  · refine lv_aload_n hx hb dX1_mint_12 rfl (lv_at hl 0 rfl) ?_
    refine lv_iload_n hx hb dX1_mint_13 rfl (lv_at hl 1 rfl) ?_
    refine cu_calli (As := [.int pp]) (rest := []) (mM_isBlock l D ad cI cZ H.size n tip und P lev own amt s1 s2 tk pp hn20) ⟨hx, hb, hml, hown, hts⟩ (cwV 1 hts (lw_V q202 q204 qs10 q19 q205) rfl rfl rfl (by decide +kernel) ⟨Nat.le_of_ble_eq_true rfl, Nat.le_of_ble_eq_true rfl⟩) hK hP hD hS hA (ci := 1) rfl rfl ⟨Nat.le_of_ble_eq_true rfl, Nat.le_of_ble_eq_true rfl⟩ rfl hl.1 rfl (Nat.le_of_ble_eq_true rfl) dX1_mint_14 (fun r14 u14 H locs hw14 hP hD hS => ?_)
    obtain rfl : r14 = cu_bI (cu_in n pp) := hw14
    have hP : va_P D vwCl (MW ad cI cZ n tip und P own amt s1 s2 tk) H := hP
    have hD : va_D A (MW ad cI cZ n tip und P own amt s1 s2 tk) := hD
    refine cuB_if_eq (tgt := 40) hx hb dX1_mint_17 (by decide) (fun c17 => ?_) (fun c17 => ?_)
    · have c17 := of_decide_eq_false c17
      refine lv_iconst (v := (-1)) hx hb dX1_mint_40 (by decide) ?_
      exact W.iret (v := (-1)) hx hb hr (fun t_ ht_ hW => ⟨⟨(-1), (), rfl, (congrArg Prod.fst (cu_mint_bad (by omega) (by omega))).symm, by rw [ht_]; exact (by rw [cu_mint_bad (by omega) (by omega)]; exact hP), va_K.moved hW.alike hK, (by rw [cu_mint_bad (by omega) (by omega)]; exact hD)⟩, hS.F ht_⟩) hS.2.2 dX1_mint_41
    · have c17 := of_decide_eq_true c17
      refine lv_iload_n hx hb dX1_mint_20 rfl (lv_at hl 2 rfl) ?_
      refine cuI_if_lt (tgt := 40) hx hb dX1_mint_21 (by decide) (fun c21 => ?_) (fun c21 => ?_)
      · refine lv_iconst (v := (-1)) hx hb dX1_mint_40 (by decide) ?_
        exact W.iret (v := (-1)) hx hb hr (fun t_ ht_ hW => ⟨⟨(-1), (), rfl, (congrArg Prod.fst (cu_mint_bad (by omega) (by omega))).symm, by rw [ht_]; exact (by rw [cu_mint_bad (by omega) (by omega)]; exact hP), va_K.moved hW.alike hK, (by rw [cu_mint_bad (by omega) (by omega)]; exact hD)⟩, hS.F ht_⟩) hS.2.2 dX1_mint_41
      · refine lv_iload_n hx hb dX1_mint_24 rfl (lv_at hl 2 rfl) ?_
        refine lv_iconst (v := nI 3) hx hb dX1_mint_25 (by decide) ?_
        refine cuI_icmp_gt (tgt := 40) (i := (oo).toInt) (j := (3 : Int)) rfl (nI_toInt (by omega)) hx hb dX1_mint_26 (by decide) (fun c26 => ?_) (fun c26 => ?_)
        · refine lv_iconst (v := (-1)) hx hb dX1_mint_40 (by decide) ?_
          exact W.iret (v := (-1)) hx hb hr (fun t_ ht_ hW => ⟨⟨(-1), (), rfl, (congrArg Prod.fst (cu_mint_bad (by omega) (by omega))).symm, by rw [ht_]; exact (by rw [cu_mint_bad (by omega) (by omega)]; exact hP), va_K.moved hW.alike hK, (by rw [cu_mint_bad (by omega) (by omega)]; exact hD)⟩, hS.F ht_⟩) hS.2.2 dX1_mint_41
        · refine lv_iload_n hx hb dX1_mint_29 rfl (lv_at hl 3 rfl) ?_
          refine lv_iconst (v := nI 1) hx hb dX1_mint_30 (by decide) ?_
          refine cuI_icmp_lt (tgt := 40) (i := (aa).toInt) (j := (1 : Int)) rfl (nI_toInt (by omega)) hx hb dX1_mint_31 (by decide) (fun c31 => ?_) (fun c31 => ?_)
          · refine lv_iconst (v := (-1)) hx hb dX1_mint_40 (by decide) ?_
            exact W.iret (v := (-1)) hx hb hr (fun t_ ht_ hW => ⟨⟨(-1), (), rfl, (congrArg Prod.fst (cu_mint_bad (by omega) (by omega))).symm, by rw [ht_]; exact (by rw [cu_mint_bad (by omega) (by omega)]; exact hP), va_K.moved hW.alike hK, (by rw [cu_mint_bad (by omega) (by omega)]; exact hD)⟩, hS.F ht_⟩) hS.2.2 dX1_mint_41
          · refine lv_iload_n hx hb dX1_mint_34 rfl (lv_at hl 3 rfl) ?_
            refine lv_bipush (v := nI 100) hx hb dX1_mint_35 (by decide) ?_
            refine cuI_icmp_le (tgt := 42) (i := (aa).toInt) (j := (100 : Int)) rfl (nI_toInt (by omega)) hx hb dX1_mint_37 (by decide) (fun c37 => ?_) (fun c37 => ?_)
            · obtain ⟨a, ha, rfl⟩ := cu_rng (n := n) (x := pp) c17.1 c17.2
              obtain ⟨o, ho, rfl⟩ := cu_rng (n := 4) (x := oo) (by omega) (by omega)
              obtain ⟨mm, hmm, rfl⟩ := cu_rng (n := 101) (x := aa) (by omega) (by omega)
              have em : (nI mm).toInt = (mm : Int) := nI_toInt (by omega)
              refine lv_aload_n hx hb dX1_mint_42 rfl (lv_at hl 0 rfl) ?_
              refine lv_iload_n hx hb dX1_mint_43 rfl (lv_at hl 1 rfl) ?_
              refine lv_iload_n hx hb dX1_mint_44 rfl (lv_at hl 2 rfl) ?_
              refine lv_iload_n hx hb dX1_mint_45 rfl (lv_at hl 3 rfl) ?_
              refine lv_iconst (v := (-1)) hx hb dX1_mint_46 (by decide) ?_
              refine lv_iconst (v := (-1)) hx hb dX1_mint_47 (by decide) ?_
              refine cu_calli (As := [.int (nI a), .int (nI o), .int (nI mm), .int (-1), .int (-1)]) (rest := []) (mM_addBlock l D ad cI cZ H.size n tip und P lev own amt s1 s2 tk a o mm (-1) (-1) h ht (by omega) ha (h.add0 (by omega) ha (by omega) (by omega) (by omega))) ⟨hx, hb, hml, hown, hts⟩ (cwV 5 hts (lw_V q206 q208 qs11 q19 q209) rfl rfl rfl (by decide +kernel) ⟨Nat.le_of_ble_eq_true rfl, Nat.le_of_ble_eq_true rfl⟩) hK hP hD hS hA (ci := 1) rfl rfl ⟨Nat.le_of_ble_eq_true rfl, Nat.le_of_ble_eq_true rfl⟩ rfl hl.1 rfl (Nat.le_of_ble_eq_true rfl) dX1_mint_48 (fun r48 u48 H locs hw48 hP hD hS => ?_)
              obtain rfl : r48 = nI n := hw48
              exact W.iret (v := nI n) hx hb hr (fun t_ ht_ hW => ⟨⟨nI n, (), rfl, (congrArg Prod.fst (cu_mint_ok (by omega) ha (by omega) (by omega) (by omega))).symm, by rw [ht_]; exact (by rw [cu_mint_ok (by omega) ha (by omega) (by omega) (by omega)]; exact hP), va_K.moved hW.alike hK, (by rw [cu_mint_ok (by omega) ha (by omega) (by omega) (by omega)]; exact hD)⟩, hS.F ht_⟩) hS.2.2 dX1_mint_51
            · refine lv_iconst (v := (-1)) hx hb dX1_mint_40 (by decide) ?_
              exact W.iret (v := (-1)) hx hb hr (fun t_ ht_ hW => ⟨⟨(-1), (), rfl, (congrArg Prod.fst (cu_mint_bad (by omega) (by omega))).symm, by rw [ht_]; exact (by rw [cu_mint_bad (by omega) (by omega)]; exact hP), va_K.moved hW.alike hK, (by rw [cu_mint_bad (by omega) (by omega)]; exact hD)⟩, hS.F ht_⟩) hS.2.2 dX1_mint_41
  · refine lv_bipush (v := (-2)) hx hb dX1_mint_9 (by decide) ?_
    exact W.iret (v := (-2)) hx hb hr (fun t_ ht_ hW => ⟨⟨(-2), (), rfl, (congrArg Prod.fst (cu_mint_full (by omega))).symm, by rw [ht_]; exact (by rw [cu_mint_full (by omega)]; exact hP), va_K.moved hW.alike hK, (by rw [cu_mint_full (by omega)]; exact hD)⟩, hS.F ht_⟩) hS.2.2 dX1_mint_11
set_option maxHeartbeats 4000000 in
set_option maxRecDepth 100000 in
theorem mM_pay (l : Launch) (D : va_G) (ad : Nat → Nat) (cI cZ : ClassId) (sz : Nat) (n tip : Nat) (und : Int32) (P lev own amt : Nat → Nat) (s1 s2 tk : Nat → Int32) (pp oo ff gg : Int32) (h : cu_OK n P lev own amt s1 s2) (ht : tip < n) : Met l yX1_pay (ws_ yX1_pay cX1_pay 6 (some .int)) ({ frames := 3, cells := 0, slots := 0, locals := 74 }) (va_Pc [.ref (ad 0), .int pp, .int oo, .int ff, .int gg] (cu_In D vwCl (MT cI cZ) (MW ad cI cZ n tip und P own amt s1 s2 tk) sz)) (va_Qi (fun (r : Int32) (u : Unit) => r = (cu_pay (n, tip, und, P, lev, own, amt, s1, s2) pp oo ff gg).1) (fun u => cu_Out D vwCl (MT cI cZ) (va_A (MW ad cI cZ n tip und P own amt s1 s2 tk) sz) (MS ad cI cZ (cu_pay (n, tip, und, P, lev, own, amt, s1, s2) pp oo ff gg).2 tk)) (va_A (MW ad cI cZ n tip und P own amt s1 s2 tk) sz)) 0 0 (va_A (MW ad cI cZ n tip und P own amt s1 s2 tk) sz) := by
  refine Met.ofW (cc := cX1_pay) (maxL := 6) (ret := (some .int)) (by decide) rfl ?_
  intro p e s m args below meth c s₁ B hml hv
  obtain ⟨rfl, hsz, hP, hK, hD0⟩ := hv
  have hx := B.exec
  have hb := B.bytes
  have hr := B.returns
  have hts := atoms_spec (ws := ws_ yX1_pay cX1_pay 6 (some .int)) B.pre
  have hts : ∀ w ∈ lw_all, w.before _ s = true := fun w h => hts w (List.mem_cons_of_mem _ h)
  have hown : s.vm.findClass RX1 = some m.cls := findClass_of_methodNamed B.named
  have hlocks := B.notSynchronized
  subst hsz
  have hD := hD0.self (sz := s.heap.size)
  generalize hAe : va_A (MW ad cI cZ n tip und P own amt s1 s2 tk) s.heap.size = A at hD ⊢
  have hA : ∀ q : Nat, s.heap.size ≤ q → A q := fun q h => by rw [← hAe]; exact Or.inr h
  have hl := lv_entry ([.ref (ad 0), .int pp, .int oo, .int ff, .int gg]) (n := 6) (Nat.le_of_ble_eq_true rfl)
  rw [lg_entry_eq]
  generalize (lg_sl ([.ref (ad 0), .int pp, .int oo, .int ff, .int gg]) ++ List.replicate (6 - (lg_sl ([.ref (ad 0), .int pp, .int oo, .int ff, .int gg])).length) Slot.unset).toArray = ls at hl ⊢
  have hl : lv_has ls 6 [(0, .ref (ad 0)), (1, .int pp), (2, .int oo), (3, .int ff), (4, .int gg)] := hl
  refine cu_start (fun H locs eH eL => ?_)
  have hP : va_P D vwCl (MW ad cI cZ n tip und P own amt s1 s2 tk) H := by rw [eH]; exact hP
  have hS : va_S A s.heap H locs := by rw [eH, eL]; exact va_S.rf
  have hn20 := h.n20
  refine lv_aload_n hx hb dX1_pay_0 rfl (lv_at hl 0 rfl) ?_
  refine va_get (D := D) (ci := 1) (v := .int (nI n)) (C := RX1) (T := TX1) (N := 9) hx hb hts in_X1 hown hK hP 0 rfl rfl 0 (by decide) (hts _ q169) (fun _ h9 => h9) rfl dX1_pay_1 ?_
  refine lv_bipush (v := nI 20) hx hb dX1_pay_4 (by decide) ?_
  refine cu_icmp_ne (tgt := 12) (j := n) (k := 20) (by omega) (by omega) hx hb dX1_pay_6 (by decide) (fun c6 => ?_) (fun c6 => ?_)
  · refine lv_aload_n hx hb dX1_pay_12 rfl (lv_at hl 0 rfl) ?_
    refine lv_iload_n hx hb dX1_pay_13 rfl (lv_at hl 1 rfl) ?_
    refine cu_calli (As := [.int pp]) (rest := []) (mM_isBlock l D ad cI cZ H.size n tip und P lev own amt s1 s2 tk pp hn20) ⟨hx, hb, hml, hown, hts⟩ (cwV 1 hts (lw_V q202 q204 qs10 q19 q205) rfl rfl rfl (by decide +kernel) ⟨Nat.le_of_ble_eq_true rfl, Nat.le_of_ble_eq_true rfl⟩) hK hP hD hS hA (ci := 1) rfl rfl ⟨Nat.le_of_ble_eq_true rfl, Nat.le_of_ble_eq_true rfl⟩ rfl hl.1 rfl (Nat.le_of_ble_eq_true rfl) dX1_pay_14 (fun r14 u14 H locs hw14 hP hD hS => ?_)
    obtain rfl : r14 = cu_bI (cu_in n pp) := hw14
    have hP : va_P D vwCl (MW ad cI cZ n tip und P own amt s1 s2 tk) H := hP
    have hD : va_D A (MW ad cI cZ n tip und P own amt s1 s2 tk) := hD
    refine cuB_if_eq (tgt := 29) hx hb dX1_pay_17 (by decide) (fun c17 => ?_) (fun c17 => ?_)
    · have c17 := of_decide_eq_false c17
      refine lv_iconst (v := (-1)) hx hb dX1_pay_29 (by decide) ?_
      exact W.iret (v := (-1)) hx hb hr (fun t_ ht_ hW => ⟨⟨(-1), (), rfl, (congrArg Prod.fst (cu_pay_bad (by omega) (by omega))).symm, by rw [ht_]; exact (by rw [cu_pay_bad (by omega) (by omega)]; exact hP), va_K.moved hW.alike hK, (by rw [cu_pay_bad (by omega) (by omega)]; exact hD)⟩, hS.F ht_⟩) hS.2.2 dX1_pay_30
    · have c17 := of_decide_eq_true c17
      refine lv_iload_n hx hb dX1_pay_20 rfl (lv_at hl 2 rfl) ?_
      refine cuI_if_lt (tgt := 29) hx hb dX1_pay_21 (by decide) (fun c21 => ?_) (fun c21 => ?_)
      · refine lv_iconst (v := (-1)) hx hb dX1_pay_29 (by decide) ?_
        exact W.iret (v := (-1)) hx hb hr (fun t_ ht_ hW => ⟨⟨(-1), (), rfl, (congrArg Prod.fst (cu_pay_bad (by omega) (by omega))).symm, by rw [ht_]; exact (by rw [cu_pay_bad (by omega) (by omega)]; exact hP), va_K.moved hW.alike hK, (by rw [cu_pay_bad (by omega) (by omega)]; exact hD)⟩, hS.F ht_⟩) hS.2.2 dX1_pay_30
      · refine lv_iload_n hx hb dX1_pay_24 rfl (lv_at hl 2 rfl) ?_
        refine lv_iconst (v := nI 3) hx hb dX1_pay_25 (by decide) ?_
        refine cuI_icmp_le (tgt := 31) (i := (oo).toInt) (j := (3 : Int)) rfl (nI_toInt (by omega)) hx hb dX1_pay_26 (by decide) (fun c26 => ?_) (fun c26 => ?_)
        · obtain ⟨a, ha, rfl⟩ := cu_rng (n := n) (x := pp) c17.1 c17.2
          obtain ⟨o, ho, rfl⟩ := cu_rng (n := 4) (x := oo) (by omega) (by omega)
          refine lv_iload_n hx hb dX1_pay_31 rfl (lv_at hl 3 rfl) ?_
          refine lv_iload hx hb dX1_pay_32 (lv_at hl 4 rfl) ?_
          refine lv_icmp_eq (tgt := 46) hx hb dX1_pay_34 (by decide) (fun c34 => ?_) (fun c34 => ?_)
          · have hs : cu_sound n P s1 s2 a ff gg = false := by rw [c34]; exact cu_sound_eq
            refine lv_bipush (v := (-3)) hx hb dX1_pay_46 (by decide) ?_
            exact W.iret (v := (-3)) hx hb hr (fun t_ ht_ hW => ⟨⟨(-3), (), rfl, (congrArg Prod.fst (cu_pay_uns (by omega) ha (by omega) hs)).symm, by rw [ht_]; exact (by rw [cu_pay_uns (by omega) ha (by omega) hs]; exact hP), va_K.moved hW.alike hK, (by rw [cu_pay_uns (by omega) ha (by omega) hs]; exact hD)⟩, hS.F ht_⟩) hS.2.2 dX1_pay_48
          · refine lv_aload_n hx hb dX1_pay_37 rfl (lv_at hl 0 rfl) ?_
            refine lv_iload_n hx hb dX1_pay_38 rfl (lv_at hl 3 rfl) ?_
            refine lv_iload_n hx hb dX1_pay_39 rfl (lv_at hl 1 rfl) ?_
            refine cu_calli (As := [.int ff, .int (nI a)]) (rest := []) (mM_free l D ad cI cZ H.size n tip und P lev own amt s1 s2 tk ff a h ha) ⟨hx, hb, hml, hown, hts⟩ (cwV 2 hts (lw_V q226 q228 qs15 q19 q229) rfl rfl rfl (by decide +kernel) ⟨Nat.le_of_ble_eq_true rfl, Nat.le_of_ble_eq_true rfl⟩) hK hP hD hS hA (ci := 1) rfl rfl ⟨Nat.le_of_ble_eq_true rfl, Nat.le_of_ble_eq_true rfl⟩ rfl hl.1 rfl (Nat.le_of_ble_eq_true rfl) dX1_pay_40 (fun r40 u40 H locs hw40 hP hD hS => ?_)
            obtain rfl : r40 = cu_bI (cu_th n P s1 s2 a ff) := hw40
            have hP : va_P D vwCl (MW ad cI cZ n tip und P own amt s1 s2 tk) H := hP
            have hD : va_D A (MW ad cI cZ n tip und P own amt s1 s2 tk) := hD
            refine cuB_if_ne (tgt := 49) hx hb dX1_pay_43 (by decide) (fun c43 => ?_) (fun c43 => ?_)
            · refine lv_iload hx hb dX1_pay_49 (lv_at hl 4 rfl) ?_
              refine lv_iconst (v := (-1)) hx hb dX1_pay_51 (by decide) ?_
              refine lv_icmp_eq (tgt := 68) hx hb dX1_pay_52 (by decide) (fun c52 => ?_) (fun c52 => ?_)
              · have hs : cu_sound n P s1 s2 a ff gg = true := by unfold cu_sound; rw [c43, decide_eq_true c52]; rfl
                obtain ⟨k1, hk10, hk1n, rfl, hk1L⟩ := (cu_th_iff hn20).mp c43
                subst c52
                refine lv_aload_n hx hb dX1_pay_68 rfl (lv_at hl 0 rfl) ?_
                refine va_get (D := D) (ci := 1) (v := .ref (ad 3)) (C := RX1) (T := TX1) (N := 9) hx hb hts in_X1 hown hK hP 0 rfl rfl 3 (by decide) (hts _ q172) (fun _ h9 => h9) rfl dX1_pay_69 ?_
                refine lv_iload_n hx hb dX1_pay_72 rfl (lv_at hl 3 rfl) ?_
                refine cu_iald (v := nI (amt k1)) hx hb hK hP 3 0 rfl rfl k1 (by omega) (Nat.le_of_ble_eq_true rfl) rfl dX1_pay_73 ?_
                refine lv_iload hx hb dX1_pay_74 (lv_at hl 4 rfl) ?_
                refine cuI_if_ge (tgt := 83) hx hb dX1_pay_76 (by decide) (fun c76 => ?_) (fun c76 => ?_)
                · exact absurd c76 (by decide)
                · refine lv_iconst (v := nI 0) hx hb dX1_pay_79 (by decide) ?_
                  refine lv_goto (tgt := 90) hx hb dX1_pay_80 (by decide) ?_
                  refine lv_iadd hx hb dX1_pay_90 ?_
                  refine cu_top (y := nI (amt k1)) (nI_add _ _) ?_
                  refine lv_istore (lv' := [(5, .int (nI (amt k1))), (0, .ref (ad 0)), (1, .int (nI a)), (2, .int (nI o)), (3, .int (nI k1)), (4, .int (-1))]) hx hb dX1_pay_91 hl (by decide) rfl (fun ls hl => ?_)
                  refine lv_aload_n hx hb dX1_pay_93 rfl (lv_at hl 1 rfl) ?_
                  refine lv_iload_n hx hb dX1_pay_94 rfl (lv_at hl 2 rfl) ?_
                  refine lv_iload_n hx hb dX1_pay_95 rfl (lv_at hl 3 rfl) ?_
                  refine lv_iload hx hb dX1_pay_96 (lv_at hl 0 rfl) ?_
                  refine lv_iload_n hx hb dX1_pay_98 rfl (lv_at hl 4 rfl) ?_
                  refine lv_iload hx hb dX1_pay_99 (lv_at hl 5 rfl) ?_
                  refine cu_calli (As := [.int (nI a), .int (nI o), .int (nI (amt k1)), .int (nI k1), .int (-1)]) (rest := []) (mM_addBlock l D ad cI cZ H.size n tip und P lev own amt s1 s2 tk a o (amt k1) (nI k1) (-1) h ht (by omega) ha (h.add1 (by omega) ha (by omega) hk10 hk1n hk1L)) ⟨hx, hb, hml, hown, hts⟩ (cwV 5 hts (lw_V q206 q208 qs11 q19 q209) rfl rfl rfl (by decide +kernel) ⟨Nat.le_of_ble_eq_true rfl, Nat.le_of_ble_eq_true rfl⟩) hK hP hD hS hA (ci := 1) rfl rfl ⟨Nat.le_of_ble_eq_true rfl, Nat.le_of_ble_eq_true rfl⟩ rfl hl.1 rfl (Nat.le_of_ble_eq_true rfl) dX1_pay_101 (fun r101 u101 H locs hw101 hP hD hS => ?_)
                  obtain rfl : r101 = nI n := hw101
                  exact W.iret (v := nI n) hx hb hr (fun t_ ht_ hW => ⟨⟨nI n, (), rfl, (congrArg Prod.fst (cu_pay_ok (by omega) ha (by omega) hs)).symm, by rw [ht_]; exact (by rw [cu_pay_ok (by omega) ha (by omega) hs, cu_am_1 (by omega)]; exact hP), va_K.moved hW.alike hK, (by rw [cu_pay_ok (by omega) ha (by omega) hs, cu_am_1 (by omega)]; exact hD)⟩, hS.F ht_⟩) hS.2.2 dX1_pay_104
              · refine lv_aload_n hx hb dX1_pay_55 rfl (lv_at hl 0 rfl) ?_
                refine lv_iload hx hb dX1_pay_56 (lv_at hl 4 rfl) ?_
                refine lv_iload_n hx hb dX1_pay_58 rfl (lv_at hl 1 rfl) ?_
                refine cu_calli (As := [.int gg, .int (nI a)]) (rest := []) (mM_free l D ad cI cZ H.size n tip und P lev own amt s1 s2 tk gg a h ha) ⟨hx, hb, hml, hown, hts⟩ (cwV 2 hts (lw_V q226 q228 qs15 q19 q229) rfl rfl rfl (by decide +kernel) ⟨Nat.le_of_ble_eq_true rfl, Nat.le_of_ble_eq_true rfl⟩) hK hP hD hS hA (ci := 1) rfl rfl ⟨Nat.le_of_ble_eq_true rfl, Nat.le_of_ble_eq_true rfl⟩ rfl hl.1 rfl (Nat.le_of_ble_eq_true rfl) dX1_pay_59 (fun r59 u59 H locs hw59 hP hD hS => ?_)
                obtain rfl : r59 = cu_bI (cu_th n P s1 s2 a gg) := hw59
                have hP : va_P D vwCl (MW ad cI cZ n tip und P own amt s1 s2 tk) H := hP
                have hD : va_D A (MW ad cI cZ n tip und P own amt s1 s2 tk) := hD
                refine cuB_if_ne (tgt := 68) hx hb dX1_pay_62 (by decide) (fun c62 => ?_) (fun c62 => ?_)
                · have hs : cu_sound n P s1 s2 a ff gg = true := by unfold cu_sound; rw [c43, c62, decide_eq_false (show ¬ gg = ff from fun z => c34 z.symm)]; simp
                  obtain ⟨k1, hk10, hk1n, rfl, hk1L⟩ := (cu_th_iff hn20).mp c43
                  obtain ⟨k2, hk20, hk2n, rfl, hk2L⟩ := (cu_th_iff hn20).mp c62
                  have hne : k2 ≠ k1 := fun z => c34 (by rw [z])
                  refine lv_aload_n hx hb dX1_pay_68 rfl (lv_at hl 0 rfl) ?_
                  refine va_get (D := D) (ci := 1) (v := .ref (ad 3)) (C := RX1) (T := TX1) (N := 9) hx hb hts in_X1 hown hK hP 0 rfl rfl 3 (by decide) (hts _ q172) (fun _ h9 => h9) rfl dX1_pay_69 ?_
                  refine lv_iload_n hx hb dX1_pay_72 rfl (lv_at hl 3 rfl) ?_
                  refine cu_iald (v := nI (amt k1)) hx hb hK hP 3 0 rfl rfl k1 (by omega) (Nat.le_of_ble_eq_true rfl) rfl dX1_pay_73 ?_
                  refine lv_iload hx hb dX1_pay_74 (lv_at hl 4 rfl) ?_
                  refine cuI_if_ge (tgt := 83) hx hb dX1_pay_76 (by decide) (fun c76 => ?_) (fun c76 => ?_)
                  · refine lv_aload_n hx hb dX1_pay_83 rfl (lv_at hl 0 rfl) ?_
                    refine va_get (D := D) (ci := 1) (v := .ref (ad 3)) (C := RX1) (T := TX1) (N := 9) hx hb hts in_X1 hown hK hP 0 rfl rfl 3 (by decide) (hts _ q172) (fun _ h9 => h9) rfl dX1_pay_84 ?_
                    refine lv_iload hx hb dX1_pay_87 (lv_at hl 4 rfl) ?_
                    refine cu_iald (v := nI (amt k2)) hx hb hK hP 3 0 rfl rfl k2 (by omega) (Nat.le_of_ble_eq_true rfl) rfl dX1_pay_89 ?_
                    refine lv_iadd hx hb dX1_pay_90 ?_
                    refine cu_top (y := nI (amt k1 + amt k2)) (nI_add _ _) ?_
                    refine lv_istore (lv' := [(5, .int (nI (amt k1 + amt k2))), (0, .ref (ad 0)), (1, .int (nI a)), (2, .int (nI o)), (3, .int (nI k1)), (4, .int (nI k2))]) hx hb dX1_pay_91 hl (by decide) rfl (fun ls hl => ?_)
                    refine lv_aload_n hx hb dX1_pay_93 rfl (lv_at hl 1 rfl) ?_
                    refine lv_iload_n hx hb dX1_pay_94 rfl (lv_at hl 2 rfl) ?_
                    refine lv_iload_n hx hb dX1_pay_95 rfl (lv_at hl 3 rfl) ?_
                    refine lv_iload hx hb dX1_pay_96 (lv_at hl 0 rfl) ?_
                    refine lv_iload_n hx hb dX1_pay_98 rfl (lv_at hl 4 rfl) ?_
                    refine lv_iload hx hb dX1_pay_99 (lv_at hl 5 rfl) ?_
                    refine cu_calli (As := [.int (nI a), .int (nI o), .int (nI (amt k1 + amt k2)), .int (nI k1), .int (nI k2)]) (rest := []) (mM_addBlock l D ad cI cZ H.size n tip und P lev own amt s1 s2 tk a o (amt k1 + amt k2) (nI k1) (nI k2) h ht (by omega) ha (h.add2 (by omega) ha (by omega) hk10 hk1n hk1L hk20 hk2n hk2L hne)) ⟨hx, hb, hml, hown, hts⟩ (cwV 5 hts (lw_V q206 q208 qs11 q19 q209) rfl rfl rfl (by decide +kernel) ⟨Nat.le_of_ble_eq_true rfl, Nat.le_of_ble_eq_true rfl⟩) hK hP hD hS hA (ci := 1) rfl rfl ⟨Nat.le_of_ble_eq_true rfl, Nat.le_of_ble_eq_true rfl⟩ rfl hl.1 rfl (Nat.le_of_ble_eq_true rfl) dX1_pay_101 (fun r101 u101 H locs hw101 hP hD hS => ?_)
                    obtain rfl : r101 = nI n := hw101
                    exact W.iret (v := nI n) hx hb hr (fun t_ ht_ hW => ⟨⟨nI n, (), rfl, (congrArg Prod.fst (cu_pay_ok (by omega) ha (by omega) hs)).symm, by rw [ht_]; exact (by rw [cu_pay_ok (by omega) ha (by omega) hs, cu_am_2 (by omega) (by omega)]; exact hP), va_K.moved hW.alike hK, (by rw [cu_pay_ok (by omega) ha (by omega) hs, cu_am_2 (by omega) (by omega)]; exact hD)⟩, hS.F ht_⟩) hS.2.2 dX1_pay_104
                  · exact absurd c76 (by rw [nI_toInt (by omega)]; omega)
                · have hs : cu_sound n P s1 s2 a ff gg = false := by unfold cu_sound; rw [c62, decide_eq_false c52]; simp
                  refine lv_bipush (v := (-3)) hx hb dX1_pay_65 (by decide) ?_
                  exact W.iret (v := (-3)) hx hb hr (fun t_ ht_ hW => ⟨⟨(-3), (), rfl, (congrArg Prod.fst (cu_pay_uns (by omega) ha (by omega) hs)).symm, by rw [ht_]; exact (by rw [cu_pay_uns (by omega) ha (by omega) hs]; exact hP), va_K.moved hW.alike hK, (by rw [cu_pay_uns (by omega) ha (by omega) hs]; exact hD)⟩, hS.F ht_⟩) hS.2.2 dX1_pay_67
            · have hs : cu_sound n P s1 s2 a ff gg = false := by unfold cu_sound; rw [c43]; rfl
              refine lv_bipush (v := (-3)) hx hb dX1_pay_46 (by decide) ?_
              exact W.iret (v := (-3)) hx hb hr (fun t_ ht_ hW => ⟨⟨(-3), (), rfl, (congrArg Prod.fst (cu_pay_uns (by omega) ha (by omega) hs)).symm, by rw [ht_]; exact (by rw [cu_pay_uns (by omega) ha (by omega) hs]; exact hP), va_K.moved hW.alike hK, (by rw [cu_pay_uns (by omega) ha (by omega) hs]; exact hD)⟩, hS.F ht_⟩) hS.2.2 dX1_pay_48
        · refine lv_iconst (v := (-1)) hx hb dX1_pay_29 (by decide) ?_
          exact W.iret (v := (-1)) hx hb hr (fun t_ ht_ hW => ⟨⟨(-1), (), rfl, (congrArg Prod.fst (cu_pay_bad (by omega) (by omega))).symm, by rw [ht_]; exact (by rw [cu_pay_bad (by omega) (by omega)]; exact hP), va_K.moved hW.alike hK, (by rw [cu_pay_bad (by omega) (by omega)]; exact hD)⟩, hS.F ht_⟩) hS.2.2 dX1_pay_30
  · refine lv_bipush (v := (-2)) hx hb dX1_pay_9 (by decide) ?_
    exact W.iret (v := (-2)) hx hb hr (fun t_ ht_ hW => ⟨⟨(-2), (), rfl, (congrArg Prod.fst (cu_pay_full (by omega))).symm, by rw [ht_]; exact (by rw [cu_pay_full (by omega)]; exact hP), va_K.moved hW.alike hK, (by rw [cu_pay_full (by omega)]; exact hD)⟩, hS.F ht_⟩) hS.2.2 dX1_pay_11
end
section
/-! contracts: printed by gen/make.py -/
set_option maxHeartbeats 4000000 in
set_option maxRecDepth 100000 in
theorem mM_blocks (l : Launch) (D : va_G) (ad : Nat → Nat) (cI cZ : ClassId) (sz : Nat) (n tip : Nat) (und : Int32) (P lev own amt : Nat → Nat) (s1 s2 tk : Nat → Int32) (h : cu_OK n P lev own amt s1 s2) (ht : tip < n) : Met l yX1_blocks (ws_ yX1_blocks cX1_blocks 1 (some .int)) ({ frames := 0, cells := 0, slots := 0, locals := 0 }) (va_Pc [.ref (ad 0)] (cu_In D vwCl (MT cI cZ) (MW ad cI cZ n tip und P own amt s1 s2 tk) sz)) (va_Qi (fun (r : Int32) (u : Unit) => r = nI n) (fun u => cu_Out D vwCl (MT cI cZ) (va_A (MW ad cI cZ n tip und P own amt s1 s2 tk) sz) (MW ad cI cZ n tip und P own amt s1 s2 tk)) (va_A (MW ad cI cZ n tip und P own amt s1 s2 tk) sz)) 0 0 (va_A (MW ad cI cZ n tip und P own amt s1 s2 tk) sz) := by
  refine Met.ofW (cc := cX1_blocks) (maxL := 1) (ret := (some .int)) (by decide) rfl ?_
  intro p e s m args below meth c s₁ B hml hv
  obtain ⟨rfl, hsz, hP, hK, hD0⟩ := hv
  have hx := B.exec
  have hb := B.bytes
  have hr := B.returns
  have hts := atoms_spec (ws := ws_ yX1_blocks cX1_blocks 1 (some .int)) B.pre
  have hts : ∀ w ∈ lw_all, w.before _ s = true := fun w h => hts w (List.mem_cons_of_mem _ h)
  have hown : s.vm.findClass RX1 = some m.cls := findClass_of_methodNamed B.named
  have hlocks := B.notSynchronized
  subst hsz
  have hD := hD0.self (sz := s.heap.size)
  generalize hAe : va_A (MW ad cI cZ n tip und P own amt s1 s2 tk) s.heap.size = A at hD ⊢
  have hA : ∀ q : Nat, s.heap.size ≤ q → A q := fun q h => by rw [← hAe]; exact Or.inr h
  have hl := lv_entry ([.ref (ad 0)]) (n := 1) (Nat.le_of_ble_eq_true rfl)
  rw [lg_entry_eq]
  generalize (lg_sl ([.ref (ad 0)]) ++ List.replicate (1 - (lg_sl ([.ref (ad 0)])).length) Slot.unset).toArray = ls at hl ⊢
  have hl : lv_has ls 1 [(0, .ref (ad 0))] := hl
  refine cu_start (fun H locs eH eL => ?_)
  have hP : va_P D vwCl (MW ad cI cZ n tip und P own amt s1 s2 tk) H := by rw [eH]; exact hP
  have hS : va_S A s.heap H locs := by rw [eH, eL]; exact va_S.rf
  have hn20 := h.n20
  refine lv_aload_n hx hb dX1_blocks_0 rfl (lv_at hl 0 rfl) ?_
  refine va_get (D := D) (ci := 1) (v := .int (nI n)) (C := RX1) (T := TX1) (N := 9) hx hb hts in_X1 hown hK hP 0 rfl rfl 0 (by decide) (hts _ q169) (fun _ h9 => h9) rfl dX1_blocks_1 ?_
  exact W.iret (v := nI n) hx hb hr (fun t_ ht_ hW => ⟨⟨nI n, (), rfl, rfl, by rw [ht_]; exact hP, va_K.moved hW.alike hK, hD⟩, hS.F ht_⟩) hS.2.2 dX1_blocks_4
set_option maxHeartbeats 4000000 in
set_option maxRecDepth 100000 in
theorem mM_tip (l : Launch) (D : va_G) (ad : Nat → Nat) (cI cZ : ClassId) (sz : Nat) (n tip : Nat) (und : Int32) (P lev own amt : Nat → Nat) (s1 s2 tk : Nat → Int32) (h : cu_OK n P lev own amt s1 s2) (ht : tip < n) : Met l yX1_tip (ws_ yX1_tip cX1_tip 1 (some .int)) ({ frames := 0, cells := 0, slots := 0, locals := 0 }) (va_Pc [.ref (ad 0)] (cu_In D vwCl (MT cI cZ) (MW ad cI cZ n tip und P own amt s1 s2 tk) sz)) (va_Qi (fun (r : Int32) (u : Unit) => r = nI tip) (fun u => cu_Out D vwCl (MT cI cZ) (va_A (MW ad cI cZ n tip und P own amt s1 s2 tk) sz) (MW ad cI cZ n tip und P own amt s1 s2 tk)) (va_A (MW ad cI cZ n tip und P own amt s1 s2 tk) sz)) 0 0 (va_A (MW ad cI cZ n tip und P own amt s1 s2 tk) sz) := by
  refine Met.ofW (cc := cX1_tip) (maxL := 1) (ret := (some .int)) (by decide) rfl ?_
  intro p e s m args below meth c s₁ B hml hv
  obtain ⟨rfl, hsz, hP, hK, hD0⟩ := hv
  have hx := B.exec
  have hb := B.bytes
  have hr := B.returns
  have hts := atoms_spec (ws := ws_ yX1_tip cX1_tip 1 (some .int)) B.pre
  have hts : ∀ w ∈ lw_all, w.before _ s = true := fun w h => hts w (List.mem_cons_of_mem _ h)
  have hown : s.vm.findClass RX1 = some m.cls := findClass_of_methodNamed B.named
  have hlocks := B.notSynchronized
  subst hsz
  have hD := hD0.self (sz := s.heap.size)
  generalize hAe : va_A (MW ad cI cZ n tip und P own amt s1 s2 tk) s.heap.size = A at hD ⊢
  have hA : ∀ q : Nat, s.heap.size ≤ q → A q := fun q h => by rw [← hAe]; exact Or.inr h
  have hl := lv_entry ([.ref (ad 0)]) (n := 1) (Nat.le_of_ble_eq_true rfl)
  rw [lg_entry_eq]
  generalize (lg_sl ([.ref (ad 0)]) ++ List.replicate (1 - (lg_sl ([.ref (ad 0)])).length) Slot.unset).toArray = ls at hl ⊢
  have hl : lv_has ls 1 [(0, .ref (ad 0))] := hl
  refine cu_start (fun H locs eH eL => ?_)
  have hP : va_P D vwCl (MW ad cI cZ n tip und P own amt s1 s2 tk) H := by rw [eH]; exact hP
  have hS : va_S A s.heap H locs := by rw [eH, eL]; exact va_S.rf
  have hn20 := h.n20
  refine lv_aload_n hx hb dX1_tip_0 rfl (lv_at hl 0 rfl) ?_
  refine va_get (D := D) (ci := 1) (v := .int (nI tip)) (C := RX1) (T := TX1) (N := 9) hx hb hts in_X1 hown hK hP 0 rfl rfl 7 (by decide) (hts _ q176) (fun _ h9 => h9) rfl dX1_tip_1 ?_
  exact W.iret (v := nI tip) hx hb hr (fun t_ ht_ hW => ⟨⟨nI tip, (), rfl, rfl, by rw [ht_]; exact hP, va_K.moved hW.alike hK, hD⟩, hS.F ht_⟩) hS.2.2 dX1_tip_4
set_option maxHeartbeats 4000000 in
set_option maxRecDepth 100000 in
theorem mM_undone (l : Launch) (D : va_G) (ad : Nat → Nat) (cI cZ : ClassId) (sz : Nat) (n tip : Nat) (und : Int32) (P lev own amt : Nat → Nat) (s1 s2 tk : Nat → Int32) (h : cu_OK n P lev own amt s1 s2) (ht : tip < n) : Met l yX1_undone (ws_ yX1_undone cX1_undone 1 (some .int)) ({ frames := 0, cells := 0, slots := 0, locals := 0 }) (va_Pc [.ref (ad 0)] (cu_In D vwCl (MT cI cZ) (MW ad cI cZ n tip und P own amt s1 s2 tk) sz)) (va_Qi (fun (r : Int32) (u : Unit) => r = und) (fun u => cu_Out D vwCl (MT cI cZ) (va_A (MW ad cI cZ n tip und P own amt s1 s2 tk) sz) (MW ad cI cZ n tip und P own amt s1 s2 tk)) (va_A (MW ad cI cZ n tip und P own amt s1 s2 tk) sz)) 0 0 (va_A (MW ad cI cZ n tip und P own amt s1 s2 tk) sz) := by
  refine Met.ofW (cc := cX1_undone) (maxL := 1) (ret := (some .int)) (by decide) rfl ?_
  intro p e s m args below meth c s₁ B hml hv
  obtain ⟨rfl, hsz, hP, hK, hD0⟩ := hv
  have hx := B.exec
  have hb := B.bytes
  have hr := B.returns
  have hts := atoms_spec (ws := ws_ yX1_undone cX1_undone 1 (some .int)) B.pre
  have hts : ∀ w ∈ lw_all, w.before _ s = true := fun w h => hts w (List.mem_cons_of_mem _ h)
  have hown : s.vm.findClass RX1 = some m.cls := findClass_of_methodNamed B.named
  have hlocks := B.notSynchronized
  subst hsz
  have hD := hD0.self (sz := s.heap.size)
  generalize hAe : va_A (MW ad cI cZ n tip und P own amt s1 s2 tk) s.heap.size = A at hD ⊢
  have hA : ∀ q : Nat, s.heap.size ≤ q → A q := fun q h => by rw [← hAe]; exact Or.inr h
  have hl := lv_entry ([.ref (ad 0)]) (n := 1) (Nat.le_of_ble_eq_true rfl)
  rw [lg_entry_eq]
  generalize (lg_sl ([.ref (ad 0)]) ++ List.replicate (1 - (lg_sl ([.ref (ad 0)])).length) Slot.unset).toArray = ls at hl ⊢
  have hl : lv_has ls 1 [(0, .ref (ad 0))] := hl
  refine cu_start (fun H locs eH eL => ?_)
  have hP : va_P D vwCl (MW ad cI cZ n tip und P own amt s1 s2 tk) H := by rw [eH]; exact hP
  have hS : va_S A s.heap H locs := by rw [eH, eL]; exact va_S.rf
  have hn20 := h.n20
  refine lv_aload_n hx hb dX1_undone_0 rfl (lv_at hl 0 rfl) ?_
  refine va_get (D := D) (ci := 1) (v := .int und) (C := RX1) (T := TX1) (N := 9) hx hb hts in_X1 hown hK hP 0 rfl rfl 8 (by decide) (hts _ q177) (fun _ h9 => h9) rfl dX1_undone_1 ?_
  exact W.iret (v := und) hx hb hr (fun t_ ht_ hW => ⟨⟨und, (), rfl, rfl, by rw [ht_]; exact hP, va_K.moved hW.alike hK, hD⟩, hS.F ht_⟩) hS.2.2 dX1_undone_4
set_option maxHeartbeats 4000000 in
set_option maxRecDepth 100000 in
theorem mM_height (l : Launch) (D : va_G) (ad : Nat → Nat) (cI cZ : ClassId) (sz : Nat) (n tip : Nat) (und : Int32) (P lev own amt : Nat → Nat) (s1 s2 tk : Nat → Int32) (x : Int32) (h : cu_OK n P lev own amt s1 s2) (ht : tip < n) : Met l yX1_height (ws_ yX1_height cX1_height 2 (some .int)) ({ frames := 1, cells := 0, slots := 0, locals := 24 }) (va_Pc [.ref (ad 0), .int x] (cu_In D vwCl (MT cI cZ) (MW ad cI cZ n tip und P own amt s1 s2 tk) sz)) (va_Qi (fun (r : Int32) (u : Unit) => r = cu_ht n lev x) (fun u => cu_Out D vwCl (MT cI cZ) (va_A (MW ad cI cZ n tip und P own amt s1 s2 tk) sz) (MW ad cI cZ n tip und P own amt s1 s2 tk)) (va_A (MW ad cI cZ n tip und P own amt s1 s2 tk) sz)) 0 0 (va_A (MW ad cI cZ n tip und P own amt s1 s2 tk) sz) := by
  refine Met.ofW (cc := cX1_height) (maxL := 2) (ret := (some .int)) (by decide) rfl ?_
  intro p e s m args below meth c s₁ B hml hv
  obtain ⟨rfl, hsz, hP, hK, hD0⟩ := hv
  have hx := B.exec
  have hb := B.bytes
  have hr := B.returns
  have hts := atoms_spec (ws := ws_ yX1_height cX1_height 2 (some .int)) B.pre
  have hts : ∀ w ∈ lw_all, w.before _ s = true := fun w h => hts w (List.mem_cons_of_mem _ h)
  have hown : s.vm.findClass RX1 = some m.cls := findClass_of_methodNamed B.named
  have hlocks := B.notSynchronized
  subst hsz
  have hD := hD0.self (sz := s.heap.size)
  generalize hAe : va_A (MW ad cI cZ n tip und P own amt s1 s2 tk) s.heap.size = A at hD ⊢
  have hA : ∀ q : Nat, s.heap.size ≤ q → A q := fun q h => by rw [← hAe]; exact Or.inr h
  have hl := lv_entry ([.ref (ad 0), .int x]) (n := 2) (Nat.le_of_ble_eq_true rfl)
  rw [lg_entry_eq]
  generalize (lg_sl ([.ref (ad 0), .int x]) ++ List.replicate (2 - (lg_sl ([.ref (ad 0), .int x])).length) Slot.unset).toArray = ls at hl ⊢
  have hl : lv_has ls 2 [(0, .ref (ad 0)), (1, .int x)] := hl
  refine cu_start (fun H locs eH eL => ?_)
  have hP : va_P D vwCl (MW ad cI cZ n tip und P own amt s1 s2 tk) H := by rw [eH]; exact hP
  have hS : va_S A s.heap H locs := by rw [eH, eL]; exact va_S.rf
  have hn20 := h.n20
  refine lv_aload_n hx hb dX1_height_0 rfl (lv_at hl 0 rfl) ?_
  refine lv_iload_n hx hb dX1_height_1 rfl (lv_at hl 1 rfl) ?_
  refine cu_calli (As := [.int x]) (rest := []) (mM_isBlock l D ad cI cZ H.size n tip und P lev own amt s1 s2 tk x hn20) ⟨hx, hb, hml, hown, hts⟩ (cwV 1 hts (lw_V q202 q204 qs10 q19 q205) rfl rfl rfl (by decide +kernel) ⟨Nat.le_of_ble_eq_true rfl, Nat.le_of_ble_eq_true rfl⟩) hK hP hD hS hA (ci := 1) rfl rfl ⟨Nat.le_of_ble_eq_true rfl, Nat.le_of_ble_eq_true rfl⟩ rfl hl.1 rfl (Nat.le_of_ble_eq_true rfl) dX1_height_2 (fun r2 u2 H locs hw2 hP hD hS => ?_)
  obtain rfl : r2 = cu_bI (cu_in n x) := hw2
  have hP : va_P D vwCl (MW ad cI cZ n tip und P own amt s1 s2 tk) H := hP
  have hD : va_D A (MW ad cI cZ n tip und P own amt s1 s2 tk) := hD
  refine cuB_if_eq (tgt := 16) hx hb dX1_height_5 (by decide) (fun c5 => ?_) (fun c5 => ?_)
  · refine lv_iconst (v := (-1)) hx hb dX1_height_16 (by decide) ?_
    exact W.iret (v := (-1)) hx hb hr (fun t_ ht_ hW => ⟨⟨(-1), (), rfl, cu_ht_o c5, by rw [ht_]; exact hP, va_K.moved hW.alike hK, hD⟩, hS.F ht_⟩) hS.2.2 dX1_height_17
  · obtain ⟨k, hk, rfl⟩ := cu_in_of hn20 c5
    refine lv_aload_n hx hb dX1_height_8 rfl (lv_at hl 0 rfl) ?_
    refine lv_iload_n hx hb dX1_height_9 rfl (lv_at hl 1 rfl) ?_
    refine cu_calli (As := [.int (nI k)]) (rest := []) (mM_heightOf l D ad cI cZ H.size n tip und P lev own amt s1 s2 tk k h hk) ⟨hx, hb, hml, hown, hts⟩ (cwV 1 hts (lw_V q210 q212 qs12 q19 q213) rfl rfl rfl (by decide +kernel) ⟨Nat.le_of_ble_eq_true rfl, Nat.le_of_ble_eq_true rfl⟩) hK hP hD hS hA (ci := 1) rfl rfl ⟨Nat.le_of_ble_eq_true rfl, Nat.le_of_ble_eq_true rfl⟩ rfl hl.1 rfl (Nat.le_of_ble_eq_true rfl) dX1_height_10 (fun r10 u10 H locs hw10 hP hD hS => ?_)
    obtain rfl : r10 = nI (lev k) := hw10
    have hP : va_P D vwCl (MW ad cI cZ n tip und P own amt s1 s2 tk) H := hP
    have hD : va_D A (MW ad cI cZ n tip und P own amt s1 s2 tk) := hD
    refine lv_goto (tgt := 17) hx hb dX1_height_13 (by decide) ?_
    exact W.iret (v := nI (lev k)) hx hb hr (fun t_ ht_ hW => ⟨⟨nI (lev k), (), rfl, cu_ht_n hn20 hk, by rw [ht_]; exact hP, va_K.moved hW.alike hK, hD⟩, hS.F ht_⟩) hS.2.2 dX1_height_17
set_option maxHeartbeats 4000000 in
set_option maxRecDepth 100000 in
theorem mM_unspent (l : Launch) (D : va_G) (ad : Nat → Nat) (cI cZ : ClassId) (sz : Nat) (n tip : Nat) (und : Int32) (P lev own amt : Nat → Nat) (s1 s2 tk : Nat → Int32) (x : Int32) (h : cu_OK n P lev own amt s1 s2) (ht : tip < n) : Met l yX1_unspent (ws_ yX1_unspent cX1_unspent 2 (some .boolean)) ({ frames := 2, cells := 0, slots := 0, locals := 47 }) (va_Pc [.ref (ad 0), .int x] (cu_In D vwCl (MT cI cZ) (MW ad cI cZ n tip und P own amt s1 s2 tk) sz)) (va_Qi (fun (r : Int32) (u : Unit) => r = cu_bI (cu_th n P s1 s2 tip x)) (fun u => cu_Out D vwCl (MT cI cZ) (va_A (MW ad cI cZ n tip und P own amt s1 s2 tk) sz) (MW ad cI cZ n tip und P own amt s1 s2 tk)) (va_A (MW ad cI cZ n tip und P own amt s1 s2 tk) sz)) 0 0 (va_A (MW ad cI cZ n tip und P own amt s1 s2 tk) sz) := by
  refine Met.ofW (cc := cX1_unspent) (maxL := 2) (ret := (some .boolean)) (by decide) rfl ?_
  intro p e s m args below meth c s₁ B hml hv
  obtain ⟨rfl, hsz, hP, hK, hD0⟩ := hv
  have hx := B.exec
  have hb := B.bytes
  have hr := B.returns
  have hts := atoms_spec (ws := ws_ yX1_unspent cX1_unspent 2 (some .boolean)) B.pre
  have hts : ∀ w ∈ lw_all, w.before _ s = true := fun w h => hts w (List.mem_cons_of_mem _ h)
  have hown : s.vm.findClass RX1 = some m.cls := findClass_of_methodNamed B.named
  have hlocks := B.notSynchronized
  subst hsz
  have hD := hD0.self (sz := s.heap.size)
  generalize hAe : va_A (MW ad cI cZ n tip und P own amt s1 s2 tk) s.heap.size = A at hD ⊢
  have hA : ∀ q : Nat, s.heap.size ≤ q → A q := fun q h => by rw [← hAe]; exact Or.inr h
  have hl := lv_entry ([.ref (ad 0), .int x]) (n := 2) (Nat.le_of_ble_eq_true rfl)
  rw [lg_entry_eq]
  generalize (lg_sl ([.ref (ad 0), .int x]) ++ List.replicate (2 - (lg_sl ([.ref (ad 0), .int x])).length) Slot.unset).toArray = ls at hl ⊢
  have hl : lv_has ls 2 [(0, .ref (ad 0)), (1, .int x)] := hl
  refine cu_start (fun H locs eH eL => ?_)
  have hP : va_P D vwCl (MW ad cI cZ n tip und P own amt s1 s2 tk) H := by rw [eH]; exact hP
  have hS : va_S A s.heap H locs := by rw [eH, eL]; exact va_S.rf
  have hn20 := h.n20
  refine lv_aload_n hx hb dX1_unspent_0 rfl (lv_at hl 0 rfl) ?_
  refine lv_iload_n hx hb dX1_unspent_1 rfl (lv_at hl 1 rfl) ?_
  refine lv_aload_n hx hb dX1_unspent_2 rfl (lv_at hl 0 rfl) ?_
  refine va_get (D := D) (ci := 1) (v := .int (nI tip)) (C := RX1) (T := TX1) (N := 9) hx hb hts in_X1 hown hK hP 0 rfl rfl 7 (by decide) (hts _ q176) (fun _ h9 => h9) rfl dX1_unspent_3 ?_
  refine cu_calli (As := [.int x, .int (nI tip)]) (rest := []) (mM_free l D ad cI cZ H.size n tip und P lev own amt s1 s2 tk x tip h ht) ⟨hx, hb, hml, hown, hts⟩ (cwV 2 hts (lw_V q226 q228 qs15 q19 q229) rfl rfl rfl (by decide +kernel) ⟨Nat.le_of_ble_eq_true rfl, Nat.le_of_ble_eq_true rfl⟩) hK hP hD hS hA (ci := 1) rfl rfl ⟨Nat.le_of_ble_eq_true rfl, Nat.le_of_ble_eq_true rfl⟩ rfl hl.1 rfl (Nat.le_of_ble_eq_true rfl) dX1_unspent_6 (fun r6 u6 H locs hw6 hP hD hS => ?_)
  obtain rfl : r6 = cu_bI (cu_th n P s1 s2 tip x) := hw6
  have hP : va_P D vwCl (MW ad cI cZ n tip und P own amt s1 s2 tk) H := hP
  have hD : va_D A (MW ad cI cZ n tip und P own amt s1 s2 tk) := hD
  exact W.zret (v := cu_bI (cu_th n P s1 s2 tip x)) hx hb hr (cu_narZ _) (fun t_ ht_ hW => ⟨⟨cu_bI (cu_th n P s1 s2 tip x), (), rfl, rfl, by rw [ht_]; exact hP, va_K.moved hW.alike hK, hD⟩, hS.F ht_⟩) hS.2.2 dX1_unspent_9
set_option maxHeartbeats 4000000 in
set_option maxRecDepth 100000 in
theorem mM_amount (l : Launch) (D : va_G) (ad : Nat → Nat) (cI cZ : ClassId) (sz : Nat) (n tip : Nat) (und : Int32) (P lev own amt : Nat → Nat) (s1 s2 tk : Nat → Int32) (x : Int32) (h : cu_OK n P lev own amt s1 s2) (ht : tip < n) : Met l yX1_amount (ws_ yX1_amount cX1_amount 2 (some .int)) ({ frames := 1, cells := 0, slots := 0, locals := 21 }) (va_Pc [.ref (ad 0), .int x] (cu_In D vwCl (MT cI cZ) (MW ad cI cZ n tip und P own amt s1 s2 tk) sz)) (va_Qi (fun (r : Int32) (u : Unit) => r = cu_amo n amt x) (fun u => cu_Out D vwCl (MT cI cZ) (va_A (MW ad cI cZ n tip und P own amt s1 s2 tk) sz) (MW ad cI cZ n tip und P own amt s1 s2 tk)) (va_A (MW ad cI cZ n tip und P own amt s1 s2 tk) sz)) 0 0 (va_A (MW ad cI cZ n tip und P own amt s1 s2 tk) sz) := by
  refine Met.ofW (cc := cX1_amount) (maxL := 2) (ret := (some .int)) (by decide) rfl ?_
  intro p e s m args below meth c s₁ B hml hv
  obtain ⟨rfl, hsz, hP, hK, hD0⟩ := hv
  have hx := B.exec
  have hb := B.bytes
  have hr := B.returns
  have hts := atoms_spec (ws := ws_ yX1_amount cX1_amount 2 (some .int)) B.pre
  have hts : ∀ w ∈ lw_all, w.before _ s = true := fun w h => hts w (List.mem_cons_of_mem _ h)
  have hown : s.vm.findClass RX1 = some m.cls := findClass_of_methodNamed B.named
  have hlocks := B.notSynchronized
  subst hsz
  have hD := hD0.self (sz := s.heap.size)
  generalize hAe : va_A (MW ad cI cZ n tip und P own amt s1 s2 tk) s.heap.size = A at hD ⊢
  have hA : ∀ q : Nat, s.heap.size ≤ q → A q := fun q h => by rw [← hAe]; exact Or.inr h
  have hl := lv_entry ([.ref (ad 0), .int x]) (n := 2) (Nat.le_of_ble_eq_true rfl)
  rw [lg_entry_eq]
  generalize (lg_sl ([.ref (ad 0), .int x]) ++ List.replicate (2 - (lg_sl ([.ref (ad 0), .int x])).length) Slot.unset).toArray = ls at hl ⊢
  have hl : lv_has ls 2 [(0, .ref (ad 0)), (1, .int x)] := hl
  refine cu_start (fun H locs eH eL => ?_)
  have hP : va_P D vwCl (MW ad cI cZ n tip und P own amt s1 s2 tk) H := by rw [eH]; exact hP
  have hS : va_S A s.heap H locs := by rw [eH, eL]; exact va_S.rf
  have hn20 := h.n20
  refine lv_iload_n hx hb dX1_amount_0 rfl (lv_at hl 1 rfl) ?_
  refine cuI_if_le (tgt := 21) hx hb dX1_amount_1 (by decide) (fun c1 => ?_) (fun c1 => ?_)
  · have hz : nI 0 = cu_amo n amt x := by
      unfold cu_amo
      by_cases e0 : cu_in n x = true
      · have e1 := of_decide_eq_true e0
        have e2 := cu_clamp e1.1
        rw [if_pos e0, show x.toNatClampNeg = 0 from by omega, h.2.2.2.2.1]
      · rw [if_neg e0]
    refine lv_iconst (v := nI 0) hx hb dX1_amount_21 (by decide) ?_
    exact W.iret (v := nI 0) hx hb hr (fun t_ ht_ hW => ⟨⟨nI 0, (), rfl, hz, by rw [ht_]; exact hP, va_K.moved hW.alike hK, hD⟩, hS.F ht_⟩) hS.2.2 dX1_amount_22
  · refine lv_aload_n hx hb dX1_amount_4 rfl (lv_at hl 0 rfl) ?_
    refine lv_iload_n hx hb dX1_amount_5 rfl (lv_at hl 1 rfl) ?_
    refine cu_calli (As := [.int x]) (rest := []) (mM_isBlock l D ad cI cZ H.size n tip und P lev own amt s1 s2 tk x hn20) ⟨hx, hb, hml, hown, hts⟩ (cwV 1 hts (lw_V q202 q204 qs10 q19 q205) rfl rfl rfl (by decide +kernel) ⟨Nat.le_of_ble_eq_true rfl, Nat.le_of_ble_eq_true rfl⟩) hK hP hD hS hA (ci := 1) rfl rfl ⟨Nat.le_of_ble_eq_true rfl, Nat.le_of_ble_eq_true rfl⟩ rfl hl.1 rfl (Nat.le_of_ble_eq_true rfl) dX1_amount_6 (fun r6 u6 H locs hw6 hP hD hS => ?_)
    obtain rfl : r6 = cu_bI (cu_in n x) := hw6
    have hP : va_P D vwCl (MW ad cI cZ n tip und P own amt s1 s2 tk) H := hP
    have hD : va_D A (MW ad cI cZ n tip und P own amt s1 s2 tk) := hD
    refine cuB_if_eq (tgt := 21) hx hb dX1_amount_9 (by decide) (fun c9 => ?_) (fun c9 => ?_)
    · refine lv_iconst (v := nI 0) hx hb dX1_amount_21 (by decide) ?_
      exact W.iret (v := nI 0) hx hb hr (fun t_ ht_ hW => ⟨⟨nI 0, (), rfl, cu_amo_o c9, by rw [ht_]; exact hP, va_K.moved hW.alike hK, hD⟩, hS.F ht_⟩) hS.2.2 dX1_amount_22
    · obtain ⟨k, hk, rfl⟩ := cu_in_of hn20 c9
      refine lv_aload_n hx hb dX1_amount_12 rfl (lv_at hl 0 rfl) ?_
      refine va_get (D := D) (ci := 1) (v := .ref (ad 3)) (C := RX1) (T := TX1) (N := 9) hx hb hts in_X1 hown hK hP 0 rfl rfl 3 (by decide) (hts _ q172) (fun _ h9 => h9) rfl dX1_amount_13 ?_
      refine lv_iload_n hx hb dX1_amount_16 rfl (lv_at hl 1 rfl) ?_
      refine cu_iald (v := nI (amt k)) hx hb hK hP 3 0 rfl rfl k (by omega) (Nat.le_of_ble_eq_true rfl) rfl dX1_amount_17 ?_
      refine lv_goto (tgt := 22) hx hb dX1_amount_18 (by decide) ?_
      exact W.iret (v := nI (amt k)) hx hb hr (fun t_ ht_ hW => ⟨⟨nI (amt k), (), rfl, cu_amo_n hn20 hk, by rw [ht_]; exact hP, va_K.moved hW.alike hK, hD⟩, hS.F ht_⟩) hS.2.2 dX1_amount_22
set_option maxHeartbeats 4000000 in
set_option maxRecDepth 100000 in
theorem mM_balance (l : Launch) (D : va_G) (ad : Nat → Nat) (cI cZ : ClassId) (sz : Nat) (n tip : Nat) (und : Int32) (P lev own amt : Nat → Nat) (s1 s2 tk : Nat → Int32) (oo : Int32) (h : cu_OK n P lev own amt s1 s2) (ht : tip < n) : Met l yX1_balance (ws_ yX1_balance cX1_balance 5 (some .long)) ({ frames := 2, cells := 0, slots := 0, locals := 47 }) (va_Pc [.ref (ad 0), .int oo] (cu_In D vwCl (MT cI cZ) (MW ad cI cZ n tip und P own amt s1 s2 tk) sz)) (va_Ql (fun (r : Int64) (u : Unit) => r = lN (cu_sum (cu_F P s1 s2 own amt oo tip) n)) (fun u => cu_Out D vwCl (MT cI cZ) (va_A (MW ad cI cZ n tip und P own amt s1 s2 tk) sz) (MW ad cI cZ n tip und P own amt s1 s2 tk)) (va_A (MW ad cI cZ n tip und P own amt s1 s2 tk) sz)) 0 0 (va_A (MW ad cI cZ n tip und P own amt s1 s2 tk) sz) := by
  refine Met.ofW (cc := cX1_balance) (maxL := 5) (ret := (some .long)) (by decide) rfl ?_
  intro p e s m args below meth c s₁ B hml hv
  obtain ⟨rfl, hsz, hP, hK, hD0⟩ := hv
  have hx := B.exec
  have hb := B.bytes
  have hr := B.returns
  have hts := atoms_spec (ws := ws_ yX1_balance cX1_balance 5 (some .long)) B.pre
  have hts : ∀ w ∈ lw_all, w.before _ s = true := fun w h => hts w (List.mem_cons_of_mem _ h)
  have hown : s.vm.findClass RX1 = some m.cls := findClass_of_methodNamed B.named
  have hlocks := B.notSynchronized
  subst hsz
  have hD := hD0.self (sz := s.heap.size)
  generalize hAe : va_A (MW ad cI cZ n tip und P own amt s1 s2 tk) s.heap.size = A at hD ⊢
  have hA : ∀ q : Nat, s.heap.size ≤ q → A q := fun q h => by rw [← hAe]; exact Or.inr h
  have hl := lv_entry ([.ref (ad 0), .int oo]) (n := 5) (Nat.le_of_ble_eq_true rfl)
  rw [lg_entry_eq]
  generalize (lg_sl ([.ref (ad 0), .int oo]) ++ List.replicate (5 - (lg_sl ([.ref (ad 0), .int oo])).length) Slot.unset).toArray = ls at hl ⊢
  have hl : lv_has ls 5 [(0, .ref (ad 0)), (1, .int oo)] := hl
  refine cu_start (fun H locs eH eL => ?_)
  have hP : va_P D vwCl (MW ad cI cZ n tip und P own amt s1 s2 tk) H := by rw [eH]; exact hP
  have hS : va_S A s.heap H locs := by rw [eH, eL]; exact va_S.rf
  have hn20 := h.n20
  refine lv_lconst (v := lN 0) hx hb dX1_balance_0 (by decide) ?_
  refine lv_lstore_n (lv' := [(2, .long (lN 0)), (0, .ref (ad 0)), (1, .int oo)]) hx hb dX1_balance_1 rfl hl (by decide) rfl (fun ls hl => ?_)
  refine lv_iconst (v := nI 1) hx hb dX1_balance_2 (by decide) ?_
  refine lv_istore (lv' := [(4, .int (nI 1)), (2, .long (lN 0)), (0, .ref (ad 0)), (1, .int oo)]) hx hb dX1_balance_3 hl (by decide) rfl (fun ls hl => ?_)
  refine cu_loop (σ := Nat × Nat) (I := fun (x_ : Nat × Nat) H locs ls => match x_ with | (k, t) => va_P D vwCl (MW ad cI cZ n tip und P own amt s1 s2 tk) H ∧ va_D A (MW ad cI cZ n tip und P own amt s1 s2 tk) ∧ va_S A s.heap H locs ∧ lv_has ls 5 [(0, .ref (ad 0)), (1, .int oo), (2, .long (lN t)), (4, .int (nI k))] ∧ (0 < k) ∧ (k ≤ n) ∧ (t = cu_sum (cu_F P s1 s2 own amt oo tip) k)) (μ := fun (x_ : Nat × Nat) => match x_ with | (k, t) => n - k) ?_ (1, 0) ⟨hP, hD, hS, lv_sub hl [2, 3, 1, 0] rfl, by omega, h.1, by rw [cu_sum, cu_sum]; unfold cu_F; rw [cu_Lg_0]; simp⟩
  rintro ⟨k, t⟩ H locs ls ⟨hP, hD, hS, hl, ⟨hk0, hkn, ht9⟩⟩ ih
  refine lv_iload hx hb dX1_balance_5 (lv_at hl 3 rfl) ?_
  refine lv_aload_n hx hb dX1_balance_7 rfl (lv_at hl 0 rfl) ?_
  refine va_get (D := D) (ci := 1) (v := .int (nI n)) (C := RX1) (T := TX1) (N := 9) hx hb hts in_X1 hown hK hP 0 rfl rfl 0 (by decide) (hts _ q169) (fun _ h9 => h9) rfl dX1_balance_8 ?_
  refine cu_icmp_ge (tgt := 55) (j := k) (k := n) (by omega) (by omega) hx hb dX1_balance_11 (by decide) (fun c11 => ?_) (fun c11 => ?_)
  · refine lv_lload_n hx hb dX1_balance_55 rfl (lv_at hl 2 rfl) ?_
    exact W.lret (v := lN t) hx hb hr (fun t_ ht_ hW => ⟨⟨lN t, (), rfl, by rw [ht9, show k = n from by omega], by rw [ht_]; exact hP, va_K.moved hW.alike hK, hD⟩, hS.F ht_⟩) hS.2.2 dX1_balance_56
  · have hak := h.amt_lt (show k < n by omega)
    refine lv_aload_n hx hb dX1_balance_14 rfl (lv_at hl 0 rfl) ?_
    refine va_get (D := D) (ci := 1) (v := .ref (ad 2)) (C := RX1) (T := TX1) (N := 9) hx hb hts in_X1 hown hK hP 0 rfl rfl 2 (by decide) (hts _ q171) (fun _ h9 => h9) rfl dX1_balance_15 ?_
    refine lv_iload hx hb dX1_balance_18 (lv_at hl 3 rfl) ?_
    refine cu_iald (v := nI (own k)) hx hb hK hP 2 0 rfl rfl k (by omega) (Nat.le_of_ble_eq_true rfl) rfl dX1_balance_20 ?_
    refine lv_iload_n hx hb dX1_balance_21 rfl (lv_at hl 1 rfl) ?_
    refine lv_icmp_ne (tgt := 49) hx hb dX1_balance_22 (by decide) (fun c22 => ?_) (fun c22 => ?_)
    · refine lv_iinc (v := nI (k + 1)) (lv' := [(4, .int (nI (k + 1))), (0, .ref (ad 0)), (1, .int oo), (2, .long (lN t))]) hx hb dX1_balance_49 hl (k := 3) rfl (cu_inc _) (by decide) rfl (fun ls hl => ?_)
      refine lv_goto (tgt := 5) hx hb dX1_balance_52 (by decide) ?_
      exact ih (k + 1, t) _ _ _ ⟨hP, hD, hS, lv_sub hl [1, 2, 3, 0] rfl, by omega, by omega, by rw [cu_sum, ht9]; exact (show cu_F P s1 s2 own amt oo tip k = 0 from if_neg (fun z => c22 z.2)) ▸ rfl⟩ (show n - (k + 1) < n - k by omega)
    · refine lv_aload_n hx hb dX1_balance_25 rfl (lv_at hl 0 rfl) ?_
      refine lv_iload hx hb dX1_balance_26 (lv_at hl 3 rfl) ?_
      refine lv_aload_n hx hb dX1_balance_28 rfl (lv_at hl 0 rfl) ?_
      refine va_get (D := D) (ci := 1) (v := .int (nI tip)) (C := RX1) (T := TX1) (N := 9) hx hb hts in_X1 hown hK hP 0 rfl rfl 7 (by decide) (hts _ q176) (fun _ h9 => h9) rfl dX1_balance_29 ?_
      refine cu_calli (As := [.int (nI k), .int (nI tip)]) (rest := []) (mM_free l D ad cI cZ H.size n tip und P lev own amt s1 s2 tk (nI k) tip h ht) ⟨hx, hb, hml, hown, hts⟩ (cwV 2 hts (lw_V q226 q228 qs15 q19 q229) rfl rfl rfl (by decide +kernel) ⟨Nat.le_of_ble_eq_true rfl, Nat.le_of_ble_eq_true rfl⟩) hK hP hD hS hA (ci := 1) rfl rfl ⟨Nat.le_of_ble_eq_true rfl, Nat.le_of_ble_eq_true rfl⟩ rfl hl.1 rfl (Nat.le_of_ble_eq_true rfl) dX1_balance_32 (fun r32 u32 H locs hw32 hP hD hS => ?_)
      obtain rfl : r32 = cu_bI (cu_Lg P s1 s2 k tip) := hw32.trans (congrArg cu_bI (cu_th_n hn20 (by omega) (by omega)))
      have hP : va_P D vwCl (MW ad cI cZ n tip und P own amt s1 s2 tk) H := hP
      have hD : va_D A (MW ad cI cZ n tip und P own amt s1 s2 tk) := hD
      refine cuB_if_eq (tgt := 49) hx hb dX1_balance_35 (by decide) (fun c35 => ?_) (fun c35 => ?_)
      · refine lv_iinc (v := nI (k + 1)) (lv' := [(4, .int (nI (k + 1))), (0, .ref (ad 0)), (1, .int oo), (2, .long (lN t))]) hx hb dX1_balance_49 hl (k := 3) rfl (cu_inc _) (by decide) rfl (fun ls hl => ?_)
        refine lv_goto (tgt := 5) hx hb dX1_balance_52 (by decide) ?_
        exact ih (k + 1, t) _ _ _ ⟨hP, hD, hS, lv_sub hl [1, 2, 3, 0] rfl, by omega, by omega, by rw [cu_sum, ht9]; exact (show cu_F P s1 s2 own amt oo tip k = 0 from if_neg (fun z => absurd (c35.symm.trans z.1) (by decide))) ▸ rfl⟩ (show n - (k + 1) < n - k by omega)
      · refine lv_lload_n hx hb dX1_balance_38 rfl (lv_at hl 2 rfl) ?_
        refine lv_aload_n hx hb dX1_balance_39 rfl (lv_at hl 0 rfl) ?_
        refine va_get (D := D) (ci := 1) (v := .ref (ad 3)) (C := RX1) (T := TX1) (N := 9) hx hb hts in_X1 hown hK hP 0 rfl rfl 3 (by decide) (hts _ q172) (fun _ h9 => h9) rfl dX1_balance_40 ?_
        refine lv_iload hx hb dX1_balance_43 (lv_at hl 3 rfl) ?_
        refine cu_iald (v := nI (amt k)) hx hb hK hP 3 0 rfl rfl k (by omega) (Nat.le_of_ble_eq_true rfl) rfl dX1_balance_45 ?_
        refine lv_i2l (v := (nI (amt k)).toInt64) hx hb dX1_balance_46 rfl ?_
        refine lv_ladd hx hb dX1_balance_47 ?_
        refine cu_topl (y := lN (t + amt k)) (by rw [nI_l (by omega), lN_add]) ?_
        refine lv_lstore_n (lv' := [(2, .long (lN (t + amt k))), (0, .ref (ad 0)), (1, .int oo), (4, .int (nI k))]) hx hb dX1_balance_48 rfl hl (by decide) rfl (fun ls hl => ?_)
        refine lv_iinc (v := nI (k + 1)) (lv' := [(4, .int (nI (k + 1))), (2, .long (lN (t + amt k))), (0, .ref (ad 0)), (1, .int oo)]) hx hb dX1_balance_49 hl (k := 3) rfl (cu_inc _) (by decide) rfl (fun ls hl => ?_)
        refine lv_goto (tgt := 5) hx hb dX1_balance_52 (by decide) ?_
        exact ih (k + 1, t + amt k) _ _ _ ⟨hP, hD, hS, lv_sub hl [2, 3, 1, 0] rfl, by omega, by omega, by rw [cu_sum, ht9]; congr 1; exact (if_pos ⟨c35, c22⟩).symm⟩ (show n - (k + 1) < n - k by omega)
set_option maxHeartbeats 4000000 in
set_option maxRecDepth 100000 in
theorem mM_coins (l : Launch) (D : va_G) (ad : Nat → Nat) (cI cZ : ClassId) (sz : Nat) (n tip : Nat) (und : Int32) (P lev own amt : Nat → Nat) (s1 s2 tk : Nat → Int32) (h : cu_OK n P lev own amt s1 s2) (ht : tip < n) : Met l yX1_coins (ws_ yX1_coins cX1_coins 3 (some .int)) ({ frames := 2, cells := 0, slots := 0, locals := 47 }) (va_Pc [.ref (ad 0)] (cu_In D vwCl (MT cI cZ) (MW ad cI cZ n tip und P own amt s1 s2 tk) sz)) (va_Qi (fun (r : Int32) (u : Unit) => r = nI (cu_cnt (fun c => cu_Lg P s1 s2 c tip) n)) (fun u => cu_Out D vwCl (MT cI cZ) (va_A (MW ad cI cZ n tip und P own amt s1 s2 tk) sz) (MW ad cI cZ n tip und P own amt s1 s2 tk)) (va_A (MW ad cI cZ n tip und P own amt s1 s2 tk) sz)) 0 0 (va_A (MW ad cI cZ n tip und P own amt s1 s2 tk) sz) := by
  refine Met.ofW (cc := cX1_coins) (maxL := 3) (ret := (some .int)) (by decide) rfl ?_
  intro p e s m args below meth c s₁ B hml hv
  obtain ⟨rfl, hsz, hP, hK, hD0⟩ := hv
  have hx := B.exec
  have hb := B.bytes
  have hr := B.returns
  have hts := atoms_spec (ws := ws_ yX1_coins cX1_coins 3 (some .int)) B.pre
  have hts : ∀ w ∈ lw_all, w.before _ s = true := fun w h => hts w (List.mem_cons_of_mem _ h)
  have hown : s.vm.findClass RX1 = some m.cls := findClass_of_methodNamed B.named
  have hlocks := B.notSynchronized
  subst hsz
  have hD := hD0.self (sz := s.heap.size)
  generalize hAe : va_A (MW ad cI cZ n tip und P own amt s1 s2 tk) s.heap.size = A at hD ⊢
  have hA : ∀ q : Nat, s.heap.size ≤ q → A q := fun q h => by rw [← hAe]; exact Or.inr h
  have hl := lv_entry ([.ref (ad 0)]) (n := 3) (Nat.le_of_ble_eq_true rfl)
  rw [lg_entry_eq]
  generalize (lg_sl ([.ref (ad 0)]) ++ List.replicate (3 - (lg_sl ([.ref (ad 0)])).length) Slot.unset).toArray = ls at hl ⊢
  have hl : lv_has ls 3 [(0, .ref (ad 0))] := hl
  refine cu_start (fun H locs eH eL => ?_)
  have hP : va_P D vwCl (MW ad cI cZ n tip und P own amt s1 s2 tk) H := by rw [eH]; exact hP
  have hS : va_S A s.heap H locs := by rw [eH, eL]; exact va_S.rf
  have hn20 := h.n20
  refine lv_iconst (v := nI 0) hx hb dX1_coins_0 (by decide) ?_
  refine lv_istore_n (lv' := [(1, .int (nI 0)), (0, .ref (ad 0))]) hx hb dX1_coins_1 rfl hl (by decide) rfl (fun ls hl => ?_)
  refine lv_iconst (v := nI 1) hx hb dX1_coins_2 (by decide) ?_
  refine lv_istore_n (lv' := [(2, .int (nI 1)), (1, .int (nI 0)), (0, .ref (ad 0))]) hx hb dX1_coins_3 rfl hl (by decide) rfl (fun ls hl => ?_)
  refine cu_loop (σ := Nat × Nat) (I := fun (x_ : Nat × Nat) H locs ls => match x_ with | (k, t) => va_P D vwCl (MW ad cI cZ n tip und P own amt s1 s2 tk) H ∧ va_D A (MW ad cI cZ n tip und P own amt s1 s2 tk) ∧ va_S A s.heap H locs ∧ lv_has ls 3 [(0, .ref (ad 0)), (1, .int (nI t)), (2, .int (nI k))] ∧ (0 < k) ∧ (k ≤ n) ∧ (t = cu_cnt (fun c => cu_Lg P s1 s2 c tip) k)) (μ := fun (x_ : Nat × Nat) => match x_ with | (k, t) => n - k) ?_ (1, 0) ⟨hP, hD, hS, lv_sub hl [2, 1, 0] rfl, by omega, h.1, by rw [cu_cnt, if_neg (by rw [cu_Lg_0]; decide), cu_cnt]⟩
  rintro ⟨k, t⟩ H locs ls ⟨hP, hD, hS, hl, ⟨hk0, hkn, ht9⟩⟩ ih
  refine lv_iload_n hx hb dX1_coins_4 rfl (lv_at hl 2 rfl) ?_
  refine lv_aload_n hx hb dX1_coins_5 rfl (lv_at hl 0 rfl) ?_
  refine va_get (D := D) (ci := 1) (v := .int (nI n)) (C := RX1) (T := TX1) (N := 9) hx hb hts in_X1 hown hK hP 0 rfl rfl 0 (by decide) (hts _ q169) (fun _ h9 => h9) rfl dX1_coins_6 ?_
  refine cu_icmp_ge (tgt := 33) (j := k) (k := n) (by omega) (by omega) hx hb dX1_coins_9 (by decide) (fun c9 => ?_) (fun c9 => ?_)
  · refine lv_iload_n hx hb dX1_coins_33 rfl (lv_at hl 1 rfl) ?_
    exact W.iret (v := nI t) hx hb hr (fun t_ ht_ hW => ⟨⟨nI t, (), rfl, by rw [ht9, show k = n from by omega], by rw [ht_]; exact hP, va_K.moved hW.alike hK, hD⟩, hS.F ht_⟩) hS.2.2 dX1_coins_34
  · refine lv_aload_n hx hb dX1_coins_12 rfl (lv_at hl 0 rfl) ?_
    refine lv_iload_n hx hb dX1_coins_13 rfl (lv_at hl 2 rfl) ?_
    refine lv_aload_n hx hb dX1_coins_14 rfl (lv_at hl 0 rfl) ?_
    refine va_get (D := D) (ci := 1) (v := .int (nI tip)) (C := RX1) (T := TX1) (N := 9) hx hb hts in_X1 hown hK hP 0 rfl rfl 7 (by decide) (hts _ q176) (fun _ h9 => h9) rfl dX1_coins_15 ?_
    refine cu_calli (As := [.int (nI k), .int (nI tip)]) (rest := []) (mM_free l D ad cI cZ H.size n tip und P lev own amt s1 s2 tk (nI k) tip h ht) ⟨hx, hb, hml, hown, hts⟩ (cwV 2 hts (lw_V q226 q228 qs15 q19 q229) rfl rfl rfl (by decide +kernel) ⟨Nat.le_of_ble_eq_true rfl, Nat.le_of_ble_eq_true rfl⟩) hK hP hD hS hA (ci := 1) rfl rfl ⟨Nat.le_of_ble_eq_true rfl, Nat.le_of_ble_eq_true rfl⟩ rfl hl.1 rfl (Nat.le_of_ble_eq_true rfl) dX1_coins_18 (fun r18 u18 H locs hw18 hP hD hS => ?_)
    obtain rfl : r18 = cu_bI (cu_Lg P s1 s2 k tip) := hw18.trans (congrArg cu_bI (cu_th_n hn20 (by omega) (by omega)))
    have hP : va_P D vwCl (MW ad cI cZ n tip und P own amt s1 s2 tk) H := hP
    have hD : va_D A (MW ad cI cZ n tip und P own amt s1 s2 tk) := hD
    refine cuB_if_eq (tgt := 27) hx hb dX1_coins_21 (by decide) (fun c21 => ?_) (fun c21 => ?_)
    · refine lv_iinc (v := nI (k + 1)) (lv' := [(2, .int (nI (k + 1))), (0, .ref (ad 0)), (1, .int (nI t))]) hx hb dX1_coins_27 hl (k := 2) rfl (cu_inc _) (by decide) rfl (fun ls hl => ?_)
      refine lv_goto (tgt := 4) hx hb dX1_coins_30 (by decide) ?_
      exact ih (k + 1, t) _ _ _ ⟨hP, hD, hS, lv_sub hl [1, 2, 0] rfl, by omega, by omega, by rw [cu_cnt, if_neg (by rw [c21]; decide), ht9]⟩ (show n - (k + 1) < n - k by omega)
    · refine lv_iinc (v := nI (t + 1)) (lv' := [(1, .int (nI (t + 1))), (0, .ref (ad 0)), (2, .int (nI k))]) hx hb dX1_coins_24 hl (k := 1) rfl (cu_inc _) (by decide) rfl (fun ls hl => ?_)
      refine lv_iinc (v := nI (k + 1)) (lv' := [(2, .int (nI (k + 1))), (1, .int (nI (t + 1))), (0, .ref (ad 0))]) hx hb dX1_coins_27 hl (k := 2) rfl (cu_inc _) (by decide) rfl (fun ls hl => ?_)
      refine lv_goto (tgt := 4) hx hb dX1_coins_30 (by decide) ?_
      exact ih (k + 1, t + 1) _ _ _ ⟨hP, hD, hS, lv_sub hl [2, 1, 0] rfl, by omega, by omega, by rw [cu_cnt, if_pos c21, ht9]⟩ (show n - (k + 1) < n - k by omega)
set_option maxHeartbeats 4000000 in
set_option maxRecDepth 100000 in
theorem mM_meeting (l : Launch) (D : va_G) (ad : Nat → Nat) (cI cZ : ClassId) (sz : Nat) (n tip : Nat) (und : Int32) (P lev own amt : Nat → Nat) (s1 s2 tk : Nat → Int32) (x y : Int32) (h : cu_OK n P lev own amt s1 s2) (ht : tip < n) : Met l yX1_meeting (ws_ yX1_meeting cX1_meeting 3 (some .int)) ({ frames := 2, cells := 0, slots := 0, locals := 48 }) (va_Pc [.ref (ad 0), .int x, .int y] (cu_In D vwCl (MT cI cZ) (MW ad cI cZ n tip und P own amt s1 s2 tk) sz)) (va_Qi (fun (r : Int32) (u : Unit) => r = cu_mee n P x y) (fun u => cu_Out D vwCl (MT cI cZ) (va_A (MW ad cI cZ n tip und P own amt s1 s2 tk) sz) (MW ad cI cZ n tip und P own amt s1 s2 tk)) (va_A (MW ad cI cZ n tip und P own amt s1 s2 tk) sz)) 0 0 (va_A (MW ad cI cZ n tip und P own amt s1 s2 tk) sz) := by
  refine Met.ofW (cc := cX1_meeting) (maxL := 3) (ret := (some .int)) (by decide) rfl ?_
  intro p e s m args below meth c s₁ B hml hv
  obtain ⟨rfl, hsz, hP, hK, hD0⟩ := hv
  have hx := B.exec
  have hb := B.bytes
  have hr := B.returns
  have hts := atoms_spec (ws := ws_ yX1_meeting cX1_meeting 3 (some .int)) B.pre
  have hts : ∀ w ∈ lw_all, w.before _ s = true := fun w h => hts w (List.mem_cons_of_mem _ h)
  have hown : s.vm.findClass RX1 = some m.cls := findClass_of_methodNamed B.named
  have hlocks := B.notSynchronized
  subst hsz
  have hD := hD0.self (sz := s.heap.size)
  generalize hAe : va_A (MW ad cI cZ n tip und P own amt s1 s2 tk) s.heap.size = A at hD ⊢
  have hA : ∀ q : Nat, s.heap.size ≤ q → A q := fun q h => by rw [← hAe]; exact Or.inr h
  have hl := lv_entry ([.ref (ad 0), .int x, .int y]) (n := 3) (Nat.le_of_ble_eq_true rfl)
  rw [lg_entry_eq]
  generalize (lg_sl ([.ref (ad 0), .int x, .int y]) ++ List.replicate (3 - (lg_sl ([.ref (ad 0), .int x, .int y])).length) Slot.unset).toArray = ls at hl ⊢
  have hl : lv_has ls 3 [(0, .ref (ad 0)), (1, .int x), (2, .int y)] := hl
  refine cu_start (fun H locs eH eL => ?_)
  have hP : va_P D vwCl (MW ad cI cZ n tip und P own amt s1 s2 tk) H := by rw [eH]; exact hP
  have hS : va_S A s.heap H locs := by rw [eH, eL]; exact va_S.rf
  have hn20 := h.n20
  refine lv_aload_n hx hb dX1_meeting_0 rfl (lv_at hl 0 rfl) ?_
  refine lv_iload_n hx hb dX1_meeting_1 rfl (lv_at hl 1 rfl) ?_
  refine cu_calli (As := [.int x]) (rest := []) (mM_isBlock l D ad cI cZ H.size n tip und P lev own amt s1 s2 tk x hn20) ⟨hx, hb, hml, hown, hts⟩ (cwV 1 hts (lw_V q202 q204 qs10 q19 q205) rfl rfl rfl (by decide +kernel) ⟨Nat.le_of_ble_eq_true rfl, Nat.le_of_ble_eq_true rfl⟩) hK hP hD hS hA (ci := 1) rfl rfl ⟨Nat.le_of_ble_eq_true rfl, Nat.le_of_ble_eq_true rfl⟩ rfl hl.1 rfl (Nat.le_of_ble_eq_true rfl) dX1_meeting_2 (fun r2 u2 H locs hw2 hP hD hS => ?_)
  obtain rfl : r2 = cu_bI (cu_in n x) := hw2
  have hP : va_P D vwCl (MW ad cI cZ n tip und P own amt s1 s2 tk) H := hP
  have hD : va_D A (MW ad cI cZ n tip und P own amt s1 s2 tk) := hD
  refine cuB_if_eq (tgt := 25) hx hb dX1_meeting_5 (by decide) (fun c5 => ?_) (fun c5 => ?_)
  · refine lv_iconst (v := (-1)) hx hb dX1_meeting_25 (by decide) ?_
    exact W.iret (v := (-1)) hx hb hr (fun t_ ht_ hW => ⟨⟨(-1), (), rfl, cu_mee_1 c5, by rw [ht_]; exact hP, va_K.moved hW.alike hK, hD⟩, hS.F ht_⟩) hS.2.2 dX1_meeting_26
  · refine lv_aload_n hx hb dX1_meeting_8 rfl (lv_at hl 0 rfl) ?_
    refine lv_iload_n hx hb dX1_meeting_9 rfl (lv_at hl 2 rfl) ?_
    refine cu_calli (As := [.int y]) (rest := []) (mM_isBlock l D ad cI cZ H.size n tip und P lev own amt s1 s2 tk y hn20) ⟨hx, hb, hml, hown, hts⟩ (cwV 1 hts (lw_V q202 q204 qs10 q19 q205) rfl rfl rfl (by decide +kernel) ⟨Nat.le_of_ble_eq_true rfl, Nat.le_of_ble_eq_true rfl⟩) hK hP hD hS hA (ci := 1) rfl rfl ⟨Nat.le_of_ble_eq_true rfl, Nat.le_of_ble_eq_true rfl⟩ rfl hl.1 rfl (Nat.le_of_ble_eq_true rfl) dX1_meeting_10 (fun r10 u10 H locs hw10 hP hD hS => ?_)
    obtain rfl : r10 = cu_bI (cu_in n y) := hw10
    have hP : va_P D vwCl (MW ad cI cZ n tip und P own amt s1 s2 tk) H := hP
    have hD : va_D A (MW ad cI cZ n tip und P own amt s1 s2 tk) := hD
    refine cuB_if_eq (tgt := 25) hx hb dX1_meeting_13 (by decide) (fun c13 => ?_) (fun c13 => ?_)
    · refine lv_iconst (v := (-1)) hx hb dX1_meeting_25 (by decide) ?_
      exact W.iret (v := (-1)) hx hb hr (fun t_ ht_ hW => ⟨⟨(-1), (), rfl, cu_mee_2 c13, by rw [ht_]; exact hP, va_K.moved hW.alike hK, hD⟩, hS.F ht_⟩) hS.2.2 dX1_meeting_26
    · obtain ⟨k1, hk1, rfl⟩ := cu_in_of hn20 c5
      obtain ⟨k2, hk2, rfl⟩ := cu_in_of hn20 c13
      refine lv_aload_n hx hb dX1_meeting_16 rfl (lv_at hl 0 rfl) ?_
      refine lv_iload_n hx hb dX1_meeting_17 rfl (lv_at hl 1 rfl) ?_
      refine lv_iload_n hx hb dX1_meeting_18 rfl (lv_at hl 2 rfl) ?_
      refine cu_calli (As := [.int (nI k1), .int (nI k2)]) (rest := []) (mM_meet l D ad cI cZ H.size n tip und P lev own amt s1 s2 tk k1 k2 h hk1 hk2) ⟨hx, hb, hml, hown, hts⟩ (cwV 2 hts (lw_V q214 q216 qs13 q19 q217) rfl rfl rfl (by decide +kernel) ⟨Nat.le_of_ble_eq_true rfl, Nat.le_of_ble_eq_true rfl⟩) hK hP hD hS hA (ci := 1) rfl rfl ⟨Nat.le_of_ble_eq_true rfl, Nat.le_of_ble_eq_true rfl⟩ rfl hl.1 rfl (Nat.le_of_ble_eq_true rfl) dX1_meeting_19 (fun r19 u19 H locs hw19 hP hD hS => ?_)
      obtain rfl : r19 = nI (cu_mt P k1 k2 n) := hw19
      have hP : va_P D vwCl (MW ad cI cZ n tip und P own amt s1 s2 tk) H := hP
      have hD : va_D A (MW ad cI cZ n tip und P own amt s1 s2 tk) := hD
      refine lv_goto (tgt := 26) hx hb dX1_meeting_22 (by decide) ?_
      exact W.iret (v := nI (cu_mt P k1 k2 n)) hx hb hr (fun t_ ht_ hW => ⟨⟨nI (cu_mt P k1 k2 n), (), rfl, cu_mee_n hn20 hk1 hk2, by rw [ht_]; exact hP, va_K.moved hW.alike hK, hD⟩, hS.F ht_⟩) hS.2.2 dX1_meeting_26
set_option maxHeartbeats 4000000 in
set_option maxRecDepth 100000 in
theorem mM_greatest (l : Launch) (D : va_G) (ad : Nat → Nat) (cI cZ : ClassId) (sz : Nat) (n tip : Nat) (und : Int32) (P lev own amt : Nat → Nat) (s1 s2 tk : Nat → Int32) (o : Nat) (U : Nat → Bool) (h : cu_OK n P lev own amt s1 s2) (ht : tip < n) (ho : o < 4) (hU : ∀ c, c < 20 → tk c = cu_bI (U c)) : Met l yX1_greatest (ws_ yX1_greatest cX1_greatest 4 (some .int)) ({ frames := 2, cells := 0, slots := 0, locals := 47 }) (va_Pc [.ref (ad 0), .int (nI o)] (cu_In D vwCl (MT cI cZ) (MW ad cI cZ n tip und P own amt s1 s2 tk) sz)) (va_Qi (fun (r : Int32) (u : Unit) => r = nI (cu_scan (cu_cn (cu_cand P s1 s2 own (nI o) tip) U) amt n)) (fun u => cu_Out D vwCl (MT cI cZ) (va_A (MW ad cI cZ n tip und P own amt s1 s2 tk) sz) (MW ad cI cZ n tip und P own amt s1 s2 tk)) (va_A (MW ad cI cZ n tip und P own amt s1 s2 tk) sz)) 0 0 (va_A (MW ad cI cZ n tip und P own amt s1 s2 tk) sz) := by
  refine Met.ofW (cc := cX1_greatest) (maxL := 4) (ret := (some .int)) (by decide) rfl ?_
  intro p e s m args below meth c s₁ B hml hv
  obtain ⟨rfl, hsz, hP, hK, hD0⟩ := hv
  have hx := B.exec
  have hb := B.bytes
  have hr := B.returns
  have hts := atoms_spec (ws := ws_ yX1_greatest cX1_greatest 4 (some .int)) B.pre
  have hts : ∀ w ∈ lw_all, w.before _ s = true := fun w h => hts w (List.mem_cons_of_mem _ h)
  have hown : s.vm.findClass RX1 = some m.cls := findClass_of_methodNamed B.named
  have hlocks := B.notSynchronized
  subst hsz
  have hD := hD0.self (sz := s.heap.size)
  generalize hAe : va_A (MW ad cI cZ n tip und P own amt s1 s2 tk) s.heap.size = A at hD ⊢
  have hA : ∀ q : Nat, s.heap.size ≤ q → A q := fun q h => by rw [← hAe]; exact Or.inr h
  have hl := lv_entry ([.ref (ad 0), .int (nI o)]) (n := 4) (Nat.le_of_ble_eq_true rfl)
  rw [lg_entry_eq]
  generalize (lg_sl ([.ref (ad 0), .int (nI o)]) ++ List.replicate (4 - (lg_sl ([.ref (ad 0), .int (nI o)])).length) Slot.unset).toArray = ls at hl ⊢
  have hl : lv_has ls 4 [(0, .ref (ad 0)), (1, .int (nI o))] := hl
  refine cu_start (fun H locs eH eL => ?_)
  have hP : va_P D vwCl (MW ad cI cZ n tip und P own amt s1 s2 tk) H := by rw [eH]; exact hP
  have hS : va_S A s.heap H locs := by rw [eH, eL]; exact va_S.rf
  have hn20 := h.n20
  refine lv_iconst (v := nI 0) hx hb dX1_greatest_0 (by decide) ?_
  refine lv_istore_n (lv' := [(2, .int (nI 0)), (0, .ref (ad 0)), (1, .int (nI o))]) hx hb dX1_greatest_1 rfl hl (by decide) rfl (fun ls hl => ?_)
  refine lv_iconst (v := nI 1) hx hb dX1_greatest_2 (by decide) ?_
  refine lv_istore_n (lv' := [(3, .int (nI 1)), (2, .int (nI 0)), (0, .ref (ad 0)), (1, .int (nI o))]) hx hb dX1_greatest_3 rfl hl (by decide) rfl (fun ls hl => ?_)
  refine cu_loop (σ := Nat × Nat) (I := fun (x_ : Nat × Nat) H locs ls => match x_ with | (k, t) => va_P D vwCl (MW ad cI cZ n tip und P own amt s1 s2 tk) H ∧ va_D A (MW ad cI cZ n tip und P own amt s1 s2 tk) ∧ va_S A s.heap H locs ∧ lv_has ls 4 [(0, .ref (ad 0)), (1, .int (nI o)), (2, .int (nI t)), (3, .int (nI k))] ∧ (0 < k) ∧ (k ≤ n) ∧ (t < k) ∧ (t = cu_scan (cu_cn (cu_cand P s1 s2 own (nI o) tip) U) amt k)) (μ := fun (x_ : Nat × Nat) => match x_ with | (k, t) => n - k) ?_ (1, 0) ⟨hP, hD, hS, lv_sub hl [2, 3, 1, 0] rfl, by omega, h.1, by omega, by rw [cu_scan, cu_cn_0 cu_cand_0]; simp [cu_scan]⟩
  rintro ⟨k, t⟩ H locs ls ⟨hP, hD, hS, hl, ⟨hk0, hkn, htk, hbe⟩⟩ ih
  refine lv_iload_n hx hb dX1_greatest_4 rfl (lv_at hl 3 rfl) ?_
  refine lv_aload_n hx hb dX1_greatest_5 rfl (lv_at hl 0 rfl) ?_
  refine va_get (D := D) (ci := 1) (v := .int (nI n)) (C := RX1) (T := TX1) (N := 9) hx hb hts in_X1 hown hK hP 0 rfl rfl 0 (by decide) (hts _ q169) (fun _ h9 => h9) rfl dX1_greatest_6 ?_
  refine cu_icmp_ge (tgt := 70) (j := k) (k := n) (by omega) (by omega) hx hb dX1_greatest_9 (by decide) (fun c9 => ?_) (fun c9 => ?_)
  · refine lv_iload_n hx hb dX1_greatest_70 rfl (lv_at hl 2 rfl) ?_
    exact W.iret (v := nI t) hx hb hr (fun t_ ht_ hW => ⟨⟨nI t, (), rfl, by rw [hbe, show k = n from by omega], by rw [ht_]; exact hP, va_K.moved hW.alike hK, hD⟩, hS.F ht_⟩) hS.2.2 dX1_greatest_71
  · have hok := h.own_le hk0 (show k < n by omega)
    have hak := h.amt_lt (show k < n by omega)
    have hat := h.amt_lt (show t < n by omega)
    refine lv_aload_n hx hb dX1_greatest_12 rfl (lv_at hl 0 rfl) ?_
    refine va_get (D := D) (ci := 1) (v := .ref (ad 6)) (C := RX1) (T := TX1) (N := 9) hx hb hts in_X1 hown hK hP 0 rfl rfl 6 (by decide) (hts _ q175) (fun _ h9 => h9) rfl dX1_greatest_13 ?_
    refine lv_iload_n hx hb dX1_greatest_16 rfl (lv_at hl 3 rfl) ?_
    refine cu_zald (v := cu_bI (U k)) hx hb hK hP 6 1 rfl rfl k (by omega) (Nat.le_of_ble_eq_true rfl) (hU k (by omega)) dX1_greatest_17 ?_
    refine cuB_if_ne (tgt := 64) hx hb dX1_greatest_18 (by decide) (fun c18 => ?_) (fun c18 => ?_)
    · refine lv_iinc (v := nI (k + 1)) (lv' := [(3, .int (nI (k + 1))), (0, .ref (ad 0)), (1, .int (nI o)), (2, .int (nI t))]) hx hb dX1_greatest_64 hl (k := 3) rfl (cu_inc _) (by decide) rfl (fun ls hl => ?_)
      refine lv_goto (tgt := 4) hx hb dX1_greatest_67 (by decide) ?_
      exact ih (k + 1, t) _ _ _ ⟨hP, hD, hS, lv_sub hl [1, 2, 3, 0] rfl, by omega, by omega, by omega, by rw [cu_scan, ← hbe, if_neg (fun z => absurd ((show cu_cn (cu_cand P s1 s2 own (nI o) tip) U k = false from by unfold cu_cn; rw [c18]; simp).symm.trans z.1) (by decide))]⟩ (show n - (k + 1) < n - k by omega)
    · refine lv_aload_n hx hb dX1_greatest_21 rfl (lv_at hl 0 rfl) ?_
      refine va_get (D := D) (ci := 1) (v := .ref (ad 2)) (C := RX1) (T := TX1) (N := 9) hx hb hts in_X1 hown hK hP 0 rfl rfl 2 (by decide) (hts _ q171) (fun _ h9 => h9) rfl dX1_greatest_22 ?_
      refine lv_iload_n hx hb dX1_greatest_25 rfl (lv_at hl 3 rfl) ?_
      refine cu_iald (v := nI (own k)) hx hb hK hP 2 0 rfl rfl k (by omega) (Nat.le_of_ble_eq_true rfl) rfl dX1_greatest_26 ?_
      refine lv_iload_n hx hb dX1_greatest_27 rfl (lv_at hl 1 rfl) ?_
      refine cu_icmp_ne (tgt := 64) (j := own k) (k := o) (by omega) (by omega) hx hb dX1_greatest_28 (by decide) (fun c28 => ?_) (fun c28 => ?_)
      · refine lv_iinc (v := nI (k + 1)) (lv' := [(3, .int (nI (k + 1))), (0, .ref (ad 0)), (1, .int (nI o)), (2, .int (nI t))]) hx hb dX1_greatest_64 hl (k := 3) rfl (cu_inc _) (by decide) rfl (fun ls hl => ?_)
        refine lv_goto (tgt := 4) hx hb dX1_greatest_67 (by decide) ?_
        exact ih (k + 1, t) _ _ _ ⟨hP, hD, hS, lv_sub hl [1, 2, 3, 0] rfl, by omega, by omega, by omega, by rw [cu_scan, ← hbe, if_neg (fun z => absurd ((show cu_cn (cu_cand P s1 s2 own (nI o) tip) U k = false from by unfold cu_cn cu_cand; rw [decide_eq_false (fun z => c28 ((nI_eq (by omega) (by omega)).mp z))]; simp).symm.trans z.1) (by decide))]⟩ (show n - (k + 1) < n - k by omega)
      · refine lv_aload_n hx hb dX1_greatest_31 rfl (lv_at hl 0 rfl) ?_
        refine lv_iload_n hx hb dX1_greatest_32 rfl (lv_at hl 3 rfl) ?_
        refine lv_aload_n hx hb dX1_greatest_33 rfl (lv_at hl 0 rfl) ?_
        refine va_get (D := D) (ci := 1) (v := .int (nI tip)) (C := RX1) (T := TX1) (N := 9) hx hb hts in_X1 hown hK hP 0 rfl rfl 7 (by decide) (hts _ q176) (fun _ h9 => h9) rfl dX1_greatest_34 ?_
        refine cu_calli (As := [.int (nI k), .int (nI tip)]) (rest := []) (mM_free l D ad cI cZ H.size n tip und P lev own amt s1 s2 tk (nI k) tip h ht) ⟨hx, hb, hml, hown, hts⟩ (cwV 2 hts (lw_V q226 q228 qs15 q19 q229) rfl rfl rfl (by decide +kernel) ⟨Nat.le_of_ble_eq_true rfl, Nat.le_of_ble_eq_true rfl⟩) hK hP hD hS hA (ci := 1) rfl rfl ⟨Nat.le_of_ble_eq_true rfl, Nat.le_of_ble_eq_true rfl⟩ rfl hl.1 rfl (Nat.le_of_ble_eq_true rfl) dX1_greatest_37 (fun r37 u37 H locs hw37 hP hD hS => ?_)
        obtain rfl : r37 = cu_bI (cu_Lg P s1 s2 k tip) := hw37.trans (congrArg cu_bI (cu_th_n hn20 (by omega) (by omega)))
        have hP : va_P D vwCl (MW ad cI cZ n tip und P own amt s1 s2 tk) H := hP
        have hD : va_D A (MW ad cI cZ n tip und P own amt s1 s2 tk) := hD
        refine cuB_if_eq (tgt := 64) hx hb dX1_greatest_40 (by decide) (fun c40 => ?_) (fun c40 => ?_)
        · refine lv_iinc (v := nI (k + 1)) (lv' := [(3, .int (nI (k + 1))), (0, .ref (ad 0)), (1, .int (nI o)), (2, .int (nI t))]) hx hb dX1_greatest_64 hl (k := 3) rfl (cu_inc _) (by decide) rfl (fun ls hl => ?_)
          refine lv_goto (tgt := 4) hx hb dX1_greatest_67 (by decide) ?_
          exact ih (k + 1, t) _ _ _ ⟨hP, hD, hS, lv_sub hl [1, 2, 3, 0] rfl, by omega, by omega, by omega, by rw [cu_scan, ← hbe, if_neg (fun z => absurd ((show cu_cn (cu_cand P s1 s2 own (nI o) tip) U k = false from by unfold cu_cn cu_cand; rw [c40]; simp).symm.trans z.1) (by decide))]⟩ (show n - (k + 1) < n - k by omega)
        · refine lv_iload_n hx hb dX1_greatest_43 rfl (lv_at hl 2 rfl) ?_
          refine cu_if_eq (tgt := 62) (j := t) (by omega) hx hb dX1_greatest_44 (by decide) (fun c44 => ?_) (fun c44 => ?_)
          · refine lv_iload_n hx hb dX1_greatest_62 rfl (lv_at hl 3 rfl) ?_
            refine lv_istore_n (lv' := [(2, .int (nI k)), (0, .ref (ad 0)), (1, .int (nI o)), (3, .int (nI k))]) hx hb dX1_greatest_63 rfl hl (by decide) rfl (fun ls hl => ?_)
            refine lv_iinc (v := nI (k + 1)) (lv' := [(3, .int (nI (k + 1))), (2, .int (nI k)), (0, .ref (ad 0)), (1, .int (nI o))]) hx hb dX1_greatest_64 hl (k := 3) rfl (cu_inc _) (by decide) rfl (fun ls hl => ?_)
            refine lv_goto (tgt := 4) hx hb dX1_greatest_67 (by decide) ?_
            exact ih (k + 1, k) _ _ _ ⟨hP, hD, hS, lv_sub hl [2, 3, 1, 0] rfl, by omega, by omega, by omega, by rw [cu_scan, ← hbe, if_pos ⟨(by unfold cu_cn cu_cand; rw [c18, c40, decide_eq_true (by rw [c28])]; rfl), Or.inl c44⟩]⟩ (show n - (k + 1) < n - k by omega)
          · refine lv_aload_n hx hb dX1_greatest_47 rfl (lv_at hl 0 rfl) ?_
            refine va_get (D := D) (ci := 1) (v := .ref (ad 3)) (C := RX1) (T := TX1) (N := 9) hx hb hts in_X1 hown hK hP 0 rfl rfl 3 (by decide) (hts _ q172) (fun _ h9 => h9) rfl dX1_greatest_48 ?_
            refine lv_iload_n hx hb dX1_greatest_51 rfl (lv_at hl 3 rfl) ?_
            refine cu_iald (v := nI (amt k)) hx hb hK hP 3 0 rfl rfl k (by omega) (Nat.le_of_ble_eq_true rfl) rfl dX1_greatest_52 ?_
            refine lv_aload_n hx hb dX1_greatest_53 rfl (lv_at hl 0 rfl) ?_
            refine va_get (D := D) (ci := 1) (v := .ref (ad 3)) (C := RX1) (T := TX1) (N := 9) hx hb hts in_X1 hown hK hP 0 rfl rfl 3 (by decide) (hts _ q172) (fun _ h9 => h9) rfl dX1_greatest_54 ?_
            refine lv_iload_n hx hb dX1_greatest_57 rfl (lv_at hl 2 rfl) ?_
            refine cu_iald (v := nI (amt t)) hx hb hK hP 3 0 rfl rfl t (by omega) (Nat.le_of_ble_eq_true rfl) rfl dX1_greatest_58 ?_
            refine cu_icmp_le (tgt := 64) (j := amt k) (k := amt t) (by omega) (by omega) hx hb dX1_greatest_59 (by decide) (fun c59 => ?_) (fun c59 => ?_)
            · refine lv_iinc (v := nI (k + 1)) (lv' := [(3, .int (nI (k + 1))), (0, .ref (ad 0)), (1, .int (nI o)), (2, .int (nI t))]) hx hb dX1_greatest_64 hl (k := 3) rfl (cu_inc _) (by decide) rfl (fun ls hl => ?_)
              refine lv_goto (tgt := 4) hx hb dX1_greatest_67 (by decide) ?_
              exact ih (k + 1, t) _ _ _ ⟨hP, hD, hS, lv_sub hl [1, 2, 3, 0] rfl, by omega, by omega, by omega, by rw [cu_scan, ← hbe, if_neg (by omega)]⟩ (show n - (k + 1) < n - k by omega)
            · refine lv_iload_n hx hb dX1_greatest_62 rfl (lv_at hl 3 rfl) ?_
              refine lv_istore_n (lv' := [(2, .int (nI k)), (0, .ref (ad 0)), (1, .int (nI o)), (3, .int (nI k))]) hx hb dX1_greatest_63 rfl hl (by decide) rfl (fun ls hl => ?_)
              refine lv_iinc (v := nI (k + 1)) (lv' := [(3, .int (nI (k + 1))), (2, .int (nI k)), (0, .ref (ad 0)), (1, .int (nI o))]) hx hb dX1_greatest_64 hl (k := 3) rfl (cu_inc _) (by decide) rfl (fun ls hl => ?_)
              refine lv_goto (tgt := 4) hx hb dX1_greatest_67 (by decide) ?_
              exact ih (k + 1, k) _ _ _ ⟨hP, hD, hS, lv_sub hl [2, 3, 1, 0] rfl, by omega, by omega, by omega, by rw [cu_scan, ← hbe, if_pos ⟨(by unfold cu_cn cu_cand; rw [c18, c40, decide_eq_true (by rw [c28])]; rfl), Or.inr (by omega)⟩]⟩ (show n - (k + 1) < n - k by omega)
set_option maxHeartbeats 4000000 in
set_option maxRecDepth 100000 in
theorem mM_fewestFor (l : Launch) (D : va_G) (ad : Nat → Nat) (cI cZ : ClassId) (sz : Nat) (n tip : Nat) (und : Int32) (P lev own amt : Nat → Nat) (s1 s2 tk : Nat → Int32) (oo aa : Int32) (h : cu_OK n P lev own amt s1 s2) (ht : tip < n) : Met l yX1_fewestFor (ws_ yX1_fewestFor cX1_fewestFor 7 (some .int)) ({ frames := 3, cells := 0, slots := 0, locals := 70 }) (va_Pc [.ref (ad 0), .int oo, .int aa] (cu_In D vwCl (MT cI cZ) (MW ad cI cZ n tip und P own amt s1 s2 tk) sz)) (va_Qi (fun (r : Int32) (u : Nat → Int32) => r = cu_few (n, tip, und, P, lev, own, amt, s1, s2) oo aa) (fun u => cu_Out D vwCl (MT cI cZ) (va_A (MW ad cI cZ n tip und P own amt s1 s2 tk) sz) (MW ad cI cZ n tip und P own amt s1 s2 u)) (va_A (MW ad cI cZ n tip und P own amt s1 s2 tk) sz)) 0 0 (va_A (MW ad cI cZ n tip und P own amt s1 s2 tk) sz) := by
  refine Met.ofW (cc := cX1_fewestFor) (maxL := 7) (ret := (some .int)) (by decide) rfl ?_
  intro p e s m args below meth c s₁ B hml hv
  obtain ⟨rfl, hsz, hP, hK, hD0⟩ := hv
  have hx := B.exec
  have hb := B.bytes
  have hr := B.returns
  have hts := atoms_spec (ws := ws_ yX1_fewestFor cX1_fewestFor 7 (some .int)) B.pre
  have hts : ∀ w ∈ lw_all, w.before _ s = true := fun w h => hts w (List.mem_cons_of_mem _ h)
  have hown : s.vm.findClass RX1 = some m.cls := findClass_of_methodNamed B.named
  have hlocks := B.notSynchronized
  subst hsz
  have hD := hD0.self (sz := s.heap.size)
  generalize hAe : va_A (MW ad cI cZ n tip und P own amt s1 s2 tk) s.heap.size = A at hD ⊢
  have hA : ∀ q : Nat, s.heap.size ≤ q → A q := fun q h => by rw [← hAe]; exact Or.inr h
  have hl := lv_entry ([.ref (ad 0), .int oo, .int aa]) (n := 7) (Nat.le_of_ble_eq_true rfl)
  rw [lg_entry_eq]
  generalize (lg_sl ([.ref (ad 0), .int oo, .int aa]) ++ List.replicate (7 - (lg_sl ([.ref (ad 0), .int oo, .int aa])).length) Slot.unset).toArray = ls at hl ⊢
  have hl : lv_has ls 7 [(0, .ref (ad 0)), (1, .int oo), (2, .int aa)] := hl
  refine cu_start (fun H locs eH eL => ?_)
  have hP : va_P D vwCl (MW ad cI cZ n tip und P own amt s1 s2 tk) H := by rw [eH]; exact hP
  have hS : va_S A s.heap H locs := by rw [eH, eL]; exact va_S.rf
  have hn20 := h.n20
  refine lv_iload_n hx hb dX1_fewestFor_0 rfl (lv_at hl 1 rfl) ?_
  refine cuI_if_lt (tgt := 9) hx hb dX1_fewestFor_1 (by decide) (fun c1 => ?_) (fun c1 => ?_)
  · refine lv_iconst (v := (-1)) hx hb dX1_fewestFor_9 (by decide) ?_
    exact W.iret (v := (-1)) hx hb hr (fun t_ ht_ hW => ⟨⟨(-1), tk, rfl, (if_neg (by omega)).symm, by rw [ht_]; exact hP, va_K.moved hW.alike hK, hD⟩, hS.F ht_⟩) hS.2.2 dX1_fewestFor_10
  · refine lv_iload_n hx hb dX1_fewestFor_4 rfl (lv_at hl 1 rfl) ?_
    refine lv_iconst (v := nI 3) hx hb dX1_fewestFor_5 (by decide) ?_
    refine cuI_icmp_le (tgt := 11) (i := (oo).toInt) (j := (3 : Int)) rfl (nI_toInt (by omega)) hx hb dX1_fewestFor_6 (by decide) (fun c6 => ?_) (fun c6 => ?_)
    · obtain ⟨o, ho, rfl⟩ := cu_rng (n := 4) (x := oo) (by omega) (by omega)
      have eo : (nI o).toInt = (o : Int) := nI_toInt (by omega)
      have hfew : cu_few (n, tip, und, P, lev, own, amt, s1, s2) (nI o) aa = cu_gr (cu_cand P s1 s2 own (nI o) tip) amt n aa.toInt 20 (fun _ => false) 0 0 := if_pos (by omega)
      have hsm := cu_F_small h (nI o) tip
      refine lv_iconst (v := nI 0) hx hb dX1_fewestFor_11 (by decide) ?_
      refine lv_istore_n (lv' := [(3, .int (nI 0)), (0, .ref (ad 0)), (1, .int (nI o)), (2, .int aa)]) hx hb dX1_fewestFor_12 rfl hl (by decide) rfl (fun ls hl => ?_)
      refine cu_loop (σ := Nat × (Nat → Int32)) (I := fun (x_ : Nat × (Nat → Int32)) H locs ls => match x_ with | (k, tk) => va_P D vwCl (MW ad cI cZ n tip und P own amt s1 s2 tk) H ∧ va_D A (MW ad cI cZ n tip und P own amt s1 s2 tk) ∧ va_S A s.heap H locs ∧ lv_has ls 7 [(0, .ref (ad 0)), (1, .int (nI o)), (2, .int aa), (3, .int (nI k))] ∧ (k ≤ 20) ∧ (∀ j, j < k → tk j = cu_bI false)) (μ := fun (x_ : Nat × (Nat → Int32)) => match x_ with | (k, tk) => 20 - k) ?_ (0, tk) ⟨hP, hD, hS, lv_sub hl [1, 2, 3, 0] rfl, Nat.zero_le 20, fun j hj => absurd hj (Nat.not_lt_zero j)⟩
      rintro ⟨k, tk⟩ H locs ls ⟨hP, hD, hS, hl, ⟨hk20, hz⟩⟩ ih
      refine lv_iload_n hx hb dX1_fewestFor_13 rfl (lv_at hl 3 rfl) ?_
      refine lv_bipush (v := nI 20) hx hb dX1_fewestFor_14 (by decide) ?_
      refine cu_icmp_ge (tgt := 32) (j := k) (k := 20) (by omega) (by omega) hx hb dX1_fewestFor_16 (by decide) (fun c16 => ?_) (fun c16 => ?_)
      · refine lv_iload_n hx hb dX1_fewestFor_32 rfl (lv_at hl 2 rfl) ?_
        refine lv_i2l (v := (aa).toInt64) hx hb dX1_fewestFor_33 rfl ?_
        refine cu_topl (y := aa.toInt64 - lN 0) (cu_lsub0 _) ?_
        refine lv_lstore_n (lv' := [(3, .long (aa.toInt64 - lN 0)), (0, .ref (ad 0)), (1, .int (nI o)), (2, .int aa)]) hx hb dX1_fewestFor_34 rfl hl (by decide) rfl (fun ls hl => ?_)
        refine lv_iconst (v := nI 0) hx hb dX1_fewestFor_35 (by decide) ?_
        refine lv_istore (lv' := [(5, .int (nI 0)), (3, .long (aa.toInt64 - lN 0)), (0, .ref (ad 0)), (1, .int (nI o)), (2, .int aa)]) hx hb dX1_fewestFor_36 hl (by decide) rfl (fun ls hl => ?_)
        refine cu_loop (σ := Nat × Nat × Nat × (Nat → Bool) × (Nat → Int32)) (I := fun (x_ : Nat × Nat × Nat × (Nat → Bool) × (Nat → Int32)) H locs ls => match x_ with | (f, s0, t, U, tk) => va_P D vwCl (MW ad cI cZ n tip und P own amt s1 s2 tk) H ∧ va_D A (MW ad cI cZ n tip und P own amt s1 s2 tk) ∧ va_S A s.heap H locs ∧ lv_has ls 7 [(0, .ref (ad 0)), (1, .int (nI o)), (2, .int aa), (3, .long (aa.toInt64 - lN s0)), (5, .int (nI t))] ∧ (∀ c, c < 20 → tk c = cu_bI (U c)) ∧ (s0 + cu_rs (cu_cand P s1 s2 own (nI o) tip) amt n U = cu_sum (cu_F P s1 s2 own amt (nI o) tip) n) ∧ (t + f = 20) ∧ (cu_gr (cu_cand P s1 s2 own (nI o) tip) amt n aa.toInt f U s0 t = cu_gr (cu_cand P s1 s2 own (nI o) tip) amt n aa.toInt 20 (fun _ => false) 0 0)) (μ := fun (x_ : Nat × Nat × Nat × (Nat → Bool) × (Nat → Int32)) => match x_ with | (f, s0, t, U, tk) => f) ?_ (20, 0, 0, (fun _ => false), tk) ⟨hP, hD, hS, lv_sub hl [2, 3, 4, 1, 0] rfl, fun c hc => hz c (by omega), (by rw [cu_rs_all]; omega), (by omega), rfl⟩
        rintro ⟨f, s0, t, U, tk⟩ H locs ls ⟨hP, hD, hS, hl, ⟨hU, hrs, htf, hgr⟩⟩ ih
        rcases f with _ | f
        · refine lv_iload hx hb dX1_fewestFor_38 (lv_at hl 4 rfl) ?_
          refine lv_bipush (v := nI 20) hx hb dX1_fewestFor_40 (by decide) ?_
          refine cu_icmp_ge (tgt := 94) (j := t) (k := 20) (by omega) (by omega) hx hb dX1_fewestFor_42 (by decide) (fun c42 => ?_) (fun c42 => ?_)
          · refine lv_bipush (v := (-4)) hx hb dX1_fewestFor_94 (by decide) ?_
            exact W.iret (v := (-4)) hx hb hr (fun t_ ht_ hW => ⟨⟨(-4), tk, rfl, (hfew.trans hgr.symm).symm, by rw [ht_]; exact hP, va_K.moved hW.alike hK, hD⟩, hS.F ht_⟩) hS.2.2 dX1_fewestFor_96
          · exfalso; omega
        · refine lv_iload hx hb dX1_fewestFor_38 (lv_at hl 4 rfl) ?_
          refine lv_bipush (v := nI 20) hx hb dX1_fewestFor_40 (by decide) ?_
          refine cu_icmp_ge (tgt := 94) (j := t) (k := 20) (by omega) (by omega) hx hb dX1_fewestFor_42 (by decide) (fun c42 => ?_) (fun c42 => ?_)
          · exfalso; omega
          · refine lv_lload_n hx hb dX1_fewestFor_45 rfl (lv_at hl 3 rfl) ?_
            refine lv_lconst (v := lN 0) hx hb dX1_fewestFor_46 (by decide) ?_
            refine W.lcmp hx hb dX1_fewestFor_47 ?_
            refine lv_if_gt (tgt := 54) hx hb dX1_fewestFor_48 (by decide) (fun c48 => ?_) (fun c48 => ?_)
            · have c48 := (lg_cmp_gt _ _).mp c48
              have hns : ¬ aa.toInt ≤ (s0 : Int) := (cu_lgt aa (k := s0) (by omega)).mp c48
              have hsl := cu_scan_lt (f := cu_cn (cu_cand P s1 s2 own (nI o) tip) U) (amt := amt) n (by omega)
              have hab := h.amt_lt hsl
              refine lv_aload_n hx hb dX1_fewestFor_54 rfl (lv_at hl 0 rfl) ?_
              refine lv_iload_n hx hb dX1_fewestFor_55 rfl (lv_at hl 1 rfl) ?_
              refine cu_calli (As := [.int (nI o)]) (rest := []) (mM_greatest l D ad cI cZ H.size n tip und P lev own amt s1 s2 tk o U h ht ho hU) ⟨hx, hb, hml, hown, hts⟩ (cwV 1 hts (lw_V q270 q272 qs16 q19 q273) rfl rfl rfl (by decide +kernel) ⟨Nat.le_of_ble_eq_true rfl, Nat.le_of_ble_eq_true rfl⟩) hK hP hD hS hA (ci := 1) rfl rfl ⟨Nat.le_of_ble_eq_true rfl, Nat.le_of_ble_eq_true rfl⟩ rfl hl.1 rfl (Nat.le_of_ble_eq_true rfl) dX1_fewestFor_56 (fun r56 u56 H locs hw56 hP hD hS => ?_)
              obtain rfl : r56 = nI (cu_scan (cu_cn (cu_cand P s1 s2 own (nI o) tip) U) amt n) := hw56
              have hP : va_P D vwCl (MW ad cI cZ n tip und P own amt s1 s2 tk) H := hP
              have hD : va_D A (MW ad cI cZ n tip und P own amt s1 s2 tk) := hD
              refine lv_istore (lv' := [(6, .int (nI (cu_scan (cu_cn (cu_cand P s1 s2 own (nI o) tip) U) amt n))), (0, .ref (ad 0)), (1, .int (nI o)), (2, .int aa), (3, .long (aa.toInt64 - lN s0)), (5, .int (nI t))]) hx hb dX1_fewestFor_59 hl (by decide) rfl (fun ls hl => ?_)
              refine lv_iload hx hb dX1_fewestFor_61 (lv_at hl 0 rfl) ?_
              refine cu_if_ne (tgt := 69) (j := cu_scan (cu_cn (cu_cand P s1 s2 own (nI o) tip) U) amt n) (by omega) hx hb dX1_fewestFor_63 (by decide) (fun c63 => ?_) (fun c63 => ?_)
              · obtain ⟨hb1, hbn⟩ := (cu_scan_ok (amt := amt) (cu_cn_0 (cand := cu_cand P s1 s2 own (nI o) tip) (U := U) cu_cand_0) n).1 c63
                have hr1 := cu_rs_step (w := amt) hbn hb1
                refine lv_aload_n hx hb dX1_fewestFor_69 rfl (lv_at hl 1 rfl) ?_
                refine va_get (D := D) (ci := 1) (v := .ref (ad 6)) (C := RX1) (T := TX1) (N := 9) hx hb hts in_X1 hown hK hP 0 rfl rfl 6 (by decide) (hts _ q175) (fun _ h9 => h9) rfl dX1_fewestFor_70 ?_
                refine lv_iload hx hb dX1_fewestFor_73 (lv_at hl 0 rfl) ?_
                refine lv_iconst (v := nI 1) hx hb dX1_fewestFor_75 (by decide) ?_
                refine cu_zast (f' := upd tk (cu_scan (cu_cn (cu_cand P s1 s2 own (nI o) tip) U) amt n) (nI 1)) hx hb hK hP hD hS 6 1 rfl rfl (cu_scan (cu_cn (cu_cand P s1 s2 own (nI o) tip) U) amt n) (by omega) (Nat.le_of_ble_eq_true rfl) (by rw [cu_nz1]) dX1_fewestFor_76 (fun H locs hP hD hS => ?_)
                have hP : va_P D vwCl (MW ad cI cZ n tip und P own amt s1 s2 (upd tk (cu_scan (cu_cn (cu_cand P s1 s2 own (nI o) tip) U) amt n) (nI 1))) H := hP
                have hD : va_D A (MW ad cI cZ n tip und P own amt s1 s2 (upd tk (cu_scan (cu_cn (cu_cand P s1 s2 own (nI o) tip) U) amt n) (nI 1))) := hD
                refine lv_lload_n hx hb dX1_fewestFor_77 rfl (lv_at hl 4 rfl) ?_
                refine lv_aload_n hx hb dX1_fewestFor_78 rfl (lv_at hl 1 rfl) ?_
                refine va_get (D := D) (ci := 1) (v := .ref (ad 3)) (C := RX1) (T := TX1) (N := 9) hx hb hts in_X1 hown hK hP 0 rfl rfl 3 (by decide) (hts _ q172) (fun _ h9 => h9) rfl dX1_fewestFor_79 ?_
                refine lv_iload hx hb dX1_fewestFor_82 (lv_at hl 0 rfl) ?_
                refine cu_iald (v := nI (amt (cu_scan (cu_cn (cu_cand P s1 s2 own (nI o) tip) U) amt n))) hx hb hK hP 3 0 rfl rfl (cu_scan (cu_cn (cu_cand P s1 s2 own (nI o) tip) U) amt n) (by omega) (Nat.le_of_ble_eq_true rfl) rfl dX1_fewestFor_84 ?_
                refine lv_i2l (v := (nI (amt (cu_scan (cu_cn (cu_cand P s1 s2 own (nI o) tip) U) amt n))).toInt64) hx hb dX1_fewestFor_85 rfl ?_
                refine lv_lsub hx hb dX1_fewestFor_86 ?_
                refine cu_topl (y := aa.toInt64 - lN (s0 + amt (cu_scan (cu_cn (cu_cand P s1 s2 own (nI o) tip) U) amt n))) (by rw [nI_l (by omega), cu_lsub]) ?_
                refine lv_lstore_n (lv' := [(3, .long (aa.toInt64 - lN (s0 + amt (cu_scan (cu_cn (cu_cand P s1 s2 own (nI o) tip) U) amt n)))), (6, .int (nI (cu_scan (cu_cn (cu_cand P s1 s2 own (nI o) tip) U) amt n))), (0, .ref (ad 0)), (1, .int (nI o)), (2, .int aa), (5, .int (nI t))]) hx hb dX1_fewestFor_87 rfl hl (by decide) rfl (fun ls hl => ?_)
                refine lv_iinc (v := nI (t + 1)) (lv' := [(5, .int (nI (t + 1))), (3, .long (aa.toInt64 - lN (s0 + amt (cu_scan (cu_cn (cu_cand P s1 s2 own (nI o) tip) U) amt n)))), (6, .int (nI (cu_scan (cu_cn (cu_cand P s1 s2 own (nI o) tip) U) amt n))), (0, .ref (ad 0)), (1, .int (nI o)), (2, .int aa)]) hx hb dX1_fewestFor_88 hl (k := 5) rfl (cu_inc _) (by decide) rfl (fun ls hl => ?_)
                refine lv_goto (tgt := 38) hx hb dX1_fewestFor_91 (by decide) ?_
                have hU1 : ∀ c, c < 20 → upd tk (cu_scan (cu_cn (cu_cand P s1 s2 own (nI o) tip) U) amt n) (nI 1) c = cu_bI (cu_U1 U (cu_scan (cu_cn (cu_cand P s1 s2 own (nI o) tip) U) amt n) c) := by
                  intro c hc
                  by_cases e9 : c = cu_scan (cu_cn (cu_cand P s1 s2 own (nI o) tip) U) amt n
                  · rw [← e9, pk_us]; unfold cu_U1; simp; rfl
                  · rw [pk_un e9, hU c hc]; unfold cu_U1; simp [e9]
                exact ih (f, s0 + amt (cu_scan (cu_cn (cu_cand P s1 s2 own (nI o) tip) U) amt n), t + 1, cu_U1 U (cu_scan (cu_cn (cu_cand P s1 s2 own (nI o) tip) U) amt n), upd tk (cu_scan (cu_cn (cu_cand P s1 s2 own (nI o) tip) U) amt n) (nI 1)) _ _ _ ⟨hP, hD, hS, lv_sub hl [3, 4, 5, 1, 0] rfl, hU1, by omega, by omega, by rw [← hgr, cu_gr_step hns rfl c63]⟩ (show f < f + 1 by omega)
              · refine lv_bipush (v := (-4)) hx hb dX1_fewestFor_66 (by decide) ?_
                exact W.iret (v := (-4)) hx hb hr (fun t_ ht_ hW => ⟨⟨(-4), tk, rfl, (hfew.trans (hgr.symm.trans (cu_gr_none hns c63))).symm, by rw [ht_]; exact hP, va_K.moved hW.alike hK, hD⟩, hS.F ht_⟩) hS.2.2 dX1_fewestFor_68
            · have c48 := fun z => c48 ((lg_cmp_gt _ _).mpr z)
              have c48 : aa.toInt ≤ (s0 : Int) := Int.not_lt.mp (fun z => c48 ((cu_lgt aa (k := s0) (by omega)).mpr (by omega)))
              refine lv_iload hx hb dX1_fewestFor_51 (lv_at hl 4 rfl) ?_
              exact W.iret (v := nI t) hx hb hr (fun t_ ht_ hW => ⟨⟨nI t, tk, rfl, (by show nI t = cu_few (n, tip, und, P, lev, own, amt, s1, s2) (nI o) aa; rw [hfew, ← hgr, cu_gr_done c48]), by rw [ht_]; exact hP, va_K.moved hW.alike hK, hD⟩, hS.F ht_⟩) hS.2.2 dX1_fewestFor_53
      · refine lv_aload_n hx hb dX1_fewestFor_19 rfl (lv_at hl 0 rfl) ?_
        refine va_get (D := D) (ci := 1) (v := .ref (ad 6)) (C := RX1) (T := TX1) (N := 9) hx hb hts in_X1 hown hK hP 0 rfl rfl 6 (by decide) (hts _ q175) (fun _ h9 => h9) rfl dX1_fewestFor_20 ?_
        refine lv_iload_n hx hb dX1_fewestFor_23 rfl (lv_at hl 3 rfl) ?_
        refine lv_iconst (v := nI 0) hx hb dX1_fewestFor_24 (by decide) ?_
        refine cu_zast (f' := upd tk k (nI 0)) hx hb hK hP hD hS 6 1 rfl rfl k (by omega) (Nat.le_of_ble_eq_true rfl) (by rw [cu_nz0]) dX1_fewestFor_25 (fun H locs hP hD hS => ?_)
        have hP : va_P D vwCl (MW ad cI cZ n tip und P own amt s1 s2 (upd tk k (nI 0))) H := hP
        have hD : va_D A (MW ad cI cZ n tip und P own amt s1 s2 (upd tk k (nI 0))) := hD
        refine lv_iinc (v := nI (k + 1)) (lv' := [(3, .int (nI (k + 1))), (0, .ref (ad 0)), (1, .int (nI o)), (2, .int aa)]) hx hb dX1_fewestFor_26 hl (k := 3) rfl (cu_inc _) (by decide) rfl (fun ls hl => ?_)
        refine lv_goto (tgt := 13) hx hb dX1_fewestFor_29 (by decide) ?_
        have hz1 : ∀ j, j < k + 1 → upd tk k (nI 0) j = cu_bI false := by
          intro j hj
          by_cases e9 : j = k
          · subst e9; exact pk_us
          · rw [pk_un e9]; exact hz j (by omega)
        exact ih (k + 1, upd tk k (nI 0)) _ _ _ ⟨hP, hD, hS, lv_sub hl [1, 2, 3, 0] rfl, by omega, hz1⟩ (show 20 - (k + 1) < 20 - k by omega)
    · refine lv_iconst (v := (-1)) hx hb dX1_fewestFor_9 (by decide) ?_
      exact W.iret (v := (-1)) hx hb hr (fun t_ ht_ hW => ⟨⟨(-1), tk, rfl, (if_neg (by omega)).symm, by rw [ht_]; exact hP, va_K.moved hW.alike hK, hD⟩, hS.F ht_⟩) hS.2.2 dX1_fewestFor_10
set_option maxHeartbeats 4000000 in
set_option maxRecDepth 100000 in
theorem mM_forget (l : Launch) (D : va_G) (ad : Nat → Nat) (cI cZ : ClassId) (sz : Nat) (n tip : Nat) (und : Int32) (P lev own amt : Nat → Nat) (s1 s2 tk : Nat → Int32) (x : Int32) (h : cu_OK n P lev own amt s1 s2) (ht : tip < n) : Met l yX1_forget (ws_ yX1_forget cX1_forget 2 (some .int)) ({ frames := 0, cells := 0, slots := 0, locals := 0 }) (va_Pc [.ref (ad 0), .int x] (cu_In D vwCl (MT cI cZ) (MW ad cI cZ n tip und P own amt s1 s2 tk) sz)) (va_Qi (fun (r : Int32) (u : Unit) => r = (cu_forget (n, tip, und, P, lev, own, amt, s1, s2) x).1) (fun u => cu_Out D vwCl (MT cI cZ) (va_A (MW ad cI cZ n tip und P own amt s1 s2 tk) sz) (MS ad cI cZ (cu_forget (n, tip, und, P, lev, own, amt, s1, s2) x).2 tk)) (va_A (MW ad cI cZ n tip und P own amt s1 s2 tk) sz)) 0 0 (va_A (MW ad cI cZ n tip und P own amt s1 s2 tk) sz) := by
  refine Met.ofW (cc := cX1_forget) (maxL := 2) (ret := (some .int)) (by decide) rfl ?_
  intro p e s m args below meth c s₁ B hml hv
  obtain ⟨rfl, hsz, hP, hK, hD0⟩ := hv
  have hx := B.exec
  have hb := B.bytes
  have hr := B.returns
  have hts := atoms_spec (ws := ws_ yX1_forget cX1_forget 2 (some .int)) B.pre
  have hts : ∀ w ∈ lw_all, w.before _ s = true := fun w h => hts w (List.mem_cons_of_mem _ h)
  have hown : s.vm.findClass RX1 = some m.cls := findClass_of_methodNamed B.named
  have hlocks := B.notSynchronized
  subst hsz
  have hD := hD0.self (sz := s.heap.size)
  generalize hAe : va_A (MW ad cI cZ n tip und P own amt s1 s2 tk) s.heap.size = A at hD ⊢
  have hA : ∀ q : Nat, s.heap.size ≤ q → A q := fun q h => by rw [← hAe]; exact Or.inr h
  have hl := lv_entry ([.ref (ad 0), .int x]) (n := 2) (Nat.le_of_ble_eq_true rfl)
  rw [lg_entry_eq]
  generalize (lg_sl ([.ref (ad 0), .int x]) ++ List.replicate (2 - (lg_sl ([.ref (ad 0), .int x])).length) Slot.unset).toArray = ls at hl ⊢
  have hl : lv_has ls 2 [(0, .ref (ad 0)), (1, .int x)] := hl
  refine cu_start (fun H locs eH eL => ?_)
  have hP : va_P D vwCl (MW ad cI cZ n tip und P own amt s1 s2 tk) H := by rw [eH]; exact hP
  have hS : va_S A s.heap H locs := by rw [eH, eL]; exact va_S.rf
  have hn20 := h.n20
  refine lv_iload_n hx hb dX1_forget_0 rfl (lv_at hl 1 rfl) ?_
  refine lv_iconst (v := nI 1) hx hb dX1_forget_1 (by decide) ?_
  refine cuI_icmp_lt (tgt := 23) (i := (x).toInt) (j := (1 : Int)) rfl (nI_toInt (by omega)) hx hb dX1_forget_2 (by decide) (fun c2 => ?_) (fun c2 => ?_)
  · refine lv_bipush (v := (-4)) hx hb dX1_forget_23 (by decide) ?_
    exact W.iret (v := (-4)) hx hb hr (fun t_ ht_ hW => ⟨⟨(-4), (), rfl, (congrArg Prod.fst (cu_forget_no (by omega))).symm, by rw [ht_]; exact (by rw [cu_forget_no (by omega)]; exact hP), va_K.moved hW.alike hK, (by rw [cu_forget_no (by omega)]; exact hD)⟩, hS.F ht_⟩) hS.2.2 dX1_forget_25
  · refine lv_iload_n hx hb dX1_forget_5 rfl (lv_at hl 1 rfl) ?_
    refine lv_aload_n hx hb dX1_forget_6 rfl (lv_at hl 0 rfl) ?_
    refine va_get (D := D) (ci := 1) (v := .int (nI n)) (C := RX1) (T := TX1) (N := 9) hx hb hts in_X1 hown hK hP 0 rfl rfl 0 (by decide) (hts _ q169) (fun _ h9 => h9) rfl dX1_forget_7 ?_
    refine lv_iconst (v := nI 1) hx hb dX1_forget_10 (by decide) ?_
    refine lv_isub hx hb dX1_forget_11 ?_
    refine cu_top (y := nI (n - 1)) (pk_sub h.1) ?_
    refine lv_icmp_ne (tgt := 23) hx hb dX1_forget_12 (by decide) (fun c12 => ?_) (fun c12 => ?_)
    · have c12 : ¬ x.toInt = (n : Int) - 1 := fun z => c12 (Int32.toInt_inj.mp (by rw [nI_toInt (by omega)]; omega))
      refine lv_bipush (v := (-4)) hx hb dX1_forget_23 (by decide) ?_
      exact W.iret (v := (-4)) hx hb hr (fun t_ ht_ hW => ⟨⟨(-4), (), rfl, (congrArg Prod.fst (cu_forget_no (by omega))).symm, by rw [ht_]; exact (by rw [cu_forget_no (by omega)]; exact hP), va_K.moved hW.alike hK, (by rw [cu_forget_no (by omega)]; exact hD)⟩, hS.F ht_⟩) hS.2.2 dX1_forget_25
    · have c12 : x.toInt = (n : Int) - 1 := by rw [c12, nI_toInt (by omega)]; omega
      refine lv_iload_n hx hb dX1_forget_15 rfl (lv_at hl 1 rfl) ?_
      refine lv_aload_n hx hb dX1_forget_16 rfl (lv_at hl 0 rfl) ?_
      refine va_get (D := D) (ci := 1) (v := .int (nI tip)) (C := RX1) (T := TX1) (N := 9) hx hb hts in_X1 hown hK hP 0 rfl rfl 7 (by decide) (hts _ q176) (fun _ h9 => h9) rfl dX1_forget_17 ?_
      refine lv_icmp_ne (tgt := 26) hx hb dX1_forget_20 (by decide) (fun c20 => ?_) (fun c20 => ?_)
      · have c20 : ¬ x.toInt = (tip : Int) := fun z => c20 (Int32.toInt_inj.mp (by rw [nI_toInt (by omega)]; exact z))
        refine lv_aload_n hx hb dX1_forget_26 rfl (lv_at hl 0 rfl) ?_
        refine lv_dup hx hb dX1_forget_27 rfl ?_
        refine va_get (D := D) (ci := 1) (v := .int (nI n)) (C := RX1) (T := TX1) (N := 9) hx hb hts in_X1 hown hK hP 0 rfl rfl 0 (by decide) (hts _ q169) (fun _ h9 => h9) rfl dX1_forget_28 ?_
        refine lv_iconst (v := nI 1) hx hb dX1_forget_31 (by decide) ?_
        refine lv_isub hx hb dX1_forget_32 ?_
        refine cu_top (y := nI (n - 1)) (pk_sub h.1) ?_
        refine va_put (D := D) (ci := 1) (v := .int (nI (n - 1))) (ty := .int) (C := RX1) (T := TX1) (N := 9) hx hb hts in_X1 tyX1 tyX1_ok nmX1 hown hK hP hD hS 0 rfl rfl 0 (by decide) (hts _ q169) (fun _ h9 => h9) rfl (by decide +kernel) rfl rfl (Nat.le_of_ble_eq_true rfl) dX1_forget_33 (fun H locs hP hD hS => ?_)
        have hP : va_P D vwCl (MW ad cI cZ (n - 1) tip und P own amt s1 s2 tk) H := hP
        have hD : va_D A (MW ad cI cZ (n - 1) tip und P own amt s1 s2 tk) := hD
        refine lv_iload_n hx hb dX1_forget_36 rfl (lv_at hl 1 rfl) ?_
        exact W.iret (v := x) hx hb hr (fun t_ ht_ hW => ⟨⟨x, (), rfl, (congrArg Prod.fst (cu_forget_ok (by omega))).symm, by rw [ht_]; exact (by rw [cu_forget_ok (by omega)]; exact hP), va_K.moved hW.alike hK, (by rw [cu_forget_ok (by omega)]; exact hD)⟩, hS.F ht_⟩) hS.2.2 dX1_forget_37
      · have c20 : x.toInt = (tip : Int) := by rw [c20, nI_toInt (by omega)]
        refine lv_bipush (v := (-4)) hx hb dX1_forget_23 (by decide) ?_
        exact W.iret (v := (-4)) hx hb hr (fun t_ ht_ hW => ⟨⟨(-4), (), rfl, (congrArg Prod.fst (cu_forget_no (by omega))).symm, by rw [ht_]; exact (by rw [cu_forget_no (by omega)]; exact hP), va_K.moved hW.alike hK, (by rw [cu_forget_no (by omega)]; exact hD)⟩, hS.F ht_⟩) hS.2.2 dX1_forget_25
end
section
/-! the start: the first state, array classes of one kind, two worlds side by side -/
def cu_S0 : cu_S := (1, 0, nI 0, fun _ => 0, fun _ => 0, fun _ => 0, fun _ => 0, upd (fun _ => 0) 0 (-1), upd (fun _ => 0) 0 (-1))
theorem cu_ok0 : cu_ok cu_S0 := ⟨⟨Nat.le_refl 1, by decide, rfl, rfl, rfl, fun b h0 hb => absurd hb (by omega)⟩, by decide⟩
theorem XS0 (ad : Nat → Nat) (cB cI cL : ClassId) (wu : Nat → Int32) : XS ad cB cI cL cu_S0 wu = XW ad cB cI cL 1 0 0 0 (nI 0) (fun _ => 0) (fun _ => 0) (fun _ => 0) (fun _ => 0) (upd (fun _ => 0) 0 (-1)) (upd (fun _ => 0) 0 (-1)) wu (fun _ => 0) := by
  unfold XS cu_S0
  dsimp only
  rw [cu_LG_no (by omega), cu_WL_no (by omega)]
theorem MP0 : upd (fun _ => 0) 0 (-1) = cu_MP (fun _ => 0) := by
  funext j
  unfold upd cu_MP
  by_cases h : j = 0
  · simp [h]
  · simp [h]; rfl
section
variable {D : va_G} {cl : List vw_C} {tys : List (ClassId × FieldType)} {s : State} {c1 c2 : ClassId}
theorem cu_sameB (hK : va_K D cl tys s) (i j : Nat) (h1 : tys[i]? = some (c1, .byte)) (h2 : tys[j]? = some (c2, .byte)) : c1 = c2 := by
  have e1 : s.vm.findClass ("[" ++ FieldType.byte.toString) = some c1 := (hK.2 i _ h1).2
  have e2 : s.vm.findClass ("[" ++ FieldType.byte.toString) = some c2 := (hK.2 j _ h2).2
  exact Option.some.inj (e1.symm.trans e2)
theorem cu_sameI (hK : va_K D cl tys s) (i j : Nat) (h1 : tys[i]? = some (c1, .int)) (h2 : tys[j]? = some (c2, .int)) : c1 = c2 := by
  have e1 : s.vm.findClass ("[" ++ FieldType.int.toString) = some c1 := (hK.2 i _ h1).2
  have e2 : s.vm.findClass ("[" ++ FieldType.int.toString) = some c2 := (hK.2 j _ h2).2
  exact Option.some.inj (e1.symm.trans e2)
end
section
variable {A : Nat → Prop} {w1 w2 w1' : va_W} {D : va_G} {cl : List vw_C} {H H1 : Heap}
theorem cu_Dr (h : va_D A (w1 ++ w2)) : va_D A w2 := by
  have key : ∀ (k : Nat) (q : Nat × va_E), w2[k]? = some q → (w1 ++ w2)[w1.length + k]? = some q := by
    intro k q hk
    rw [List.getElem?_append_right (by omega), Nat.add_sub_cancel_left]
    exact hk
  refine ⟨fun i j x y hi hj hxy => ?_, fun k q hk => h.2 _ q (key k q hk)⟩
  have := h.1 _ _ x y (key i x hi) (key j y hj) hxy
  omega
theorem cu_Dl (h : va_D A (w1 ++ w2)) : va_D A w1 := by
  have key : ∀ (k : Nat) (q : Nat × va_E), w1[k]? = some q → (w1 ++ w2)[k]? = some q := by
    intro k q hk
    rw [List.getElem?_append_left (List.getElem?_eq_some_iff.mp hk).1]
    exact hk
  exact ⟨fun i j x y hi hj hxy => h.1 i j x y (key i x hi) (key j y hj) hxy, fun k q hk => h.2 _ q (key k q hk)⟩
theorem cu_Dx (h : va_D A (w1 ++ w2)) (i j : Nat) (x y : Nat × va_E) (hi : w1[i]? = some x) (hj : w2[j]? = some y) : x.1 ≠ y.1 := by
  intro e
  have hl := (List.getElem?_eq_some_iff.mp hi).1
  have h1 : (w1 ++ w2)[i]? = some x := by rw [List.getElem?_append_left hl]; exact hi
  have h2 : (w1 ++ w2)[w1.length + j]? = some y := by rw [List.getElem?_append_right (by omega), Nat.add_sub_cancel_left]; exact hj
  have := h.1 _ _ x y h1 h2 e
  omega
theorem cu_Dswap (h : va_D A (w1 ++ w2)) : va_D A (w2 ++ w1) := va_D.app (cu_Dr h) (cu_Dl h) (fun i j x y hi hj e => cu_Dx h j i y x hj hi e.symm)
theorem cu_fr (hP2 : va_P D cl w2 H) (hD : va_D A (w1 ++ w2)) (hF : ∀ q, va_A w1 H.size q → A q) (hk : ∀ q : Nat, q < H.size → ¬ va_A w1 H.size q → H1[q]? = H[q]?) (hD1 : va_D (va_A w1 H.size) w1') : va_P D cl w2 H1 ∧ va_D A (w1' ++ w2) := by
  have hnot : ∀ (k : Nat) (q : Nat × va_E), w2[k]? = some q → q.1 < H.size ∧ ¬ va_A w1 H.size q.1 := by
    intro k q hq
    have hl := (hP2 k q hq).lt
    refine ⟨hl, fun h => ?_⟩
    rcases h with ⟨j, e, h⟩ | h
    · exact cu_Dx hD j k (q.1, e) q h hq rfl
    · omega
  exact ⟨hP2.kept (fun k q hq => hk q.1 (hnot k q hq).1 (hnot k q hq).2), va_D.app (hD1.weaken (fun k q _ h => hF q.1 h)) (cu_Dr hD) (fun i j x y hi hj e => (hnot j y hj).2 (by rw [← e]; exact hD1.2 i x hi))⟩
end
section
variable {p : Program} {l : Launch} {e : Env} {R : Room} {s : State} {m : MethodId} {args : Array Value} {below : List Frame} {meth : Method} {c : Code} {H : Heap} {locs : List Loc} {cells slots : Nat} {Q : State → Prop}
variable {cc : ByteArray} {pc : Nat} {ls : Array Slot} {rest : List Value} {D : va_G} {cl : List vw_C} {A : Nat → Prop} {tys : List (ClassId × FieldType)} {ws w2 : va_W}
variable {y : MethodName} {bytes : ByteArray} {maxL nL n index : Nat} {ret : Option FieldType} {wc : List Cond} {rm : Room} {Ts : List Cond} {own : String} {b ci : Nat} {As : List Value} {q : vw_C} {fs : List Value}
theorem cu_lawi {S : Type} {post : Int32 → S → Prop} {wsN : S → va_W} (hM : Met l y wc rm (va_Pc (.ref b :: As) (cu_In D cl tys ws H.size)) (va_Qi post (fun u => cu_Out D cl tys (va_A ws H.size) (wsN u)) (va_A ws H.size)) 0 0 (va_A ws H.size)) (S0 : CallFix p m c cc nL s args Ts own) (cw : CallW R s args own q.1 index y bytes maxL ret wc rm 0 0 n) (hK : va_K D cl tys s) (hP : va_P D cl ws H) (hP2 : va_P D cl w2 H) (hD : va_D A (ws ++ w2)) (hS : va_S A s.heap H locs) (hA : ∀ q, s.heap.size ≤ q → A q) (hc : cl[ci]? = some q) (he : ws[0]? = some (b, .inr (ci, fs))) (hf : cells ≤ R.cells ∧ slots ≤ R.slots) (hn : As.length = n) (hsize : ls.size = nL) {st0 : List Value} (hstack : st0 = As.reverse ++ .ref b :: rest) (hroom : (rest.map fun v => v.category).sum ≤ 8) (hdg : decode cc pc = .ok (.invokevirtual index, 3))
    (kk : ∀ (r : Int32) (u : S) (H1 : Heap) (locs1 : List Loc), post r u → va_P D cl (wsN u) H1 → va_P D cl w2 H1 → va_D A (wsN u ++ w2) → va_S A s.heap H1 locs1 → W p l e R s m args below meth c H1 locs1 cells slots Q (F0 m (pc + 3) ls (.int r :: rest))) : W p l e R s m args below meth c H locs cells slots Q (F0 m pc ls st0) := by
  have hF := cu_freeW (cu_Dl hD) hS hA
  refine va_calli (va_runV (As := As) (rest := rest) S0 hM cw (cu_preV hK hP (cu_Dl hD) hc he) rfl hn hsize hstack (lv_room hroom) hdg hf) hS (fun q _ h => hF q h) hF (fun r u t H1 locs1 ht hvm hw hB hz1 hk1 hS1 => ?_)
  obtain ⟨hP1, hK1, hD1⟩ := hB
  rw [ht] at hP1
  obtain ⟨g1, g2⟩ := cu_fr hP2 hD hF hk1 hD1
  exact kk r u H1 locs1 hw hP1 g1 g2 hS1
theorem cu_lawl {S : Type} {post : Int64 → S → Prop} {wsN : S → va_W} (hM : Met l y wc rm (va_Pc (.ref b :: As) (cu_In D cl tys ws H.size)) (va_Ql post (fun u => cu_Out D cl tys (va_A ws H.size) (wsN u)) (va_A ws H.size)) 0 0 (va_A ws H.size)) (S0 : CallFix p m c cc nL s args Ts own) (cw : CallW R s args own q.1 index y bytes maxL ret wc rm 0 0 n) (hK : va_K D cl tys s) (hP : va_P D cl ws H) (hP2 : va_P D cl w2 H) (hD : va_D A (ws ++ w2)) (hS : va_S A s.heap H locs) (hA : ∀ q, s.heap.size ≤ q → A q) (hc : cl[ci]? = some q) (he : ws[0]? = some (b, .inr (ci, fs))) (hf : cells ≤ R.cells ∧ slots ≤ R.slots) (hn : As.length = n) (hsize : ls.size = nL) {st0 : List Value} (hstack : st0 = As.reverse ++ .ref b :: rest) (hroom : (rest.map fun v => v.category).sum ≤ 8) (hdg : decode cc pc = .ok (.invokevirtual index, 3))
    (kk : ∀ (r : Int64) (u : S) (H1 : Heap) (locs1 : List Loc), post r u → va_P D cl (wsN u) H1 → va_P D cl w2 H1 → va_D A (wsN u ++ w2) → va_S A s.heap H1 locs1 → W p l e R s m args below meth c H1 locs1 cells slots Q (F0 m (pc + 3) ls (.long r :: rest))) : W p l e R s m args below meth c H locs cells slots Q (F0 m pc ls st0) := by
  have hF := cu_freeW (cu_Dl hD) hS hA
  refine va_calll (va_runV (As := As) (rest := rest) S0 hM cw (cu_preV hK hP (cu_Dl hD) hc he) rfl hn hsize hstack (lv_room hroom) hdg hf) hS (fun q _ h => hF q h) hF (fun r u t H1 locs1 ht hvm hw hB hz1 hk1 hS1 => ?_)
  obtain ⟨hP1, hK1, hD1⟩ := hB
  rw [ht] at hP1
  obtain ⟨g1, g2⟩ := cu_fr hP2 hD hF hk1 hD1
  exact kk r u H1 locs1 hw hP1 g1 g2 hS1
/-- the script at a Nat -/
theorem cu_sld (hx : p.tables.exec = Jvm.exec) (hb : c.code = cc) {b0 L : Nat} {xs : Nat → Int32} (hX : va_X b0 L xs s s.heap) (hbl : b0 < s.heap.size) (hbA : ¬ A b0) (hS : va_S A s.heap H locs) (k : Nat) (hk : k < L) (hL : L < 2 ^ 31) (hdg : decode cc pc = .ok (.iaload, 1))
    (kk : W p l e R s m args below meth c H locs cells slots Q (F0 m (pc + 1) ls (.int (xs k) :: rest))) : W p l e R s m args below meth c H locs cells slots Q (F0 m pc ls (.int (nI k) :: .ref b0 :: rest)) := by
  refine va_sld hx hb hX hbl hbA hS (vp_in_nI hk hL) hdg ?_
  rw [nI_clamp (by omega)]; exact kk
end
end
section
/-! contracts: printed by gen/make.py -/
theorem MS0 (ad : Nat → Nat) (cI cZ : ClassId) (tk : Nat → Int32) : MS ad cI cZ cu_S0 tk = [(ad 0, .inr (1, [.int (nI 1), .ref (ad 1), .ref (ad 2), .ref (ad 3), .ref (ad 4), .ref (ad 5), .ref (ad 6), .int (nI 0), .int (nI 0)])), (ad 1, .inl (cI, 20, .inl (upd (fun _ => 0) 0 (-1)))), (ad 2, .inl (cI, 20, .inl (fun _ => 0))), (ad 3, .inl (cI, 20, .inl (fun _ => 0))), (ad 4, .inl (cI, 20, .inl (upd (fun _ => 0) 0 (-1)))), (ad 5, .inl (cI, 20, .inl (upd (fun _ => 0) 0 (-1)))), (ad 6, .inl (cZ, 20, .inl tk))] := by
  rw [MP0]
  rfl
set_option maxHeartbeats 400000 in
set_option maxRecDepth 100000 in
theorem mX_init (l : Launch) (D : va_G) (h0 sz : Nat) : Met l yX0_init (ws_ yX0_init cX0_init 1 none) ({ frames := 1, cells := 8, slots := 144, locals := 12 }) (va_Pc [.ref h0] (cu_In D vwCl [] [(h0, .inr (0, [.int 0, .null, .null, .null, .null, .null, .null, .int 0, .int 0, .null, .null, .int 0, .int 0]))] sz)) (va_Qv (fun u : (Nat → Nat) × ClassId × ClassId × ClassId => u.1 0 = h0) (fun u => cu_Out D vwCl (XT u.2.1 u.2.2.1 u.2.2.2) (va_A [(h0, .inr (0, [.int 0, .null, .null, .null, .null, .null, .null, .int 0, .int 0, .null, .null, .int 0, .int 0]))] sz) (XS u.1 u.2.1 u.2.2.1 u.2.2.2 cu_S0 (fun _ => 0))) (va_A [(h0, .inr (0, [.int 0, .null, .null, .null, .null, .null, .null, .int 0, .int 0, .null, .null, .int 0, .int 0]))] sz)) 8 144 (va_A [(h0, .inr (0, [.int 0, .null, .null, .null, .null, .null, .null, .int 0, .int 0, .null, .null, .int 0, .int 0]))] sz) := by
  refine Met.ofW (cc := cX0_init) (maxL := 1) (ret := none) (by decide) rfl ?_
  intro p e s m args below meth c s₁ B hml hv
  obtain ⟨rfl, hsz, hP, hK, hD0⟩ := hv
  have hx := B.exec
  have hb := B.bytes
  have hr := B.returns
  have hts := atoms_spec (ws := ws_ yX0_init cX0_init 1 none) B.pre
  have hts : ∀ w ∈ lw_all, w.before _ s = true := fun w h => hts w (List.mem_cons_of_mem _ h)
  have hown : s.vm.findClass RX0 = some m.cls := findClass_of_methodNamed B.named
  have hlocks := B.notSynchronized
  have hin : meth.name = "<init>" := (name_of_methodNamed B.named B.method).1
  subst hsz
  have hD := hD0.self (sz := s.heap.size)
  generalize hAe : va_A [(h0, .inr (0, [.int 0, .null, .null, .null, .null, .null, .null, .int 0, .int 0, .null, .null, .int 0, .int 0]))] s.heap.size = A at hD ⊢
  have hA : ∀ q : Nat, s.heap.size ≤ q → A q := fun q h => by rw [← hAe]; exact Or.inr h
  have hl := lv_entry ([.ref h0]) (n := 1) (Nat.le_of_ble_eq_true rfl)
  rw [lg_entry_eq]
  generalize (lg_sl ([.ref h0]) ++ List.replicate (1 - (lg_sl ([.ref h0])).length) Slot.unset).toArray = ls at hl ⊢
  have hl : lv_has ls 1 [(0, .ref h0)] := hl
  refine cu_start (fun H locs eH eL => ?_)
  have hP : va_P D vwCl [(h0, .inr (0, [.int 0, .null, .null, .null, .null, .null, .null, .int 0, .int 0, .null, .null, .int 0, .int 0]))] H := by rw [eH]; exact hP
  have hS : va_S A s.heap H locs := by rw [eH, eL]; exact va_S.rf
  refine lv_aload_n hx hb dX0_init_0 rfl (lv_at hl 0 rfl) ?_
  refine W.objInit hx hb hown (hts _ q25) (hts _ q26) (hts _ q27) rfl (by rw [hml]; exact hl.1) rfl dX0_init_1 (Nat.le_of_ble_eq_true rfl) (Nat.le_of_ble_eq_true rfl) ?_
  refine W.eq (g2 := F0 m 4 ls []) rfl ?_
  refine lv_aload_n hx hb dX0_init_4 rfl (lv_at hl 0 rfl) ?_
  refine lv_bipush (v := nI 20) hx hb dX0_init_5 (by decide) ?_
  refine va_newa (atype := .byte) (N' := 20) (a0 := (20, .inl (fun _ => 0))) hx hb (hts _ q68) rfl hK hP hD hS hA (fun cA => rfl) (by decide) (by decide) (by decide) (Nat.le_of_ble_eq_true rfl) (Nat.le_of_ble_eq_true rfl) dX0_init_7 (fun a1 cA1 H hK hP hD hS => ?_)
  have hP : va_P D vwCl [(h0, .inr (0, [.int 0, .null, .null, .null, .null, .null, .null, .int 0, .int 0, .null, .null, .int 0, .int 0])), (a1, .inl (cA1, 20, .inl (fun _ => 0)))] H := hP
  have hD : va_D A [(h0, .inr (0, [.int 0, .null, .null, .null, .null, .null, .null, .int 0, .int 0, .null, .null, .int 0, .int 0])), (a1, .inl (cA1, 20, .inl (fun _ => 0)))] := hD
  have hK : va_K D vwCl [(cA1, .byte)] s := hK
  refine W.widen (k := 1) (n := 20) (Nat.le_of_ble_eq_true rfl) (Nat.le_of_ble_eq_true rfl) ?_
  refine va_putF (D := D) (ci := 0) (v := .ref a1) (ty := .array .byte) (C := RX0) (T := TX0) (N := 13) hx hb hts in_X0 tyX0 tyX0_ok nmX0 hown hK hP hD hS 0 rfl rfl 1 (by decide) (hts _ q29) (fun _ h9 => h9) rfl hin rfl (by decide +kernel) rfl rfl (Nat.le_of_ble_eq_true rfl) dX0_init_9 (fun H locs hP hD hS => ?_)
  have hP : va_P D vwCl [(h0, .inr (0, [.int 0, .ref a1, .null, .null, .null, .null, .null, .int 0, .int 0, .null, .null, .int 0, .int 0])), (a1, .inl (cA1, 20, .inl (fun _ => 0)))] H := hP
  have hD : va_D A [(h0, .inr (0, [.int 0, .ref a1, .null, .null, .null, .null, .null, .int 0, .int 0, .null, .null, .int 0, .int 0])), (a1, .inl (cA1, 20, .inl (fun _ => 0)))] := hD
  refine lv_aload_n hx hb dX0_init_12 rfl (lv_at hl 0 rfl) ?_
  refine lv_bipush (v := nI 20) hx hb dX0_init_13 (by decide) ?_
  refine va_newa (atype := .byte) (N' := 20) (a0 := (20, .inl (fun _ => 0))) hx hb (hts _ q68) rfl hK hP hD hS hA (fun cA => rfl) (by decide) (by decide) (by decide) (Nat.le_of_ble_eq_true rfl) (Nat.le_of_ble_eq_true rfl) dX0_init_15 (fun a2 cA2 H hK hP hD hS => ?_)
  have hP : va_P D vwCl [(h0, .inr (0, [.int 0, .ref a1, .null, .null, .null, .null, .null, .int 0, .int 0, .null, .null, .int 0, .int 0])), (a1, .inl (cA1, 20, .inl (fun _ => 0))), (a2, .inl (cA2, 20, .inl (fun _ => 0)))] H := hP
  have hD : va_D A [(h0, .inr (0, [.int 0, .ref a1, .null, .null, .null, .null, .null, .int 0, .int 0, .null, .null, .int 0, .int 0])), (a1, .inl (cA1, 20, .inl (fun _ => 0))), (a2, .inl (cA2, 20, .inl (fun _ => 0)))] := hD
  have hK : va_K D vwCl [(cA1, .byte), (cA2, .byte)] s := hK
  refine W.widen (k := 2) (n := 40) (Nat.le_of_ble_eq_true rfl) (Nat.le_of_ble_eq_true rfl) ?_
  refine va_putF (D := D) (ci := 0) (v := .ref a2) (ty := .array .byte) (C := RX0) (T := TX0) (N := 13) hx hb hts in_X0 tyX0 tyX0_ok nmX0 hown hK hP hD hS 0 rfl rfl 2 (by decide) (hts _ q30) (fun _ h9 => h9) rfl hin rfl (by decide +kernel) rfl rfl (Nat.le_of_ble_eq_true rfl) dX0_init_17 (fun H locs hP hD hS => ?_)
  have hP : va_P D vwCl [(h0, .inr (0, [.int 0, .ref a1, .ref a2, .null, .null, .null, .null, .int 0, .int 0, .null, .null, .int 0, .int 0])), (a1, .inl (cA1, 20, .inl (fun _ => 0))), (a2, .inl (cA2, 20, .inl (fun _ => 0)))] H := hP
  have hD : va_D A [(h0, .inr (0, [.int 0, .ref a1, .ref a2, .null, .null, .null, .null, .int 0, .int 0, .null, .null, .int 0, .int 0])), (a1, .inl (cA1, 20, .inl (fun _ => 0))), (a2, .inl (cA2, 20, .inl (fun _ => 0)))] := hD
  refine lv_aload_n hx hb dX0_init_20 rfl (lv_at hl 0 rfl) ?_
  refine lv_bipush (v := nI 20) hx hb dX0_init_21 (by decide) ?_
  refine va_newa (atype := .byte) (N' := 20) (a0 := (20, .inl (fun _ => 0))) hx hb (hts _ q68) rfl hK hP hD hS hA (fun cA => rfl) (by decide) (by decide) (by decide) (Nat.le_of_ble_eq_true rfl) (Nat.le_of_ble_eq_true rfl) dX0_init_23 (fun a3 cA3 H hK hP hD hS => ?_)
  have hP : va_P D vwCl [(h0, .inr (0, [.int 0, .ref a1, .ref a2, .null, .null, .null, .null, .int 0, .int 0, .null, .null, .int 0, .int 0])), (a1, .inl (cA1, 20, .inl (fun _ => 0))), (a2, .inl (cA2, 20, .inl (fun _ => 0))), (a3, .inl (cA3, 20, .inl (fun _ => 0)))] H := hP
  have hD : va_D A [(h0, .inr (0, [.int 0, .ref a1, .ref a2, .null, .null, .null, .null, .int 0, .int 0, .null, .null, .int 0, .int 0])), (a1, .inl (cA1, 20, .inl (fun _ => 0))), (a2, .inl (cA2, 20, .inl (fun _ => 0))), (a3, .inl (cA3, 20, .inl (fun _ => 0)))] := hD
  have hK : va_K D vwCl [(cA1, .byte), (cA2, .byte), (cA3, .byte)] s := hK
  refine W.widen (k := 3) (n := 60) (Nat.le_of_ble_eq_true rfl) (Nat.le_of_ble_eq_true rfl) ?_
  refine va_putF (D := D) (ci := 0) (v := .ref a3) (ty := .array .byte) (C := RX0) (T := TX0) (N := 13) hx hb hts in_X0 tyX0 tyX0_ok nmX0 hown hK hP hD hS 0 rfl rfl 3 (by decide) (hts _ q31) (fun _ h9 => h9) rfl hin rfl (by decide +kernel) rfl rfl (Nat.le_of_ble_eq_true rfl) dX0_init_25 (fun H locs hP hD hS => ?_)
  have hP : va_P D vwCl [(h0, .inr (0, [.int 0, .ref a1, .ref a2, .ref a3, .null, .null, .null, .int 0, .int 0, .null, .null, .int 0, .int 0])), (a1, .inl (cA1, 20, .inl (fun _ => 0))), (a2, .inl (cA2, 20, .inl (fun _ => 0))), (a3, .inl (cA3, 20, .inl (fun _ => 0)))] H := hP
  have hD : va_D A [(h0, .inr (0, [.int 0, .ref a1, .ref a2, .ref a3, .null, .null, .null, .int 0, .int 0, .null, .null, .int 0, .int 0])), (a1, .inl (cA1, 20, .inl (fun _ => 0))), (a2, .inl (cA2, 20, .inl (fun _ => 0))), (a3, .inl (cA3, 20, .inl (fun _ => 0)))] := hD
  refine lv_aload_n hx hb dX0_init_28 rfl (lv_at hl 0 rfl) ?_
  refine lv_bipush (v := nI 20) hx hb dX0_init_29 (by decide) ?_
  refine va_newa (atype := .int) (N' := 20) (a0 := (20, .inl (fun _ => 0))) hx hb (hts _ q69) rfl hK hP hD hS hA (fun cA => rfl) (by decide) (by decide) (by decide) (Nat.le_of_ble_eq_true rfl) (Nat.le_of_ble_eq_true rfl) dX0_init_31 (fun a4 cA4 H hK hP hD hS => ?_)
  have hP : va_P D vwCl [(h0, .inr (0, [.int 0, .ref a1, .ref a2, .ref a3, .null, .null, .null, .int 0, .int 0, .null, .null, .int 0, .int 0])), (a1, .inl (cA1, 20, .inl (fun _ => 0))), (a2, .inl (cA2, 20, .inl (fun _ => 0))), (a3, .inl (cA3, 20, .inl (fun _ => 0))), (a4, .inl (cA4, 20, .inl (fun _ => 0)))] H := hP
  have hD : va_D A [(h0, .inr (0, [.int 0, .ref a1, .ref a2, .ref a3, .null, .null, .null, .int 0, .int 0, .null, .null, .int 0, .int 0])), (a1, .inl (cA1, 20, .inl (fun _ => 0))), (a2, .inl (cA2, 20, .inl (fun _ => 0))), (a3, .inl (cA3, 20, .inl (fun _ => 0))), (a4, .inl (cA4, 20, .inl (fun _ => 0)))] := hD
  have hK : va_K D vwCl [(cA1, .byte), (cA2, .byte), (cA3, .byte), (cA4, .int)] s := hK
  refine W.widen (k := 4) (n := 80) (Nat.le_of_ble_eq_true rfl) (Nat.le_of_ble_eq_true rfl) ?_
  refine va_putF (D := D) (ci := 0) (v := .ref a4) (ty := .array .int) (C := RX0) (T := TX0) (N := 13) hx hb hts in_X0 tyX0 tyX0_ok nmX0 hown hK hP hD hS 0 rfl rfl 4 (by decide) (hts _ q32) (fun _ h9 => h9) rfl hin rfl (by decide +kernel) rfl rfl (Nat.le_of_ble_eq_true rfl) dX0_init_33 (fun H locs hP hD hS => ?_)
  have hP : va_P D vwCl [(h0, .inr (0, [.int 0, .ref a1, .ref a2, .ref a3, .ref a4, .null, .null, .int 0, .int 0, .null, .null, .int 0, .int 0])), (a1, .inl (cA1, 20, .inl (fun _ => 0))), (a2, .inl (cA2, 20, .inl (fun _ => 0))), (a3, .inl (cA3, 20, .inl (fun _ => 0))), (a4, .inl (cA4, 20, .inl (fun _ => 0)))] H := hP
  have hD : va_D A [(h0, .inr (0, [.int 0, .ref a1, .ref a2, .ref a3, .ref a4, .null, .null, .int 0, .int 0, .null, .null, .int 0, .int 0])), (a1, .inl (cA1, 20, .inl (fun _ => 0))), (a2, .inl (cA2, 20, .inl (fun _ => 0))), (a3, .inl (cA3, 20, .inl (fun _ => 0))), (a4, .inl (cA4, 20, .inl (fun _ => 0)))] := hD
  refine lv_aload_n hx hb dX0_init_36 rfl (lv_at hl 0 rfl) ?_
  refine lv_bipush (v := nI 20) hx hb dX0_init_37 (by decide) ?_
  refine va_newa (atype := .byte) (N' := 20) (a0 := (20, .inl (fun _ => 0))) hx hb (hts _ q68) rfl hK hP hD hS hA (fun cA => rfl) (by decide) (by decide) (by decide) (Nat.le_of_ble_eq_true rfl) (Nat.le_of_ble_eq_true rfl) dX0_init_39 (fun a5 cA5 H hK hP hD hS => ?_)
  have hP : va_P D vwCl [(h0, .inr (0, [.int 0, .ref a1, .ref a2, .ref a3, .ref a4, .null, .null, .int 0, .int 0, .null, .null, .int 0, .int 0])), (a1, .inl (cA1, 20, .inl (fun _ => 0))), (a2, .inl (cA2, 20, .inl (fun _ => 0))), (a3, .inl (cA3, 20, .inl (fun _ => 0))), (a4, .inl (cA4, 20, .inl (fun _ => 0))), (a5, .inl (cA5, 20, .inl (fun _ => 0)))] H := hP
  have hD : va_D A [(h0, .inr (0, [.int 0, .ref a1, .ref a2, .ref a3, .ref a4, .null, .null, .int 0, .int 0, .null, .null, .int 0, .int 0])), (a1, .inl (cA1, 20, .inl (fun _ => 0))), (a2, .inl (cA2, 20, .inl (fun _ => 0))), (a3, .inl (cA3, 20, .inl (fun _ => 0))), (a4, .inl (cA4, 20, .inl (fun _ => 0))), (a5, .inl (cA5, 20, .inl (fun _ => 0)))] := hD
  have hK : va_K D vwCl [(cA1, .byte), (cA2, .byte), (cA3, .byte), (cA4, .int), (cA5, .byte)] s := hK
  refine W.widen (k := 5) (n := 100) (Nat.le_of_ble_eq_true rfl) (Nat.le_of_ble_eq_true rfl) ?_
  refine va_putF (D := D) (ci := 0) (v := .ref a5) (ty := .array .byte) (C := RX0) (T := TX0) (N := 13) hx hb hts in_X0 tyX0 tyX0_ok nmX0 hown hK hP hD hS 0 rfl rfl 5 (by decide) (hts _ q33) (fun _ h9 => h9) rfl hin rfl (by decide +kernel) rfl rfl (Nat.le_of_ble_eq_true rfl) dX0_init_41 (fun H locs hP hD hS => ?_)
  have hP : va_P D vwCl [(h0, .inr (0, [.int 0, .ref a1, .ref a2, .ref a3, .ref a4, .ref a5, .null, .int 0, .int 0, .null, .null, .int 0, .int 0])), (a1, .inl (cA1, 20, .inl (fun _ => 0))), (a2, .inl (cA2, 20, .inl (fun _ => 0))), (a3, .inl (cA3, 20, .inl (fun _ => 0))), (a4, .inl (cA4, 20, .inl (fun _ => 0))), (a5, .inl (cA5, 20, .inl (fun _ => 0)))] H := hP
  have hD : va_D A [(h0, .inr (0, [.int 0, .ref a1, .ref a2, .ref a3, .ref a4, .ref a5, .null, .int 0, .int 0, .null, .null, .int 0, .int 0])), (a1, .inl (cA1, 20, .inl (fun _ => 0))), (a2, .inl (cA2, 20, .inl (fun _ => 0))), (a3, .inl (cA3, 20, .inl (fun _ => 0))), (a4, .inl (cA4, 20, .inl (fun _ => 0))), (a5, .inl (cA5, 20, .inl (fun _ => 0)))] := hD
  refine lv_aload_n hx hb dX0_init_44 rfl (lv_at hl 0 rfl) ?_
  refine lv_bipush (v := nI 20) hx hb dX0_init_45 (by decide) ?_
  refine va_newa (atype := .byte) (N' := 20) (a0 := (20, .inl (fun _ => 0))) hx hb (hts _ q68) rfl hK hP hD hS hA (fun cA => rfl) (by decide) (by decide) (by decide) (Nat.le_of_ble_eq_true rfl) (Nat.le_of_ble_eq_true rfl) dX0_init_47 (fun a6 cA6 H hK hP hD hS => ?_)
  have hP : va_P D vwCl [(h0, .inr (0, [.int 0, .ref a1, .ref a2, .ref a3, .ref a4, .ref a5, .null, .int 0, .int 0, .null, .null, .int 0, .int 0])), (a1, .inl (cA1, 20, .inl (fun _ => 0))), (a2, .inl (cA2, 20, .inl (fun _ => 0))), (a3, .inl (cA3, 20, .inl (fun _ => 0))), (a4, .inl (cA4, 20, .inl (fun _ => 0))), (a5, .inl (cA5, 20, .inl (fun _ => 0))), (a6, .inl (cA6, 20, .inl (fun _ => 0)))] H := hP
  have hD : va_D A [(h0, .inr (0, [.int 0, .ref a1, .ref a2, .ref a3, .ref a4, .ref a5, .null, .int 0, .int 0, .null, .null, .int 0, .int 0])), (a1, .inl (cA1, 20, .inl (fun _ => 0))), (a2, .inl (cA2, 20, .inl (fun _ => 0))), (a3, .inl (cA3, 20, .inl (fun _ => 0))), (a4, .inl (cA4, 20, .inl (fun _ => 0))), (a5, .inl (cA5, 20, .inl (fun _ => 0))), (a6, .inl (cA6, 20, .inl (fun _ => 0)))] := hD
  have hK : va_K D vwCl [(cA1, .byte), (cA2, .byte), (cA3, .byte), (cA4, .int), (cA5, .byte), (cA6, .byte)] s := hK
  refine W.widen (k := 6) (n := 120) (Nat.le_of_ble_eq_true rfl) (Nat.le_of_ble_eq_true rfl) ?_
  refine va_putF (D := D) (ci := 0) (v := .ref a6) (ty := .array .byte) (C := RX0) (T := TX0) (N := 13) hx hb hts in_X0 tyX0 tyX0_ok nmX0 hown hK hP hD hS 0 rfl rfl 6 (by decide) (hts _ q34) (fun _ h9 => h9) rfl hin rfl (by decide +kernel) rfl rfl (Nat.le_of_ble_eq_true rfl) dX0_init_49 (fun H locs hP hD hS => ?_)
  have hP : va_P D vwCl [(h0, .inr (0, [.int 0, .ref a1, .ref a2, .ref a3, .ref a4, .ref a5, .ref a6, .int 0, .int 0, .null, .null, .int 0, .int 0])), (a1, .inl (cA1, 20, .inl (fun _ => 0))), (a2, .inl (cA2, 20, .inl (fun _ => 0))), (a3, .inl (cA3, 20, .inl (fun _ => 0))), (a4, .inl (cA4, 20, .inl (fun _ => 0))), (a5, .inl (cA5, 20, .inl (fun _ => 0))), (a6, .inl (cA6, 20, .inl (fun _ => 0)))] H := hP
  have hD : va_D A [(h0, .inr (0, [.int 0, .ref a1, .ref a2, .ref a3, .ref a4, .ref a5, .ref a6, .int 0, .int 0, .null, .null, .int 0, .int 0])), (a1, .inl (cA1, 20, .inl (fun _ => 0))), (a2, .inl (cA2, 20, .inl (fun _ => 0))), (a3, .inl (cA3, 20, .inl (fun _ => 0))), (a4, .inl (cA4, 20, .inl (fun _ => 0))), (a5, .inl (cA5, 20, .inl (fun _ => 0))), (a6, .inl (cA6, 20, .inl (fun _ => 0)))] := hD
  refine lv_aload_n hx hb dX0_init_52 rfl (lv_at hl 0 rfl) ?_
  refine lv_iconst (v := nI 4) hx hb dX0_init_53 (by decide) ?_
  refine va_newa (atype := .long) (N' := 4) (a0 := (4, .inr (.inl (fun _ => 0)))) hx hb (hts _ q70) rfl hK hP hD hS hA (fun cA => rfl) (by decide) (by decide) (by decide) (Nat.le_of_ble_eq_true rfl) (Nat.le_of_ble_eq_true rfl) dX0_init_54 (fun a7 cA7 H hK hP hD hS => ?_)
  have hP : va_P D vwCl [(h0, .inr (0, [.int 0, .ref a1, .ref a2, .ref a3, .ref a4, .ref a5, .ref a6, .int 0, .int 0, .null, .null, .int 0, .int 0])), (a1, .inl (cA1, 20, .inl (fun _ => 0))), (a2, .inl (cA2, 20, .inl (fun _ => 0))), (a3, .inl (cA3, 20, .inl (fun _ => 0))), (a4, .inl (cA4, 20, .inl (fun _ => 0))), (a5, .inl (cA5, 20, .inl (fun _ => 0))), (a6, .inl (cA6, 20, .inl (fun _ => 0))), (a7, .inl (cA7, 4, .inr (.inl (fun _ => 0))))] H := hP
  have hD : va_D A [(h0, .inr (0, [.int 0, .ref a1, .ref a2, .ref a3, .ref a4, .ref a5, .ref a6, .int 0, .int 0, .null, .null, .int 0, .int 0])), (a1, .inl (cA1, 20, .inl (fun _ => 0))), (a2, .inl (cA2, 20, .inl (fun _ => 0))), (a3, .inl (cA3, 20, .inl (fun _ => 0))), (a4, .inl (cA4, 20, .inl (fun _ => 0))), (a5, .inl (cA5, 20, .inl (fun _ => 0))), (a6, .inl (cA6, 20, .inl (fun _ => 0))), (a7, .inl (cA7, 4, .inr (.inl (fun _ => 0))))] := hD
  have hK : va_K D vwCl [(cA1, .byte), (cA2, .byte), (cA3, .byte), (cA4, .int), (cA5, .byte), (cA6, .byte), (cA7, .long)] s := hK
  refine W.widen (k := 7) (n := 124) (Nat.le_of_ble_eq_true rfl) (Nat.le_of_ble_eq_true rfl) ?_
  refine va_putF (D := D) (ci := 0) (v := .ref a7) (ty := .array .long) (C := RX0) (T := TX0) (N := 13) hx hb hts in_X0 tyX0 tyX0_ok nmX0 hown hK hP hD hS 0 rfl rfl 9 (by decide) (hts _ q37) (fun _ h9 => h9) rfl hin rfl (by decide +kernel) rfl rfl (Nat.le_of_ble_eq_true rfl) dX0_init_56 (fun H locs hP hD hS => ?_)
  have hP : va_P D vwCl [(h0, .inr (0, [.int 0, .ref a1, .ref a2, .ref a3, .ref a4, .ref a5, .ref a6, .int 0, .int 0, .ref a7, .null, .int 0, .int 0])), (a1, .inl (cA1, 20, .inl (fun _ => 0))), (a2, .inl (cA2, 20, .inl (fun _ => 0))), (a3, .inl (cA3, 20, .inl (fun _ => 0))), (a4, .inl (cA4, 20, .inl (fun _ => 0))), (a5, .inl (cA5, 20, .inl (fun _ => 0))), (a6, .inl (cA6, 20, .inl (fun _ => 0))), (a7, .inl (cA7, 4, .inr (.inl (fun _ => 0))))] H := hP
  have hD : va_D A [(h0, .inr (0, [.int 0, .ref a1, .ref a2, .ref a3, .ref a4, .ref a5, .ref a6, .int 0, .int 0, .ref a7, .null, .int 0, .int 0])), (a1, .inl (cA1, 20, .inl (fun _ => 0))), (a2, .inl (cA2, 20, .inl (fun _ => 0))), (a3, .inl (cA3, 20, .inl (fun _ => 0))), (a4, .inl (cA4, 20, .inl (fun _ => 0))), (a5, .inl (cA5, 20, .inl (fun _ => 0))), (a6, .inl (cA6, 20, .inl (fun _ => 0))), (a7, .inl (cA7, 4, .inr (.inl (fun _ => 0))))] := hD
  refine lv_aload_n hx hb dX0_init_59 rfl (lv_at hl 0 rfl) ?_
  refine lv_bipush (v := nI 20) hx hb dX0_init_60 (by decide) ?_
  refine va_newa (atype := .byte) (N' := 20) (a0 := (20, .inl (fun _ => 0))) hx hb (hts _ q68) rfl hK hP hD hS hA (fun cA => rfl) (by decide) (by decide) (by decide) (Nat.le_of_ble_eq_true rfl) (Nat.le_of_ble_eq_true rfl) dX0_init_62 (fun a8 cA8 H hK hP hD hS => ?_)
  have hP : va_P D vwCl [(h0, .inr (0, [.int 0, .ref a1, .ref a2, .ref a3, .ref a4, .ref a5, .ref a6, .int 0, .int 0, .ref a7, .null, .int 0, .int 0])), (a1, .inl (cA1, 20, .inl (fun _ => 0))), (a2, .inl (cA2, 20, .inl (fun _ => 0))), (a3, .inl (cA3, 20, .inl (fun _ => 0))), (a4, .inl (cA4, 20, .inl (fun _ => 0))), (a5, .inl (cA5, 20, .inl (fun _ => 0))), (a6, .inl (cA6, 20, .inl (fun _ => 0))), (a7, .inl (cA7, 4, .inr (.inl (fun _ => 0)))), (a8, .inl (cA8, 20, .inl (fun _ => 0)))] H := hP
  have hD : va_D A [(h0, .inr (0, [.int 0, .ref a1, .ref a2, .ref a3, .ref a4, .ref a5, .ref a6, .int 0, .int 0, .ref a7, .null, .int 0, .int 0])), (a1, .inl (cA1, 20, .inl (fun _ => 0))), (a2, .inl (cA2, 20, .inl (fun _ => 0))), (a3, .inl (cA3, 20, .inl (fun _ => 0))), (a4, .inl (cA4, 20, .inl (fun _ => 0))), (a5, .inl (cA5, 20, .inl (fun _ => 0))), (a6, .inl (cA6, 20, .inl (fun _ => 0))), (a7, .inl (cA7, 4, .inr (.inl (fun _ => 0)))), (a8, .inl (cA8, 20, .inl (fun _ => 0)))] := hD
  have hK : va_K D vwCl [(cA1, .byte), (cA2, .byte), (cA3, .byte), (cA4, .int), (cA5, .byte), (cA6, .byte), (cA7, .long), (cA8, .byte)] s := hK
  refine W.widen (k := 8) (n := 144) (Nat.le_of_ble_eq_true rfl) (Nat.le_of_ble_eq_true rfl) ?_
  refine va_putF (D := D) (ci := 0) (v := .ref a8) (ty := .array .byte) (C := RX0) (T := TX0) (N := 13) hx hb hts in_X0 tyX0 tyX0_ok nmX0 hown hK hP hD hS 0 rfl rfl 10 (by decide) (hts _ q38) (fun _ h9 => h9) rfl hin rfl (by decide +kernel) rfl rfl (Nat.le_of_ble_eq_true rfl) dX0_init_64 (fun H locs hP hD hS => ?_)
  have hP : va_P D vwCl [(h0, .inr (0, [.int 0, .ref a1, .ref a2, .ref a3, .ref a4, .ref a5, .ref a6, .int 0, .int 0, .ref a7, .ref a8, .int 0, .int 0])), (a1, .inl (cA1, 20, .inl (fun _ => 0))), (a2, .inl (cA2, 20, .inl (fun _ => 0))), (a3, .inl (cA3, 20, .inl (fun _ => 0))), (a4, .inl (cA4, 20, .inl (fun _ => 0))), (a5, .inl (cA5, 20, .inl (fun _ => 0))), (a6, .inl (cA6, 20, .inl (fun _ => 0))), (a7, .inl (cA7, 4, .inr (.inl (fun _ => 0)))), (a8, .inl (cA8, 20, .inl (fun _ => 0)))] H := hP
  have hD : va_D A [(h0, .inr (0, [.int 0, .ref a1, .ref a2, .ref a3, .ref a4, .ref a5, .ref a6, .int 0, .int 0, .ref a7, .ref a8, .int 0, .int 0])), (a1, .inl (cA1, 20, .inl (fun _ => 0))), (a2, .inl (cA2, 20, .inl (fun _ => 0))), (a3, .inl (cA3, 20, .inl (fun _ => 0))), (a4, .inl (cA4, 20, .inl (fun _ => 0))), (a5, .inl (cA5, 20, .inl (fun _ => 0))), (a6, .inl (cA6, 20, .inl (fun _ => 0))), (a7, .inl (cA7, 4, .inr (.inl (fun _ => 0)))), (a8, .inl (cA8, 20, .inl (fun _ => 0)))] := hD
  refine lv_aload_n hx hb dX0_init_67 rfl (lv_at hl 0 rfl) ?_
  refine lv_iconst (v := nI 1) hx hb dX0_init_68 (by decide) ?_
  refine va_put (D := D) (ci := 0) (v := .int (nI 1)) (ty := .int) (C := RX0) (T := TX0) (N := 13) hx hb hts in_X0 tyX0 tyX0_ok nmX0 hown hK hP hD hS 0 rfl rfl 0 (by decide) (hts _ q28) (fun _ h9 => h9) rfl (by decide +kernel) rfl rfl (Nat.le_of_ble_eq_true rfl) dX0_init_69 (fun H locs hP hD hS => ?_)
  have hP : va_P D vwCl [(h0, .inr (0, [.int (nI 1), .ref a1, .ref a2, .ref a3, .ref a4, .ref a5, .ref a6, .int 0, .int 0, .ref a7, .ref a8, .int 0, .int 0])), (a1, .inl (cA1, 20, .inl (fun _ => 0))), (a2, .inl (cA2, 20, .inl (fun _ => 0))), (a3, .inl (cA3, 20, .inl (fun _ => 0))), (a4, .inl (cA4, 20, .inl (fun _ => 0))), (a5, .inl (cA5, 20, .inl (fun _ => 0))), (a6, .inl (cA6, 20, .inl (fun _ => 0))), (a7, .inl (cA7, 4, .inr (.inl (fun _ => 0)))), (a8, .inl (cA8, 20, .inl (fun _ => 0)))] H := hP
  have hD : va_D A [(h0, .inr (0, [.int (nI 1), .ref a1, .ref a2, .ref a3, .ref a4, .ref a5, .ref a6, .int 0, .int 0, .ref a7, .ref a8, .int 0, .int 0])), (a1, .inl (cA1, 20, .inl (fun _ => 0))), (a2, .inl (cA2, 20, .inl (fun _ => 0))), (a3, .inl (cA3, 20, .inl (fun _ => 0))), (a4, .inl (cA4, 20, .inl (fun _ => 0))), (a5, .inl (cA5, 20, .inl (fun _ => 0))), (a6, .inl (cA6, 20, .inl (fun _ => 0))), (a7, .inl (cA7, 4, .inr (.inl (fun _ => 0)))), (a8, .inl (cA8, 20, .inl (fun _ => 0)))] := hD
  refine lv_aload_n hx hb dX0_init_72 rfl (lv_at hl 0 rfl) ?_
  refine va_get (D := D) (ci := 0) (v := .ref a5) (C := RX0) (T := TX0) (N := 13) hx hb hts in_X0 hown hK hP 0 rfl rfl 5 (by decide) (hts _ q33) (fun _ h9 => h9) rfl dX0_init_73 ?_
  refine lv_iconst (v := nI 0) hx hb dX0_init_76 (by decide) ?_
  refine lv_iconst (v := (-1)) hx hb dX0_init_77 (by decide) ?_
  refine cu_bast (f' := upd (fun _ => 0) 0 (-1)) hx hb hK hP hD hS 5 4 rfl rfl 0 (by decide) (Nat.le_of_ble_eq_true rfl) (by rw [cu_nbm]) dX0_init_78 (fun H locs hP hD hS => ?_)
  have hP : va_P D vwCl [(h0, .inr (0, [.int (nI 1), .ref a1, .ref a2, .ref a3, .ref a4, .ref a5, .ref a6, .int 0, .int 0, .ref a7, .ref a8, .int 0, .int 0])), (a1, .inl (cA1, 20, .inl (fun _ => 0))), (a2, .inl (cA2, 20, .inl (fun _ => 0))), (a3, .inl (cA3, 20, .inl (fun _ => 0))), (a4, .inl (cA4, 20, .inl (fun _ => 0))), (a5, .inl (cA5, 20, .inl (upd (fun _ => 0) 0 (-1)))), (a6, .inl (cA6, 20, .inl (fun _ => 0))), (a7, .inl (cA7, 4, .inr (.inl (fun _ => 0)))), (a8, .inl (cA8, 20, .inl (fun _ => 0)))] H := hP
  have hD : va_D A [(h0, .inr (0, [.int (nI 1), .ref a1, .ref a2, .ref a3, .ref a4, .ref a5, .ref a6, .int 0, .int 0, .ref a7, .ref a8, .int 0, .int 0])), (a1, .inl (cA1, 20, .inl (fun _ => 0))), (a2, .inl (cA2, 20, .inl (fun _ => 0))), (a3, .inl (cA3, 20, .inl (fun _ => 0))), (a4, .inl (cA4, 20, .inl (fun _ => 0))), (a5, .inl (cA5, 20, .inl (upd (fun _ => 0) 0 (-1)))), (a6, .inl (cA6, 20, .inl (fun _ => 0))), (a7, .inl (cA7, 4, .inr (.inl (fun _ => 0)))), (a8, .inl (cA8, 20, .inl (fun _ => 0)))] := hD
  refine lv_aload_n hx hb dX0_init_79 rfl (lv_at hl 0 rfl) ?_
  refine va_get (D := D) (ci := 0) (v := .ref a6) (C := RX0) (T := TX0) (N := 13) hx hb hts in_X0 hown hK hP 0 rfl rfl 6 (by decide) (hts _ q34) (fun _ h9 => h9) rfl dX0_init_80 ?_
  refine lv_iconst (v := nI 0) hx hb dX0_init_83 (by decide) ?_
  refine lv_iconst (v := (-1)) hx hb dX0_init_84 (by decide) ?_
  refine cu_bast (f' := upd (fun _ => 0) 0 (-1)) hx hb hK hP hD hS 6 5 rfl rfl 0 (by decide) (Nat.le_of_ble_eq_true rfl) (by rw [cu_nbm]) dX0_init_85 (fun H locs hP hD hS => ?_)
  have hP : va_P D vwCl [(h0, .inr (0, [.int (nI 1), .ref a1, .ref a2, .ref a3, .ref a4, .ref a5, .ref a6, .int 0, .int 0, .ref a7, .ref a8, .int 0, .int 0])), (a1, .inl (cA1, 20, .inl (fun _ => 0))), (a2, .inl (cA2, 20, .inl (fun _ => 0))), (a3, .inl (cA3, 20, .inl (fun _ => 0))), (a4, .inl (cA4, 20, .inl (fun _ => 0))), (a5, .inl (cA5, 20, .inl (upd (fun _ => 0) 0 (-1)))), (a6, .inl (cA6, 20, .inl (upd (fun _ => 0) 0 (-1)))), (a7, .inl (cA7, 4, .inr (.inl (fun _ => 0)))), (a8, .inl (cA8, 20, .inl (fun _ => 0)))] H := hP
  have hD : va_D A [(h0, .inr (0, [.int (nI 1), .ref a1, .ref a2, .ref a3, .ref a4, .ref a5, .ref a6, .int 0, .int 0, .ref a7, .ref a8, .int 0, .int 0])), (a1, .inl (cA1, 20, .inl (fun _ => 0))), (a2, .inl (cA2, 20, .inl (fun _ => 0))), (a3, .inl (cA3, 20, .inl (fun _ => 0))), (a4, .inl (cA4, 20, .inl (fun _ => 0))), (a5, .inl (cA5, 20, .inl (upd (fun _ => 0) 0 (-1)))), (a6, .inl (cA6, 20, .inl (upd (fun _ => 0) 0 (-1)))), (a7, .inl (cA7, 4, .inr (.inl (fun _ => 0)))), (a8, .inl (cA8, 20, .inl (fun _ => 0)))] := hD
  obtain rfl : cA1 = cA2 := cu_sameB hK 0 1 rfl rfl
  obtain rfl : cA1 = cA3 := cu_sameB hK 0 2 rfl rfl
  obtain rfl : cA1 = cA5 := cu_sameB hK 0 4 rfl rfl
  obtain rfl : cA1 = cA6 := cu_sameB hK 0 5 rfl rfl
  obtain rfl : cA1 = cA8 := cu_sameB hK 0 7 rfl rfl
  have hK := hK.sub (tys' := [(cA1, .byte), (cA4, .int), (cA7, .long)]) [0, 3, 6] rfl
  exact W.vret hx hb hr (fun t_ ht_ hW => ⟨⟨((fun i => [h0, a1, a2, a3, a4, a5, a6, a7, a8].getD i 0), cA1, cA4, cA7), rfl, rfl, by rw [ht_, XS0]; exact hP, va_K.moved hW.alike hK, by rw [XS0]; exact hD⟩, hS.F ht_⟩) hS.2.2 dX0_init_86
set_option maxHeartbeats 400000 in
set_option maxRecDepth 100000 in
theorem mM_init (l : Launch) (D : va_G) (h0 sz : Nat) : Met l yX1_init (ws_ yX1_init cX1_init 1 none) ({ frames := 1, cells := 6, slots := 120, locals := 12 }) (va_Pc [.ref h0] (cu_In D vwCl [] [(h0, .inr (1, [.int 0, .null, .null, .null, .null, .null, .null, .int 0, .int 0]))] sz)) (va_Qv (fun u : (Nat → Nat) × ClassId × ClassId => u.1 0 = h0) (fun u => cu_Out D vwCl (MT u.2.1 u.2.2) (va_A [(h0, .inr (1, [.int 0, .null, .null, .null, .null, .null, .null, .int 0, .int 0]))] sz) (MS u.1 u.2.1 u.2.2 cu_S0 (fun _ => 0))) (va_A [(h0, .inr (1, [.int 0, .null, .null, .null, .null, .null, .null, .int 0, .int 0]))] sz)) 6 120 (va_A [(h0, .inr (1, [.int 0, .null, .null, .null, .null, .null, .null, .int 0, .int 0]))] sz) := by
  refine Met.ofW (cc := cX1_init) (maxL := 1) (ret := none) (by decide) rfl ?_
  intro p e s m args below meth c s₁ B hml hv
  obtain ⟨rfl, hsz, hP, hK, hD0⟩ := hv
  have hx := B.exec
  have hb := B.bytes
  have hr := B.returns
  have hts := atoms_spec (ws := ws_ yX1_init cX1_init 1 none) B.pre
  have hts : ∀ w ∈ lw_all, w.before _ s = true := fun w h => hts w (List.mem_cons_of_mem _ h)
  have hown : s.vm.findClass RX1 = some m.cls := findClass_of_methodNamed B.named
  have hlocks := B.notSynchronized
  have hin : meth.name = "<init>" := (name_of_methodNamed B.named B.method).1
  subst hsz
  have hD := hD0.self (sz := s.heap.size)
  generalize hAe : va_A [(h0, .inr (1, [.int 0, .null, .null, .null, .null, .null, .null, .int 0, .int 0]))] s.heap.size = A at hD ⊢
  have hA : ∀ q : Nat, s.heap.size ≤ q → A q := fun q h => by rw [← hAe]; exact Or.inr h
  have hl := lv_entry ([.ref h0]) (n := 1) (Nat.le_of_ble_eq_true rfl)
  rw [lg_entry_eq]
  generalize (lg_sl ([.ref h0]) ++ List.replicate (1 - (lg_sl ([.ref h0])).length) Slot.unset).toArray = ls at hl ⊢
  have hl : lv_has ls 1 [(0, .ref h0)] := hl
  refine cu_start (fun H locs eH eL => ?_)
  have hP : va_P D vwCl [(h0, .inr (1, [.int 0, .null, .null, .null, .null, .null, .null, .int 0, .int 0]))] H := by rw [eH]; exact hP
  have hS : va_S A s.heap H locs := by rw [eH, eL]; exact va_S.rf
  refine lv_aload_n hx hb dX1_init_0 rfl (lv_at hl 0 rfl) ?_
  refine W.objInit hx hb hown (hts _ q168) (hts _ q26) (hts _ q27) rfl (by rw [hml]; exact hl.1) rfl dX1_init_1 (Nat.le_of_ble_eq_true rfl) (Nat.le_of_ble_eq_true rfl) ?_
  refine W.eq (g2 := F0 m 4 ls []) rfl ?_
  refine lv_aload_n hx hb dX1_init_4 rfl (lv_at hl 0 rfl) ?_
  refine lv_iconst (v := nI 1) hx hb dX1_init_5 (by decide) ?_
  refine va_put (D := D) (ci := 1) (v := .int (nI 1)) (ty := .int) (C := RX1) (T := TX1) (N := 9) hx hb hts in_X1 tyX1 tyX1_ok nmX1 hown hK hP hD hS 0 rfl rfl 0 (by decide) (hts _ q169) (fun _ h9 => h9) rfl (by decide +kernel) rfl rfl (Nat.le_of_ble_eq_true rfl) dX1_init_6 (fun H locs hP hD hS => ?_)
  have hP : va_P D vwCl [(h0, .inr (1, [.int (nI 1), .null, .null, .null, .null, .null, .null, .int 0, .int 0]))] H := hP
  have hD : va_D A [(h0, .inr (1, [.int (nI 1), .null, .null, .null, .null, .null, .null, .int 0, .int 0]))] := hD
  refine lv_aload_n hx hb dX1_init_9 rfl (lv_at hl 0 rfl) ?_
  refine lv_bipush (v := nI 20) hx hb dX1_init_10 (by decide) ?_
  refine va_newa (atype := .int) (N' := 20) (a0 := (20, .inl (fun _ => 0))) hx hb (hts _ q69) rfl hK hP hD hS hA (fun cA => rfl) (by decide) (by decide) (by decide) (Nat.le_of_ble_eq_true rfl) (Nat.le_of_ble_eq_true rfl) dX1_init_12 (fun a1 cA1 H hK hP hD hS => ?_)
  have hP : va_P D vwCl [(h0, .inr (1, [.int (nI 1), .null, .null, .null, .null, .null, .null, .int 0, .int 0])), (a1, .inl (cA1, 20, .inl (fun _ => 0)))] H := hP
  have hD : va_D A [(h0, .inr (1, [.int (nI 1), .null, .null, .null, .null, .null, .null, .int 0, .int 0])), (a1, .inl (cA1, 20, .inl (fun _ => 0)))] := hD
  have hK : va_K D vwCl [(cA1, .int)] s := hK
  refine W.widen (k := 1) (n := 20) (Nat.le_of_ble_eq_true rfl) (Nat.le_of_ble_eq_true rfl) ?_
  refine va_put (D := D) (ci := 1) (v := .ref a1) (ty := .array .int) (C := RX1) (T := TX1) (N := 9) hx hb hts in_X1 tyX1 tyX1_ok nmX1 hown hK hP hD hS 0 rfl rfl 1 (by decide) (hts _ q170) (fun _ h9 => h9) rfl (by decide +kernel) rfl rfl (Nat.le_of_ble_eq_true rfl) dX1_init_14 (fun H locs hP hD hS => ?_)
  have hP : va_P D vwCl [(h0, .inr (1, [.int (nI 1), .ref a1, .null, .null, .null, .null, .null, .int 0, .int 0])), (a1, .inl (cA1, 20, .inl (fun _ => 0)))] H := hP
  have hD : va_D A [(h0, .inr (1, [.int (nI 1), .ref a1, .null, .null, .null, .null, .null, .int 0, .int 0])), (a1, .inl (cA1, 20, .inl (fun _ => 0)))] := hD
  refine lv_aload_n hx hb dX1_init_17 rfl (lv_at hl 0 rfl) ?_
  refine lv_bipush (v := nI 20) hx hb dX1_init_18 (by decide) ?_
  refine va_newa (atype := .int) (N' := 20) (a0 := (20, .inl (fun _ => 0))) hx hb (hts _ q69) rfl hK hP hD hS hA (fun cA => rfl) (by decide) (by decide) (by decide) (Nat.le_of_ble_eq_true rfl) (Nat.le_of_ble_eq_true rfl) dX1_init_20 (fun a2 cA2 H hK hP hD hS => ?_)
  have hP : va_P D vwCl [(h0, .inr (1, [.int (nI 1), .ref a1, .null, .null, .null, .null, .null, .int 0, .int 0])), (a1, .inl (cA1, 20, .inl (fun _ => 0))), (a2, .inl (cA2, 20, .inl (fun _ => 0)))] H := hP
  have hD : va_D A [(h0, .inr (1, [.int (nI 1), .ref a1, .null, .null, .null, .null, .null, .int 0, .int 0])), (a1, .inl (cA1, 20, .inl (fun _ => 0))), (a2, .inl (cA2, 20, .inl (fun _ => 0)))] := hD
  have hK : va_K D vwCl [(cA1, .int), (cA2, .int)] s := hK
  refine W.widen (k := 2) (n := 40) (Nat.le_of_ble_eq_true rfl) (Nat.le_of_ble_eq_true rfl) ?_
  refine va_put (D := D) (ci := 1) (v := .ref a2) (ty := .array .int) (C := RX1) (T := TX1) (N := 9) hx hb hts in_X1 tyX1 tyX1_ok nmX1 hown hK hP hD hS 0 rfl rfl 2 (by decide) (hts _ q171) (fun _ h9 => h9) rfl (by decide +kernel) rfl rfl (Nat.le_of_ble_eq_true rfl) dX1_init_22 (fun H locs hP hD hS => ?_)
  have hP : va_P D vwCl [(h0, .inr (1, [.int (nI 1), .ref a1, .ref a2, .null, .null, .null, .null, .int 0, .int 0])), (a1, .inl (cA1, 20, .inl (fun _ => 0))), (a2, .inl (cA2, 20, .inl (fun _ => 0)))] H := hP
  have hD : va_D A [(h0, .inr (1, [.int (nI 1), .ref a1, .ref a2, .null, .null, .null, .null, .int 0, .int 0])), (a1, .inl (cA1, 20, .inl (fun _ => 0))), (a2, .inl (cA2, 20, .inl (fun _ => 0)))] := hD
  refine lv_aload_n hx hb dX1_init_25 rfl (lv_at hl 0 rfl) ?_
  refine lv_bipush (v := nI 20) hx hb dX1_init_26 (by decide) ?_
  refine va_newa (atype := .int) (N' := 20) (a0 := (20, .inl (fun _ => 0))) hx hb (hts _ q69) rfl hK hP hD hS hA (fun cA => rfl) (by decide) (by decide) (by decide) (Nat.le_of_ble_eq_true rfl) (Nat.le_of_ble_eq_true rfl) dX1_init_28 (fun a3 cA3 H hK hP hD hS => ?_)
  have hP : va_P D vwCl [(h0, .inr (1, [.int (nI 1), .ref a1, .ref a2, .null, .null, .null, .null, .int 0, .int 0])), (a1, .inl (cA1, 20, .inl (fun _ => 0))), (a2, .inl (cA2, 20, .inl (fun _ => 0))), (a3, .inl (cA3, 20, .inl (fun _ => 0)))] H := hP
  have hD : va_D A [(h0, .inr (1, [.int (nI 1), .ref a1, .ref a2, .null, .null, .null, .null, .int 0, .int 0])), (a1, .inl (cA1, 20, .inl (fun _ => 0))), (a2, .inl (cA2, 20, .inl (fun _ => 0))), (a3, .inl (cA3, 20, .inl (fun _ => 0)))] := hD
  have hK : va_K D vwCl [(cA1, .int), (cA2, .int), (cA3, .int)] s := hK
  refine W.widen (k := 3) (n := 60) (Nat.le_of_ble_eq_true rfl) (Nat.le_of_ble_eq_true rfl) ?_
  refine va_put (D := D) (ci := 1) (v := .ref a3) (ty := .array .int) (C := RX1) (T := TX1) (N := 9) hx hb hts in_X1 tyX1 tyX1_ok nmX1 hown hK hP hD hS 0 rfl rfl 3 (by decide) (hts _ q172) (fun _ h9 => h9) rfl (by decide +kernel) rfl rfl (Nat.le_of_ble_eq_true rfl) dX1_init_30 (fun H locs hP hD hS => ?_)
  have hP : va_P D vwCl [(h0, .inr (1, [.int (nI 1), .ref a1, .ref a2, .ref a3, .null, .null, .null, .int 0, .int 0])), (a1, .inl (cA1, 20, .inl (fun _ => 0))), (a2, .inl (cA2, 20, .inl (fun _ => 0))), (a3, .inl (cA3, 20, .inl (fun _ => 0)))] H := hP
  have hD : va_D A [(h0, .inr (1, [.int (nI 1), .ref a1, .ref a2, .ref a3, .null, .null, .null, .int 0, .int 0])), (a1, .inl (cA1, 20, .inl (fun _ => 0))), (a2, .inl (cA2, 20, .inl (fun _ => 0))), (a3, .inl (cA3, 20, .inl (fun _ => 0)))] := hD
  refine lv_aload_n hx hb dX1_init_33 rfl (lv_at hl 0 rfl) ?_
  refine lv_bipush (v := nI 20) hx hb dX1_init_34 (by decide) ?_
  refine va_newa (atype := .int) (N' := 20) (a0 := (20, .inl (fun _ => 0))) hx hb (hts _ q69) rfl hK hP hD hS hA (fun cA => rfl) (by decide) (by decide) (by decide) (Nat.le_of_ble_eq_true rfl) (Nat.le_of_ble_eq_true rfl) dX1_init_36 (fun a4 cA4 H hK hP hD hS => ?_)
  have hP : va_P D vwCl [(h0, .inr (1, [.int (nI 1), .ref a1, .ref a2, .ref a3, .null, .null, .null, .int 0, .int 0])), (a1, .inl (cA1, 20, .inl (fun _ => 0))), (a2, .inl (cA2, 20, .inl (fun _ => 0))), (a3, .inl (cA3, 20, .inl (fun _ => 0))), (a4, .inl (cA4, 20, .inl (fun _ => 0)))] H := hP
  have hD : va_D A [(h0, .inr (1, [.int (nI 1), .ref a1, .ref a2, .ref a3, .null, .null, .null, .int 0, .int 0])), (a1, .inl (cA1, 20, .inl (fun _ => 0))), (a2, .inl (cA2, 20, .inl (fun _ => 0))), (a3, .inl (cA3, 20, .inl (fun _ => 0))), (a4, .inl (cA4, 20, .inl (fun _ => 0)))] := hD
  have hK : va_K D vwCl [(cA1, .int), (cA2, .int), (cA3, .int), (cA4, .int)] s := hK
  refine W.widen (k := 4) (n := 80) (Nat.le_of_ble_eq_true rfl) (Nat.le_of_ble_eq_true rfl) ?_
  refine va_put (D := D) (ci := 1) (v := .ref a4) (ty := .array .int) (C := RX1) (T := TX1) (N := 9) hx hb hts in_X1 tyX1 tyX1_ok nmX1 hown hK hP hD hS 0 rfl rfl 4 (by decide) (hts _ q173) (fun _ h9 => h9) rfl (by decide +kernel) rfl rfl (Nat.le_of_ble_eq_true rfl) dX1_init_38 (fun H locs hP hD hS => ?_)
  have hP : va_P D vwCl [(h0, .inr (1, [.int (nI 1), .ref a1, .ref a2, .ref a3, .ref a4, .null, .null, .int 0, .int 0])), (a1, .inl (cA1, 20, .inl (fun _ => 0))), (a2, .inl (cA2, 20, .inl (fun _ => 0))), (a3, .inl (cA3, 20, .inl (fun _ => 0))), (a4, .inl (cA4, 20, .inl (fun _ => 0)))] H := hP
  have hD : va_D A [(h0, .inr (1, [.int (nI 1), .ref a1, .ref a2, .ref a3, .ref a4, .null, .null, .int 0, .int 0])), (a1, .inl (cA1, 20, .inl (fun _ => 0))), (a2, .inl (cA2, 20, .inl (fun _ => 0))), (a3, .inl (cA3, 20, .inl (fun _ => 0))), (a4, .inl (cA4, 20, .inl (fun _ => 0)))] := hD
  refine lv_aload_n hx hb dX1_init_41 rfl (lv_at hl 0 rfl) ?_
  refine lv_bipush (v := nI 20) hx hb dX1_init_42 (by decide) ?_
  refine va_newa (atype := .int) (N' := 20) (a0 := (20, .inl (fun _ => 0))) hx hb (hts _ q69) rfl hK hP hD hS hA (fun cA => rfl) (by decide) (by decide) (by decide) (Nat.le_of_ble_eq_true rfl) (Nat.le_of_ble_eq_true rfl) dX1_init_44 (fun a5 cA5 H hK hP hD hS => ?_)
  have hP : va_P D vwCl [(h0, .inr (1, [.int (nI 1), .ref a1, .ref a2, .ref a3, .ref a4, .null, .null, .int 0, .int 0])), (a1, .inl (cA1, 20, .inl (fun _ => 0))), (a2, .inl (cA2, 20, .inl (fun _ => 0))), (a3, .inl (cA3, 20, .inl (fun _ => 0))), (a4, .inl (cA4, 20, .inl (fun _ => 0))), (a5, .inl (cA5, 20, .inl (fun _ => 0)))] H := hP
  have hD : va_D A [(h0, .inr (1, [.int (nI 1), .ref a1, .ref a2, .ref a3, .ref a4, .null, .null, .int 0, .int 0])), (a1, .inl (cA1, 20, .inl (fun _ => 0))), (a2, .inl (cA2, 20, .inl (fun _ => 0))), (a3, .inl (cA3, 20, .inl (fun _ => 0))), (a4, .inl (cA4, 20, .inl (fun _ => 0))), (a5, .inl (cA5, 20, .inl (fun _ => 0)))] := hD
  have hK : va_K D vwCl [(cA1, .int), (cA2, .int), (cA3, .int), (cA4, .int), (cA5, .int)] s := hK
  refine W.widen (k := 5) (n := 100) (Nat.le_of_ble_eq_true rfl) (Nat.le_of_ble_eq_true rfl) ?_
  refine va_put (D := D) (ci := 1) (v := .ref a5) (ty := .array .int) (C := RX1) (T := TX1) (N := 9) hx hb hts in_X1 tyX1 tyX1_ok nmX1 hown hK hP hD hS 0 rfl rfl 5 (by decide) (hts _ q174) (fun _ h9 => h9) rfl (by decide +kernel) rfl rfl (Nat.le_of_ble_eq_true rfl) dX1_init_46 (fun H locs hP hD hS => ?_)
  have hP : va_P D vwCl [(h0, .inr (1, [.int (nI 1), .ref a1, .ref a2, .ref a3, .ref a4, .ref a5, .null, .int 0, .int 0])), (a1, .inl (cA1, 20, .inl (fun _ => 0))), (a2, .inl (cA2, 20, .inl (fun _ => 0))), (a3, .inl (cA3, 20, .inl (fun _ => 0))), (a4, .inl (cA4, 20, .inl (fun _ => 0))), (a5, .inl (cA5, 20, .inl (fun _ => 0)))] H := hP
  have hD : va_D A [(h0, .inr (1, [.int (nI 1), .ref a1, .ref a2, .ref a3, .ref a4, .ref a5, .null, .int 0, .int 0])), (a1, .inl (cA1, 20, .inl (fun _ => 0))), (a2, .inl (cA2, 20, .inl (fun _ => 0))), (a3, .inl (cA3, 20, .inl (fun _ => 0))), (a4, .inl (cA4, 20, .inl (fun _ => 0))), (a5, .inl (cA5, 20, .inl (fun _ => 0)))] := hD
  refine lv_aload_n hx hb dX1_init_49 rfl (lv_at hl 0 rfl) ?_
  refine lv_bipush (v := nI 20) hx hb dX1_init_50 (by decide) ?_
  refine va_newa (atype := .boolean) (N' := 20) (a0 := (20, .inl (fun _ => 0))) hx hb (hts _ q197) rfl hK hP hD hS hA (fun cA => rfl) (by decide) (by decide) (by decide) (Nat.le_of_ble_eq_true rfl) (Nat.le_of_ble_eq_true rfl) dX1_init_52 (fun a6 cA6 H hK hP hD hS => ?_)
  have hP : va_P D vwCl [(h0, .inr (1, [.int (nI 1), .ref a1, .ref a2, .ref a3, .ref a4, .ref a5, .null, .int 0, .int 0])), (a1, .inl (cA1, 20, .inl (fun _ => 0))), (a2, .inl (cA2, 20, .inl (fun _ => 0))), (a3, .inl (cA3, 20, .inl (fun _ => 0))), (a4, .inl (cA4, 20, .inl (fun _ => 0))), (a5, .inl (cA5, 20, .inl (fun _ => 0))), (a6, .inl (cA6, 20, .inl (fun _ => 0)))] H := hP
  have hD : va_D A [(h0, .inr (1, [.int (nI 1), .ref a1, .ref a2, .ref a3, .ref a4, .ref a5, .null, .int 0, .int 0])), (a1, .inl (cA1, 20, .inl (fun _ => 0))), (a2, .inl (cA2, 20, .inl (fun _ => 0))), (a3, .inl (cA3, 20, .inl (fun _ => 0))), (a4, .inl (cA4, 20, .inl (fun _ => 0))), (a5, .inl (cA5, 20, .inl (fun _ => 0))), (a6, .inl (cA6, 20, .inl (fun _ => 0)))] := hD
  have hK : va_K D vwCl [(cA1, .int), (cA2, .int), (cA3, .int), (cA4, .int), (cA5, .int), (cA6, .boolean)] s := hK
  refine W.widen (k := 6) (n := 120) (Nat.le_of_ble_eq_true rfl) (Nat.le_of_ble_eq_true rfl) ?_
  refine va_put (D := D) (ci := 1) (v := .ref a6) (ty := .array .boolean) (C := RX1) (T := TX1) (N := 9) hx hb hts in_X1 tyX1 tyX1_ok nmX1 hown hK hP hD hS 0 rfl rfl 6 (by decide) (hts _ q175) (fun _ h9 => h9) rfl (by decide +kernel) rfl rfl (Nat.le_of_ble_eq_true rfl) dX1_init_54 (fun H locs hP hD hS => ?_)
  have hP : va_P D vwCl [(h0, .inr (1, [.int (nI 1), .ref a1, .ref a2, .ref a3, .ref a4, .ref a5, .ref a6, .int 0, .int 0])), (a1, .inl (cA1, 20, .inl (fun _ => 0))), (a2, .inl (cA2, 20, .inl (fun _ => 0))), (a3, .inl (cA3, 20, .inl (fun _ => 0))), (a4, .inl (cA4, 20, .inl (fun _ => 0))), (a5, .inl (cA5, 20, .inl (fun _ => 0))), (a6, .inl (cA6, 20, .inl (fun _ => 0)))] H := hP
  have hD : va_D A [(h0, .inr (1, [.int (nI 1), .ref a1, .ref a2, .ref a3, .ref a4, .ref a5, .ref a6, .int 0, .int 0])), (a1, .inl (cA1, 20, .inl (fun _ => 0))), (a2, .inl (cA2, 20, .inl (fun _ => 0))), (a3, .inl (cA3, 20, .inl (fun _ => 0))), (a4, .inl (cA4, 20, .inl (fun _ => 0))), (a5, .inl (cA5, 20, .inl (fun _ => 0))), (a6, .inl (cA6, 20, .inl (fun _ => 0)))] := hD
  refine lv_aload_n hx hb dX1_init_57 rfl (lv_at hl 0 rfl) ?_
  refine lv_iconst (v := nI 0) hx hb dX1_init_58 (by decide) ?_
  refine va_put (D := D) (ci := 1) (v := .int (nI 0)) (ty := .int) (C := RX1) (T := TX1) (N := 9) hx hb hts in_X1 tyX1 tyX1_ok nmX1 hown hK hP hD hS 0 rfl rfl 7 (by decide) (hts _ q176) (fun _ h9 => h9) rfl (by decide +kernel) rfl rfl (Nat.le_of_ble_eq_true rfl) dX1_init_59 (fun H locs hP hD hS => ?_)
  have hP : va_P D vwCl [(h0, .inr (1, [.int (nI 1), .ref a1, .ref a2, .ref a3, .ref a4, .ref a5, .ref a6, .int (nI 0), .int 0])), (a1, .inl (cA1, 20, .inl (fun _ => 0))), (a2, .inl (cA2, 20, .inl (fun _ => 0))), (a3, .inl (cA3, 20, .inl (fun _ => 0))), (a4, .inl (cA4, 20, .inl (fun _ => 0))), (a5, .inl (cA5, 20, .inl (fun _ => 0))), (a6, .inl (cA6, 20, .inl (fun _ => 0)))] H := hP
  have hD : va_D A [(h0, .inr (1, [.int (nI 1), .ref a1, .ref a2, .ref a3, .ref a4, .ref a5, .ref a6, .int (nI 0), .int 0])), (a1, .inl (cA1, 20, .inl (fun _ => 0))), (a2, .inl (cA2, 20, .inl (fun _ => 0))), (a3, .inl (cA3, 20, .inl (fun _ => 0))), (a4, .inl (cA4, 20, .inl (fun _ => 0))), (a5, .inl (cA5, 20, .inl (fun _ => 0))), (a6, .inl (cA6, 20, .inl (fun _ => 0)))] := hD
  refine lv_aload_n hx hb dX1_init_62 rfl (lv_at hl 0 rfl) ?_
  refine lv_iconst (v := nI 0) hx hb dX1_init_63 (by decide) ?_
  refine va_put (D := D) (ci := 1) (v := .int (nI 0)) (ty := .int) (C := RX1) (T := TX1) (N := 9) hx hb hts in_X1 tyX1 tyX1_ok nmX1 hown hK hP hD hS 0 rfl rfl 8 (by decide) (hts _ q177) (fun _ h9 => h9) rfl (by decide +kernel) rfl rfl (Nat.le_of_ble_eq_true rfl) dX1_init_64 (fun H locs hP hD hS => ?_)
  have hP : va_P D vwCl [(h0, .inr (1, [.int (nI 1), .ref a1, .ref a2, .ref a3, .ref a4, .ref a5, .ref a6, .int (nI 0), .int (nI 0)])), (a1, .inl (cA1, 20, .inl (fun _ => 0))), (a2, .inl (cA2, 20, .inl (fun _ => 0))), (a3, .inl (cA3, 20, .inl (fun _ => 0))), (a4, .inl (cA4, 20, .inl (fun _ => 0))), (a5, .inl (cA5, 20, .inl (fun _ => 0))), (a6, .inl (cA6, 20, .inl (fun _ => 0)))] H := hP
  have hD : va_D A [(h0, .inr (1, [.int (nI 1), .ref a1, .ref a2, .ref a3, .ref a4, .ref a5, .ref a6, .int (nI 0), .int (nI 0)])), (a1, .inl (cA1, 20, .inl (fun _ => 0))), (a2, .inl (cA2, 20, .inl (fun _ => 0))), (a3, .inl (cA3, 20, .inl (fun _ => 0))), (a4, .inl (cA4, 20, .inl (fun _ => 0))), (a5, .inl (cA5, 20, .inl (fun _ => 0))), (a6, .inl (cA6, 20, .inl (fun _ => 0)))] := hD
  refine lv_aload_n hx hb dX1_init_67 rfl (lv_at hl 0 rfl) ?_
  refine va_get (D := D) (ci := 1) (v := .ref a1) (C := RX1) (T := TX1) (N := 9) hx hb hts in_X1 hown hK hP 0 rfl rfl 1 (by decide) (hts _ q170) (fun _ h9 => h9) rfl dX1_init_68 ?_
  refine lv_iconst (v := nI 0) hx hb dX1_init_71 (by decide) ?_
  refine lv_iconst (v := (-1)) hx hb dX1_init_72 (by decide) ?_
  refine cu_iast (f' := upd (fun _ => 0) 0 (-1)) hx hb hK hP hD hS 1 0 rfl rfl 0 (by decide) (Nat.le_of_ble_eq_true rfl) rfl dX1_init_73 (fun H locs hP hD hS => ?_)
  have hP : va_P D vwCl [(h0, .inr (1, [.int (nI 1), .ref a1, .ref a2, .ref a3, .ref a4, .ref a5, .ref a6, .int (nI 0), .int (nI 0)])), (a1, .inl (cA1, 20, .inl (upd (fun _ => 0) 0 (-1)))), (a2, .inl (cA2, 20, .inl (fun _ => 0))), (a3, .inl (cA3, 20, .inl (fun _ => 0))), (a4, .inl (cA4, 20, .inl (fun _ => 0))), (a5, .inl (cA5, 20, .inl (fun _ => 0))), (a6, .inl (cA6, 20, .inl (fun _ => 0)))] H := hP
  have hD : va_D A [(h0, .inr (1, [.int (nI 1), .ref a1, .ref a2, .ref a3, .ref a4, .ref a5, .ref a6, .int (nI 0), .int (nI 0)])), (a1, .inl (cA1, 20, .inl (upd (fun _ => 0) 0 (-1)))), (a2, .inl (cA2, 20, .inl (fun _ => 0))), (a3, .inl (cA3, 20, .inl (fun _ => 0))), (a4, .inl (cA4, 20, .inl (fun _ => 0))), (a5, .inl (cA5, 20, .inl (fun _ => 0))), (a6, .inl (cA6, 20, .inl (fun _ => 0)))] := hD
  refine lv_aload_n hx hb dX1_init_74 rfl (lv_at hl 0 rfl) ?_
  refine va_get (D := D) (ci := 1) (v := .ref a4) (C := RX1) (T := TX1) (N := 9) hx hb hts in_X1 hown hK hP 0 rfl rfl 4 (by decide) (hts _ q173) (fun _ h9 => h9) rfl dX1_init_75 ?_
  refine lv_iconst (v := nI 0) hx hb dX1_init_78 (by decide) ?_
  refine lv_iconst (v := (-1)) hx hb dX1_init_79 (by decide) ?_
  refine cu_iast (f' := upd (fun _ => 0) 0 (-1)) hx hb hK hP hD hS 4 3 rfl rfl 0 (by decide) (Nat.le_of_ble_eq_true rfl) rfl dX1_init_80 (fun H locs hP hD hS => ?_)
  have hP : va_P D vwCl [(h0, .inr (1, [.int (nI 1), .ref a1, .ref a2, .ref a3, .ref a4, .ref a5, .ref a6, .int (nI 0), .int (nI 0)])), (a1, .inl (cA1, 20, .inl (upd (fun _ => 0) 0 (-1)))), (a2, .inl (cA2, 20, .inl (fun _ => 0))), (a3, .inl (cA3, 20, .inl (fun _ => 0))), (a4, .inl (cA4, 20, .inl (upd (fun _ => 0) 0 (-1)))), (a5, .inl (cA5, 20, .inl (fun _ => 0))), (a6, .inl (cA6, 20, .inl (fun _ => 0)))] H := hP
  have hD : va_D A [(h0, .inr (1, [.int (nI 1), .ref a1, .ref a2, .ref a3, .ref a4, .ref a5, .ref a6, .int (nI 0), .int (nI 0)])), (a1, .inl (cA1, 20, .inl (upd (fun _ => 0) 0 (-1)))), (a2, .inl (cA2, 20, .inl (fun _ => 0))), (a3, .inl (cA3, 20, .inl (fun _ => 0))), (a4, .inl (cA4, 20, .inl (upd (fun _ => 0) 0 (-1)))), (a5, .inl (cA5, 20, .inl (fun _ => 0))), (a6, .inl (cA6, 20, .inl (fun _ => 0)))] := hD
  refine lv_aload_n hx hb dX1_init_81 rfl (lv_at hl 0 rfl) ?_
  refine va_get (D := D) (ci := 1) (v := .ref a5) (C := RX1) (T := TX1) (N := 9) hx hb hts in_X1 hown hK hP 0 rfl rfl 5 (by decide) (hts _ q174) (fun _ h9 => h9) rfl dX1_init_82 ?_
  refine lv_iconst (v := nI 0) hx hb dX1_init_85 (by decide) ?_
  refine lv_iconst (v := (-1)) hx hb dX1_init_86 (by decide) ?_
  refine cu_iast (f' := upd (fun _ => 0) 0 (-1)) hx hb hK hP hD hS 5 4 rfl rfl 0 (by decide) (Nat.le_of_ble_eq_true rfl) rfl dX1_init_87 (fun H locs hP hD hS => ?_)
  have hP : va_P D vwCl [(h0, .inr (1, [.int (nI 1), .ref a1, .ref a2, .ref a3, .ref a4, .ref a5, .ref a6, .int (nI 0), .int (nI 0)])), (a1, .inl (cA1, 20, .inl (upd (fun _ => 0) 0 (-1)))), (a2, .inl (cA2, 20, .inl (fun _ => 0))), (a3, .inl (cA3, 20, .inl (fun _ => 0))), (a4, .inl (cA4, 20, .inl (upd (fun _ => 0) 0 (-1)))), (a5, .inl (cA5, 20, .inl (upd (fun _ => 0) 0 (-1)))), (a6, .inl (cA6, 20, .inl (fun _ => 0)))] H := hP
  have hD : va_D A [(h0, .inr (1, [.int (nI 1), .ref a1, .ref a2, .ref a3, .ref a4, .ref a5, .ref a6, .int (nI 0), .int (nI 0)])), (a1, .inl (cA1, 20, .inl (upd (fun _ => 0) 0 (-1)))), (a2, .inl (cA2, 20, .inl (fun _ => 0))), (a3, .inl (cA3, 20, .inl (fun _ => 0))), (a4, .inl (cA4, 20, .inl (upd (fun _ => 0) 0 (-1)))), (a5, .inl (cA5, 20, .inl (upd (fun _ => 0) 0 (-1)))), (a6, .inl (cA6, 20, .inl (fun _ => 0)))] := hD
  obtain rfl : cA1 = cA2 := cu_sameI hK 0 1 rfl rfl
  obtain rfl : cA1 = cA3 := cu_sameI hK 0 2 rfl rfl
  obtain rfl : cA1 = cA4 := cu_sameI hK 0 3 rfl rfl
  obtain rfl : cA1 = cA5 := cu_sameI hK 0 4 rfl rfl
  have hK := hK.sub (tys' := [(cA1, .int), (cA6, .boolean)]) [0, 5] rfl
  exact W.vret hx hb hr (fun t_ ht_ hW => ⟨⟨((fun i => [h0, a1, a2, a3, a4, a5, a6].getD i 0), cA1, cA6), rfl, rfl, by rw [ht_, MS0]; exact hP, va_K.moved hW.alike hK, by rw [MS0]; exact hD⟩, hS.F ht_⟩) hS.2.2 dX1_init_88
end
section
/-! THE CLAIM OUT OF ONE WALK OF THE LAW'S BODY. Your part is whole_start (and what it stands on); all else here is the same for every law, but numbers. -/
def R_law : String := "ChainUndoLaw"
def lw_P (b : Addr) (xs : List Int32) (args : Array Value) (s : State) : Prop := args = #[.ref b] ∧ s.IntsAt b xs ∧ xs.length ≤ 320 ∧ (Jvm.Cond.and given_1 narrow_1).before args s = true
def lw_Q (_ : Array Value) (s : State) (o : Outcome) (t : State) : Prop := o = .returned (some (.int 1)) ∧ Framed s o t [] 600000 7290000
def lw_Z (below : List Frame) (a : Array Value) (s : State) : State → Prop := fun t => ∃ o, t.status = .running ∧ Ended t below o ∧ lw_Q a s o t
/-- the law's own end, with 1 on the stack, nothing written that was there before, its room as the claim has it -/
theorem lw_ret {p : Program} {l : Launch} {e : Env} {s : State} {m : MethodId} {below : List Frame} {meth : Method} {c : Code} {b : Nat} (hx : p.tables.exec = Jvm.exec) (hb : c.code = code) (hr : meth.sig.returnType = ret) (hlocks : meth.locks = false) {pc : Nat} {H : Heap} {ls : Array Slot} (hdg : decode code pc = .ok (.ireturn, 1)) : W p l e room_1 s m #[Value.ref b] below meth c H [] 600000 7290000 (lw_Z below #[Value.ref b] s) (F0 m pc ls [.int 1]) := by
  intro T hT X
  obtain ⟨fs, hret, hrun, hended, hW, hframe⟩ := X.leave (v := some (.int 1)) (hlocks := hlocks) (fun h => by rw [hr] at h; cases h)
  have hmeth' : T.vm.method? m = some meth := X.method'
  refine ⟨T.setFrames fs, ?_, .returned (some (.int 1)), hrun, hended, rfl, ⟨_, rfl⟩, hW, hframe⟩
  jvm_step X.here [X.here.top, hx, hb, hdg, hmeth', hr, ret, narrow_b1]
  (try refine ⟨rfl, ?_⟩); (try refine ⟨rfl, ?_⟩)
  first | (intro acts; rw [hret _ acts rfl rfl rfl]) | rw [hret _ _ rfl rfl rfl]
  exact Steps.refl _
/-- what holds at the law's entry: the machine, the code, the tables' words (any of lw_tbl by 'hts w (by decide +kernel)'), the script of L ints xs at the cell b, what the Statement gives of the start (any of its parts by flat_of_before) -/
def lw_At (p : Program) (s : State) (m : MethodId) (meth : Method) (c : Code) (b L : Nat) (xs : Nat → Int32) : Prop :=
  p.tables.exec = Jvm.exec ∧ c.code = code ∧ meth.sig.returnType = ret ∧ c.maxLocals = 4 ∧ s.vm.findClass R_law = some m.cls ∧ (∀ w ∈ lw_tbl, w.before #[Value.ref b] s = true) ∧ va_X b L xs s s.heap ∧ b < s.heap.size ∧ meth.locks = false ∧ (Jvm.Cond.and given_1 narrow_1).before #[Value.ref b] s = true
end
section
/-! the law: printed by gen/law.py -/
def cu_A (s : State) : Nat → Prop := fun q => s.heap.size ≤ q
set_option maxHeartbeats 4000000 in
set_option maxRecDepth 100000 in
theorem cu_law_loop {p : Program} {e : Env} {s : State} {m : MethodId} {below : List Frame} {meth : Method} {c : Code} (l : Launch) {b L : Nat} {xs : Nat → Int32} (hL : L ≤ 320) (C0 : lw_At p s m meth c b L xs) (D : va_G) (ax am : Nat → Nat) (cB cI cL cI2 cZ : ClassId) (hKX : va_K D vwCl (XT cB cI cL) s) (hKM : va_K D vwCl (MT cI2 cZ) s) {H : Heap} {locs : List Loc} {ls : Array Slot} (wu tk : Nat → Int32) (hPX : va_P D vwCl (XS ax cB cI cL cu_S0 wu) H) (hPM : va_P D vwCl (MS am cI2 cZ cu_S0 tk) H) (hD : va_D (cu_A s) (XS ax cB cI cL cu_S0 wu ++ MS am cI2 cZ cu_S0 tk)) (hS : va_S (cu_A s) s.heap H locs) (hl : lv_has ls 4 [(0, .ref b), (1, .ref (ax 0)), (2, .ref (am 0)), (3, .int (nI 0))]) : W p l e room_1 s m #[Value.ref b] below meth c H locs 16 286 (lw_Z below #[Value.ref b] s) (F0 m 18 ls []) := by
  obtain ⟨hx, hb, hr, hml, hown, hts0, hX, hbl, hlocks, hgv⟩ := C0
  have hts : ∀ w ∈ lw_all, w.before #[Value.ref b] s = true := fun w h => hts0 w (lw_all_tbl h)
  have hA : ∀ q : Nat, s.heap.size ≤ q → cu_A s q := fun _ h => h
  have hbA : ¬ cu_A s b := Nat.not_le.mpr hbl
  refine cu_loop (σ := Nat × cu_S × (Nat → Int32) × (Nat → Int32)) (I := fun (x_ : Nat × cu_S × (Nat → Int32) × (Nat → Int32)) H locs ls => match x_ with | (i, S, wu, tk) => va_P D vwCl (XS ax cB cI cL S wu) H ∧ va_P D vwCl (MS am cI2 cZ S tk) H ∧ va_D (cu_A s) (XS ax cB cI cL S wu ++ MS am cI2 cZ S tk) ∧ va_S (cu_A s) s.heap H locs ∧ lv_has ls 4 [(0, .ref b), (1, .ref (ax 0)), (2, .ref (am 0)), (3, .int (nI i))] ∧ cu_ok S ∧ i ≤ L + 5) (μ := fun (x_ : Nat × cu_S × (Nat → Int32) × (Nat → Int32)) => match x_ with | (i, S, wu, tk) => L + 6 - i) ?_ (0, cu_S0, wu, tk) ⟨hPX, hPM, hD, hS, hl, cu_ok0, by omega⟩
  clear hPX hPM hD hS hl wu tk
  rintro ⟨i, ⟨n, tip, und, P, lev, own, amt, s1, s2⟩, wu, tk⟩ H locs ls ⟨hPX, hPM, hD, hS, hl, ⟨h, ht⟩, hi⟩ ih
  refine lv_iload_n hx hb dL_law_18 rfl (lv_at hl 3 rfl) ?_
  refine lv_aload_n hx hb dL_law_19 rfl (lv_at hl 0 rfl) ?_
  refine va_slen hx hb hX hbl hbA hS dL_law_20 ?_
  refine lv_iconst (v := nI 5) hx hb dL_law_21 (by decide) ?_
  refine lv_isub hx hb dL_law_22 ?_
  refine cuI_icmp_gt (tgt := 436) (i := (i : Int)) (j := (L : Int) - 5) (nI_toInt (by omega)) (pk_sub_toInt (a := L) (b := 5) (by omega) (by omega)) hx hb dL_law_23 (by decide) (fun c23 => ?_) (fun c23 => ?_)
  · refine lv_iconst (v := 1) hx hb dL_law_436 (by decide) ?_
    refine va_forget (fun q hq => hS.2.2 q hq) ?_
    refine W.widen (k := 600000) (n := 7290000) (Nat.le_of_ble_eq_true rfl) (Nat.le_of_ble_eq_true rfl) ?_
    exact lw_ret hx hb hr hlocks dL_law_437
  · refine lv_aload_n hx hb dL_law_26 rfl (lv_at hl 0 rfl) ?_
    refine lv_iload_n hx hb dL_law_27 rfl (lv_at hl 3 rfl) ?_
    refine cu_sld hx hb hX hbl hbA hS i (by omega) (by omega) dL_law_28 ?_
    refine lv_bipush (v := nI 15) hx hb dL_law_29 (by decide) ?_
    refine lv_iand hx hb dL_law_31 ?_
    obtain ⟨j, hj, ej⟩ := pk_andE (xs i) (m := nI 15) 4 (by decide)
    refine cu_top (y := nI j) ej ?_
    rcases (show j = 0 ∨ j = 1 ∨ j = 2 ∨ j = 3 ∨ j = 4 ∨ j = 5 ∨ j = 6 ∨ j = 7 ∨ j = 8 ∨ j = 9 ∨ j = 10 ∨ j = 11 ∨ j = 12 ∨ j = 13 ∨ j = 14 ∨ j = 15 by omega) with rfl | rfl | rfl | rfl | rfl | rfl | rfl | rfl | rfl | rfl | rfl | rfl | rfl | rfl | rfl | rfl
    · refine lv_tableIn (off := 68) (tgt := 100) hx hb dL_law_32 (by decide) (by decide) (by decide) (by decide) ?_
      refine lv_aload_n hx hb dL_law_100 rfl (lv_at hl 1 rfl) ?_
      refine lv_aload_n hx hb dL_law_101 rfl (lv_at hl 0 rfl) ?_
      refine lv_iload_n hx hb dL_law_102 rfl (lv_at hl 3 rfl) ?_
      refine lv_iconst (v := nI 1) hx hb dL_law_103 (by decide) ?_
      refine lv_iadd hx hb dL_law_104 ?_
      refine cu_top (y := nI (i + 1)) (nI_add _ _) ?_
      refine cu_sld hx hb hX hbl hbA hS (i + 1) (by omega) (by omega) dL_law_105 ?_
      refine lv_aload_n hx hb dL_law_106 rfl (lv_at hl 0 rfl) ?_
      refine lv_iload_n hx hb dL_law_107 rfl (lv_at hl 3 rfl) ?_
      refine lv_iconst (v := nI 2) hx hb dL_law_108 (by decide) ?_
      refine lv_iadd hx hb dL_law_109 ?_
      refine cu_top (y := nI (i + 2)) (nI_add _ _) ?_
      refine cu_sld hx hb hX hbl hbA hS (i + 2) (by omega) (by omega) dL_law_110 ?_
      refine lv_aload_n hx hb dL_law_111 rfl (lv_at hl 0 rfl) ?_
      refine lv_iload_n hx hb dL_law_112 rfl (lv_at hl 3 rfl) ?_
      refine lv_iconst (v := nI 3) hx hb dL_law_113 (by decide) ?_
      refine lv_iadd hx hb dL_law_114 ?_
      refine cu_top (y := nI (i + 3)) (nI_add _ _) ?_
      refine cu_sld hx hb hX hbl hbA hS (i + 3) (by omega) (by omega) dL_law_115 ?_
      refine cu_lawi (As := [.int (xs (i + 1)), .int (xs (i + 2)), .int (xs (i + 3))]) (rest := []) (mX_mint l D ax cB cI cL H.size n tip und P lev own amt s1 s2 wu (xs (i + 1)) (xs (i + 2)) (xs (i + 3)) h ht) ⟨hx, hb, hml, hown, hts⟩ (cwV 3 hts (lw_V q71 q72 q73 q18 q74) rfl rfl rfl (by decide +kernel) ⟨Nat.le_of_ble_eq_true rfl, Nat.le_of_ble_eq_true rfl⟩) hKX hPX hPM hD hS hA (ci := 0) rfl rfl ⟨Nat.le_of_ble_eq_true rfl, Nat.le_of_ble_eq_true rfl⟩ rfl hl.1 rfl (Nat.le_of_ble_eq_true rfl) dL_law_116 (fun r1 wu1 H locs hw1 hPX hPM hD hS => ?_)
      refine lv_aload_n hx hb dL_law_119 rfl (lv_at hl 2 rfl) ?_
      refine lv_aload_n hx hb dL_law_120 rfl (lv_at hl 0 rfl) ?_
      refine lv_iload_n hx hb dL_law_121 rfl (lv_at hl 3 rfl) ?_
      refine lv_iconst (v := nI 1) hx hb dL_law_122 (by decide) ?_
      refine lv_iadd hx hb dL_law_123 ?_
      refine cu_top (y := nI (i + 1)) (nI_add _ _) ?_
      refine cu_sld hx hb hX hbl hbA hS (i + 1) (by omega) (by omega) dL_law_124 ?_
      refine lv_aload_n hx hb dL_law_125 rfl (lv_at hl 0 rfl) ?_
      refine lv_iload_n hx hb dL_law_126 rfl (lv_at hl 3 rfl) ?_
      refine lv_iconst (v := nI 2) hx hb dL_law_127 (by decide) ?_
      refine lv_iadd hx hb dL_law_128 ?_
      refine cu_top (y := nI (i + 2)) (nI_add _ _) ?_
      refine cu_sld hx hb hX hbl hbA hS (i + 2) (by omega) (by omega) dL_law_129 ?_
      refine lv_aload_n hx hb dL_law_130 rfl (lv_at hl 0 rfl) ?_
      refine lv_iload_n hx hb dL_law_131 rfl (lv_at hl 3 rfl) ?_
      refine lv_iconst (v := nI 3) hx hb dL_law_132 (by decide) ?_
      refine lv_iadd hx hb dL_law_133 ?_
      refine cu_top (y := nI (i + 3)) (nI_add _ _) ?_
      refine cu_sld hx hb hX hbl hbA hS (i + 3) (by omega) (by omega) dL_law_134 ?_
      refine cu_lawi (As := [.int (xs (i + 1)), .int (xs (i + 2)), .int (xs (i + 3))]) (rest := [.int r1]) (mM_mint l D am cI2 cZ H.size n tip und P lev own amt s1 s2 tk (xs (i + 1)) (xs (i + 2)) (xs (i + 3)) h ht) ⟨hx, hb, hml, hown, hts⟩ (cwV 3 hts (lw_V q198 q199 q200 q19 q201) rfl rfl rfl (by decide +kernel) ⟨Nat.le_of_ble_eq_true rfl, Nat.le_of_ble_eq_true rfl⟩) hKM hPM hPX (cu_Dswap hD) hS hA (ci := 1) rfl rfl ⟨Nat.le_of_ble_eq_true rfl, Nat.le_of_ble_eq_true rfl⟩ rfl hl.1 rfl (Nat.le_of_ble_eq_true rfl) dL_law_135 (fun r2 u2 H locs hw2 hPM hPX hD hS => ?_)
      refine lv_icmp_eq (tgt := 430) hx hb dL_law_138 (by decide) (fun c9 => ?_) (fun c9 => absurd (Eq.trans hw1 (Eq.symm hw2)) c9)
      refine lv_iinc (v := nI (i + 5)) (lv' := [(3, .int (nI (i + 5))), (0, .ref b), (1, .ref (ax 0)), (2, .ref (am 0))]) hx hb dL_law_430 hl (k := 3) rfl (cu_inc5 _) (by decide) rfl (fun ls hl => ?_)
      refine lv_goto (tgt := 18) hx hb dL_law_433 (by decide) ?_
      exact ih (i + 5, (cu_mint (n, tip, und, P, lev, own, amt, s1, s2) (xs (i + 1)) (xs (i + 2)) (xs (i + 3))).2, wu1, tk) _ _ _ ⟨hPX, hPM, cu_Dswap hD, hS, lv_sub hl [1, 2, 3, 0] rfl, cu_ok_mint (S := (n, tip, und, P, lev, own, amt, s1, s2)) ⟨h, ht⟩ _ _ _, by omega⟩ (show L + 6 - (i + 5) < L + 6 - i by omega)
    · refine lv_tableIn (off := 111) (tgt := 143) hx hb dL_law_32 (by decide) (by decide) (by decide) (by decide) ?_
      refine lv_aload_n hx hb dL_law_143 rfl (lv_at hl 1 rfl) ?_
      refine lv_aload_n hx hb dL_law_144 rfl (lv_at hl 0 rfl) ?_
      refine lv_iload_n hx hb dL_law_145 rfl (lv_at hl 3 rfl) ?_
      refine lv_iconst (v := nI 1) hx hb dL_law_146 (by decide) ?_
      refine lv_iadd hx hb dL_law_147 ?_
      refine cu_top (y := nI (i + 1)) (nI_add _ _) ?_
      refine cu_sld hx hb hX hbl hbA hS (i + 1) (by omega) (by omega) dL_law_148 ?_
      refine lv_aload_n hx hb dL_law_149 rfl (lv_at hl 0 rfl) ?_
      refine lv_iload_n hx hb dL_law_150 rfl (lv_at hl 3 rfl) ?_
      refine lv_iconst (v := nI 2) hx hb dL_law_151 (by decide) ?_
      refine lv_iadd hx hb dL_law_152 ?_
      refine cu_top (y := nI (i + 2)) (nI_add _ _) ?_
      refine cu_sld hx hb hX hbl hbA hS (i + 2) (by omega) (by omega) dL_law_153 ?_
      refine lv_aload_n hx hb dL_law_154 rfl (lv_at hl 0 rfl) ?_
      refine lv_iload_n hx hb dL_law_155 rfl (lv_at hl 3 rfl) ?_
      refine lv_iconst (v := nI 3) hx hb dL_law_156 (by decide) ?_
      refine lv_iadd hx hb dL_law_157 ?_
      refine cu_top (y := nI (i + 3)) (nI_add _ _) ?_
      refine cu_sld hx hb hX hbl hbA hS (i + 3) (by omega) (by omega) dL_law_158 ?_
      refine lv_aload_n hx hb dL_law_159 rfl (lv_at hl 0 rfl) ?_
      refine lv_iload_n hx hb dL_law_160 rfl (lv_at hl 3 rfl) ?_
      refine lv_iconst (v := nI 4) hx hb dL_law_161 (by decide) ?_
      refine lv_iadd hx hb dL_law_162 ?_
      refine cu_top (y := nI (i + 4)) (nI_add _ _) ?_
      refine cu_sld hx hb hX hbl hbA hS (i + 4) (by omega) (by omega) dL_law_163 ?_
      refine cu_lawi (As := [.int (xs (i + 1)), .int (xs (i + 2)), .int (xs (i + 3)), .int (xs (i + 4))]) (rest := []) (mX_pay l D ax cB cI cL H.size n tip und P lev own amt s1 s2 wu (xs (i + 1)) (xs (i + 2)) (xs (i + 3)) (xs (i + 4)) h ht) ⟨hx, hb, hml, hown, hts⟩ (cwV 4 hts (lw_V q107 q108 q109 q18 q110) rfl rfl rfl (by decide +kernel) ⟨Nat.le_of_ble_eq_true rfl, Nat.le_of_ble_eq_true rfl⟩) hKX hPX hPM hD hS hA (ci := 0) rfl rfl ⟨Nat.le_of_ble_eq_true rfl, Nat.le_of_ble_eq_true rfl⟩ rfl hl.1 rfl (Nat.le_of_ble_eq_true rfl) dL_law_164 (fun r1 wu1 H locs hw1 hPX hPM hD hS => ?_)
      refine lv_aload_n hx hb dL_law_167 rfl (lv_at hl 2 rfl) ?_
      refine lv_aload_n hx hb dL_law_168 rfl (lv_at hl 0 rfl) ?_
      refine lv_iload_n hx hb dL_law_169 rfl (lv_at hl 3 rfl) ?_
      refine lv_iconst (v := nI 1) hx hb dL_law_170 (by decide) ?_
      refine lv_iadd hx hb dL_law_171 ?_
      refine cu_top (y := nI (i + 1)) (nI_add _ _) ?_
      refine cu_sld hx hb hX hbl hbA hS (i + 1) (by omega) (by omega) dL_law_172 ?_
      refine lv_aload_n hx hb dL_law_173 rfl (lv_at hl 0 rfl) ?_
      refine lv_iload_n hx hb dL_law_174 rfl (lv_at hl 3 rfl) ?_
      refine lv_iconst (v := nI 2) hx hb dL_law_175 (by decide) ?_
      refine lv_iadd hx hb dL_law_176 ?_
      refine cu_top (y := nI (i + 2)) (nI_add _ _) ?_
      refine cu_sld hx hb hX hbl hbA hS (i + 2) (by omega) (by omega) dL_law_177 ?_
      refine lv_aload_n hx hb dL_law_178 rfl (lv_at hl 0 rfl) ?_
      refine lv_iload_n hx hb dL_law_179 rfl (lv_at hl 3 rfl) ?_
      refine lv_iconst (v := nI 3) hx hb dL_law_180 (by decide) ?_
      refine lv_iadd hx hb dL_law_181 ?_
      refine cu_top (y := nI (i + 3)) (nI_add _ _) ?_
      refine cu_sld hx hb hX hbl hbA hS (i + 3) (by omega) (by omega) dL_law_182 ?_
      refine lv_aload_n hx hb dL_law_183 rfl (lv_at hl 0 rfl) ?_
      refine lv_iload_n hx hb dL_law_184 rfl (lv_at hl 3 rfl) ?_
      refine lv_iconst (v := nI 4) hx hb dL_law_185 (by decide) ?_
      refine lv_iadd hx hb dL_law_186 ?_
      refine cu_top (y := nI (i + 4)) (nI_add _ _) ?_
      refine cu_sld hx hb hX hbl hbA hS (i + 4) (by omega) (by omega) dL_law_187 ?_
      refine cu_lawi (As := [.int (xs (i + 1)), .int (xs (i + 2)), .int (xs (i + 3)), .int (xs (i + 4))]) (rest := [.int r1]) (mM_pay l D am cI2 cZ H.size n tip und P lev own amt s1 s2 tk (xs (i + 1)) (xs (i + 2)) (xs (i + 3)) (xs (i + 4)) h ht) ⟨hx, hb, hml, hown, hts⟩ (cwV 4 hts (lw_V q222 q223 q224 q19 q225) rfl rfl rfl (by decide +kernel) ⟨Nat.le_of_ble_eq_true rfl, Nat.le_of_ble_eq_true rfl⟩) hKM hPM hPX (cu_Dswap hD) hS hA (ci := 1) rfl rfl ⟨Nat.le_of_ble_eq_true rfl, Nat.le_of_ble_eq_true rfl⟩ rfl hl.1 rfl (Nat.le_of_ble_eq_true rfl) dL_law_188 (fun r2 u2 H locs hw2 hPM hPX hD hS => ?_)
      refine lv_icmp_eq (tgt := 430) hx hb dL_law_191 (by decide) (fun c9 => ?_) (fun c9 => absurd (Eq.trans hw1 (Eq.symm hw2)) c9)
      refine lv_iinc (v := nI (i + 5)) (lv' := [(3, .int (nI (i + 5))), (0, .ref b), (1, .ref (ax 0)), (2, .ref (am 0))]) hx hb dL_law_430 hl (k := 3) rfl (cu_inc5 _) (by decide) rfl (fun ls hl => ?_)
      refine lv_goto (tgt := 18) hx hb dL_law_433 (by decide) ?_
      exact ih (i + 5, (cu_pay (n, tip, und, P, lev, own, amt, s1, s2) (xs (i + 1)) (xs (i + 2)) (xs (i + 3)) (xs (i + 4))).2, wu1, tk) _ _ _ ⟨hPX, hPM, cu_Dswap hD, hS, lv_sub hl [1, 2, 3, 0] rfl, cu_ok_pay (S := (n, tip, und, P, lev, own, amt, s1, s2)) ⟨h, ht⟩ _ _ _ _, by omega⟩ (show L + 6 - (i + 5) < L + 6 - i by omega)
    · refine lv_tableIn (off := 164) (tgt := 196) hx hb dL_law_32 (by decide) (by decide) (by decide) (by decide) ?_
      refine lv_aload_n hx hb dL_law_196 rfl (lv_at hl 1 rfl) ?_
      refine cu_lawi (As := []) (rest := []) (mX_blocks l D ax cB cI cL H.size n tip und P lev own amt s1 s2 wu  h ht) ⟨hx, hb, hml, hown, hts⟩ (cwV 0 hts (lw_V q115 q116 q117 q18 q118) rfl rfl rfl (by decide +kernel) ⟨Nat.le_of_ble_eq_true rfl, Nat.le_of_ble_eq_true rfl⟩) hKX hPX hPM hD hS hA (ci := 0) rfl rfl ⟨Nat.le_of_ble_eq_true rfl, Nat.le_of_ble_eq_true rfl⟩ rfl hl.1 rfl (Nat.le_of_ble_eq_true rfl) dL_law_197 (fun r1 u1 H locs hw1 hPX hPM hD hS => ?_)
      refine lv_aload_n hx hb dL_law_200 rfl (lv_at hl 2 rfl) ?_
      refine cu_lawi (As := []) (rest := [.int r1]) (mM_blocks l D am cI2 cZ H.size n tip und P lev own amt s1 s2 tk  h ht) ⟨hx, hb, hml, hown, hts⟩ (cwV 0 hts (lw_V q230 q231 q232 q19 q233) rfl rfl rfl (by decide +kernel) ⟨Nat.le_of_ble_eq_true rfl, Nat.le_of_ble_eq_true rfl⟩) hKM hPM hPX (cu_Dswap hD) hS hA (ci := 1) rfl rfl ⟨Nat.le_of_ble_eq_true rfl, Nat.le_of_ble_eq_true rfl⟩ rfl hl.1 rfl (Nat.le_of_ble_eq_true rfl) dL_law_201 (fun r2 u2 H locs hw2 hPM hPX hD hS => ?_)
      refine lv_icmp_eq (tgt := 430) hx hb dL_law_204 (by decide) (fun c9 => ?_) (fun c9 => absurd (Eq.trans hw1 (Eq.symm hw2)) c9)
      refine lv_iinc (v := nI (i + 5)) (lv' := [(3, .int (nI (i + 5))), (0, .ref b), (1, .ref (ax 0)), (2, .ref (am 0))]) hx hb dL_law_430 hl (k := 3) rfl (cu_inc5 _) (by decide) rfl (fun ls hl => ?_)
      refine lv_goto (tgt := 18) hx hb dL_law_433 (by decide) ?_
      exact ih (i + 5, (n, tip, und, P, lev, own, amt, s1, s2), wu, tk) _ _ _ ⟨hPX, hPM, cu_Dswap hD, hS, lv_sub hl [1, 2, 3, 0] rfl, ⟨h, ht⟩, by omega⟩ (show L + 6 - (i + 5) < L + 6 - i by omega)
    · refine lv_tableIn (off := 177) (tgt := 209) hx hb dL_law_32 (by decide) (by decide) (by decide) (by decide) ?_
      refine lv_aload_n hx hb dL_law_209 rfl (lv_at hl 1 rfl) ?_
      refine cu_lawi (As := []) (rest := []) (mX_tip l D ax cB cI cL H.size n tip und P lev own amt s1 s2 wu  h ht) ⟨hx, hb, hml, hown, hts⟩ (cwV 0 hts (lw_V q119 q120 q121 q18 q122) rfl rfl rfl (by decide +kernel) ⟨Nat.le_of_ble_eq_true rfl, Nat.le_of_ble_eq_true rfl⟩) hKX hPX hPM hD hS hA (ci := 0) rfl rfl ⟨Nat.le_of_ble_eq_true rfl, Nat.le_of_ble_eq_true rfl⟩ rfl hl.1 rfl (Nat.le_of_ble_eq_true rfl) dL_law_210 (fun r1 u1 H locs hw1 hPX hPM hD hS => ?_)
      refine lv_aload_n hx hb dL_law_213 rfl (lv_at hl 2 rfl) ?_
      refine cu_lawi (As := []) (rest := [.int r1]) (mM_tip l D am cI2 cZ H.size n tip und P lev own amt s1 s2 tk  h ht) ⟨hx, hb, hml, hown, hts⟩ (cwV 0 hts (lw_V q234 q235 q236 q19 q237) rfl rfl rfl (by decide +kernel) ⟨Nat.le_of_ble_eq_true rfl, Nat.le_of_ble_eq_true rfl⟩) hKM hPM hPX (cu_Dswap hD) hS hA (ci := 1) rfl rfl ⟨Nat.le_of_ble_eq_true rfl, Nat.le_of_ble_eq_true rfl⟩ rfl hl.1 rfl (Nat.le_of_ble_eq_true rfl) dL_law_214 (fun r2 u2 H locs hw2 hPM hPX hD hS => ?_)
      refine lv_icmp_eq (tgt := 430) hx hb dL_law_217 (by decide) (fun c9 => ?_) (fun c9 => absurd (Eq.trans hw1 (Eq.symm hw2)) c9)
      refine lv_iinc (v := nI (i + 5)) (lv' := [(3, .int (nI (i + 5))), (0, .ref b), (1, .ref (ax 0)), (2, .ref (am 0))]) hx hb dL_law_430 hl (k := 3) rfl (cu_inc5 _) (by decide) rfl (fun ls hl => ?_)
      refine lv_goto (tgt := 18) hx hb dL_law_433 (by decide) ?_
      exact ih (i + 5, (n, tip, und, P, lev, own, amt, s1, s2), wu, tk) _ _ _ ⟨hPX, hPM, cu_Dswap hD, hS, lv_sub hl [1, 2, 3, 0] rfl, ⟨h, ht⟩, by omega⟩ (show L + 6 - (i + 5) < L + 6 - i by omega)
    · refine lv_tableIn (off := 190) (tgt := 222) hx hb dL_law_32 (by decide) (by decide) (by decide) (by decide) ?_
      refine lv_aload_n hx hb dL_law_222 rfl (lv_at hl 1 rfl) ?_
      refine lv_aload_n hx hb dL_law_223 rfl (lv_at hl 0 rfl) ?_
      refine lv_iload_n hx hb dL_law_224 rfl (lv_at hl 3 rfl) ?_
      refine lv_iconst (v := nI 1) hx hb dL_law_225 (by decide) ?_
      refine lv_iadd hx hb dL_law_226 ?_
      refine cu_top (y := nI (i + 1)) (nI_add _ _) ?_
      refine cu_sld hx hb hX hbl hbA hS (i + 1) (by omega) (by omega) dL_law_227 ?_
      refine cu_lawi (As := [.int (xs (i + 1))]) (rest := []) (mX_height l D ax cB cI cL H.size n tip und P lev own amt s1 s2 wu (xs (i + 1)) h ht) ⟨hx, hb, hml, hown, hts⟩ (cwV 1 hts (lw_V q123 q124 q125 q18 q126) rfl rfl rfl (by decide +kernel) ⟨Nat.le_of_ble_eq_true rfl, Nat.le_of_ble_eq_true rfl⟩) hKX hPX hPM hD hS hA (ci := 0) rfl rfl ⟨Nat.le_of_ble_eq_true rfl, Nat.le_of_ble_eq_true rfl⟩ rfl hl.1 rfl (Nat.le_of_ble_eq_true rfl) dL_law_228 (fun r1 u1 H locs hw1 hPX hPM hD hS => ?_)
      refine lv_aload_n hx hb dL_law_231 rfl (lv_at hl 2 rfl) ?_
      refine lv_aload_n hx hb dL_law_232 rfl (lv_at hl 0 rfl) ?_
      refine lv_iload_n hx hb dL_law_233 rfl (lv_at hl 3 rfl) ?_
      refine lv_iconst (v := nI 1) hx hb dL_law_234 (by decide) ?_
      refine lv_iadd hx hb dL_law_235 ?_
      refine cu_top (y := nI (i + 1)) (nI_add _ _) ?_
      refine cu_sld hx hb hX hbl hbA hS (i + 1) (by omega) (by omega) dL_law_236 ?_
      refine cu_lawi (As := [.int (xs (i + 1))]) (rest := [.int r1]) (mM_height l D am cI2 cZ H.size n tip und P lev own amt s1 s2 tk (xs (i + 1)) h ht) ⟨hx, hb, hml, hown, hts⟩ (cwV 1 hts (lw_V q238 q239 q240 q19 q241) rfl rfl rfl (by decide +kernel) ⟨Nat.le_of_ble_eq_true rfl, Nat.le_of_ble_eq_true rfl⟩) hKM hPM hPX (cu_Dswap hD) hS hA (ci := 1) rfl rfl ⟨Nat.le_of_ble_eq_true rfl, Nat.le_of_ble_eq_true rfl⟩ rfl hl.1 rfl (Nat.le_of_ble_eq_true rfl) dL_law_237 (fun r2 u2 H locs hw2 hPM hPX hD hS => ?_)
      refine lv_icmp_eq (tgt := 430) hx hb dL_law_240 (by decide) (fun c9 => ?_) (fun c9 => absurd (Eq.trans hw1 (Eq.symm hw2)) c9)
      refine lv_iinc (v := nI (i + 5)) (lv' := [(3, .int (nI (i + 5))), (0, .ref b), (1, .ref (ax 0)), (2, .ref (am 0))]) hx hb dL_law_430 hl (k := 3) rfl (cu_inc5 _) (by decide) rfl (fun ls hl => ?_)
      refine lv_goto (tgt := 18) hx hb dL_law_433 (by decide) ?_
      exact ih (i + 5, (n, tip, und, P, lev, own, amt, s1, s2), wu, tk) _ _ _ ⟨hPX, hPM, cu_Dswap hD, hS, lv_sub hl [1, 2, 3, 0] rfl, ⟨h, ht⟩, by omega⟩ (show L + 6 - (i + 5) < L + 6 - i by omega)
    · refine lv_tableIn (off := 213) (tgt := 245) hx hb dL_law_32 (by decide) (by decide) (by decide) (by decide) ?_
      refine lv_aload_n hx hb dL_law_245 rfl (lv_at hl 1 rfl) ?_
      refine lv_aload_n hx hb dL_law_246 rfl (lv_at hl 0 rfl) ?_
      refine lv_iload_n hx hb dL_law_247 rfl (lv_at hl 3 rfl) ?_
      refine lv_iconst (v := nI 1) hx hb dL_law_248 (by decide) ?_
      refine lv_iadd hx hb dL_law_249 ?_
      refine cu_top (y := nI (i + 1)) (nI_add _ _) ?_
      refine cu_sld hx hb hX hbl hbA hS (i + 1) (by omega) (by omega) dL_law_250 ?_
      refine cu_lawi (As := [.int (xs (i + 1))]) (rest := []) (mX_unspent l D ax cB cI cL H.size n tip und P lev own amt s1 s2 wu (xs (i + 1)) h ht) ⟨hx, hb, hml, hown, hts⟩ (cwV 1 hts (lw_V q127 q128 q129 q18 q130) rfl rfl rfl (by decide +kernel) ⟨Nat.le_of_ble_eq_true rfl, Nat.le_of_ble_eq_true rfl⟩) hKX hPX hPM hD hS hA (ci := 0) rfl rfl ⟨Nat.le_of_ble_eq_true rfl, Nat.le_of_ble_eq_true rfl⟩ rfl hl.1 rfl (Nat.le_of_ble_eq_true rfl) dL_law_251 (fun r1 u1 H locs hw1 hPX hPM hD hS => ?_)
      refine lv_aload_n hx hb dL_law_254 rfl (lv_at hl 2 rfl) ?_
      refine lv_aload_n hx hb dL_law_255 rfl (lv_at hl 0 rfl) ?_
      refine lv_iload_n hx hb dL_law_256 rfl (lv_at hl 3 rfl) ?_
      refine lv_iconst (v := nI 1) hx hb dL_law_257 (by decide) ?_
      refine lv_iadd hx hb dL_law_258 ?_
      refine cu_top (y := nI (i + 1)) (nI_add _ _) ?_
      refine cu_sld hx hb hX hbl hbA hS (i + 1) (by omega) (by omega) dL_law_259 ?_
      refine cu_lawi (As := [.int (xs (i + 1))]) (rest := [.int r1]) (mM_unspent l D am cI2 cZ H.size n tip und P lev own amt s1 s2 tk (xs (i + 1)) h ht) ⟨hx, hb, hml, hown, hts⟩ (cwV 1 hts (lw_V q242 q243 q244 q19 q245) rfl rfl rfl (by decide +kernel) ⟨Nat.le_of_ble_eq_true rfl, Nat.le_of_ble_eq_true rfl⟩) hKM hPM hPX (cu_Dswap hD) hS hA (ci := 1) rfl rfl ⟨Nat.le_of_ble_eq_true rfl, Nat.le_of_ble_eq_true rfl⟩ rfl hl.1 rfl (Nat.le_of_ble_eq_true rfl) dL_law_260 (fun r2 u2 H locs hw2 hPM hPX hD hS => ?_)
      refine lv_icmp_eq (tgt := 430) hx hb dL_law_263 (by decide) (fun c9 => ?_) (fun c9 => absurd (Eq.trans hw1 (Eq.symm hw2)) c9)
      refine lv_iinc (v := nI (i + 5)) (lv' := [(3, .int (nI (i + 5))), (0, .ref b), (1, .ref (ax 0)), (2, .ref (am 0))]) hx hb dL_law_430 hl (k := 3) rfl (cu_inc5 _) (by decide) rfl (fun ls hl => ?_)
      refine lv_goto (tgt := 18) hx hb dL_law_433 (by decide) ?_
      exact ih (i + 5, (n, tip, und, P, lev, own, amt, s1, s2), wu, tk) _ _ _ ⟨hPX, hPM, cu_Dswap hD, hS, lv_sub hl [1, 2, 3, 0] rfl, ⟨h, ht⟩, by omega⟩ (show L + 6 - (i + 5) < L + 6 - i by omega)
    · refine lv_tableIn (off := 236) (tgt := 268) hx hb dL_law_32 (by decide) (by decide) (by decide) (by decide) ?_
      refine lv_aload_n hx hb dL_law_268 rfl (lv_at hl 1 rfl) ?_
      refine lv_aload_n hx hb dL_law_269 rfl (lv_at hl 0 rfl) ?_
      refine lv_iload_n hx hb dL_law_270 rfl (lv_at hl 3 rfl) ?_
      refine lv_iconst (v := nI 1) hx hb dL_law_271 (by decide) ?_
      refine lv_iadd hx hb dL_law_272 ?_
      refine cu_top (y := nI (i + 1)) (nI_add _ _) ?_
      refine cu_sld hx hb hX hbl hbA hS (i + 1) (by omega) (by omega) dL_law_273 ?_
      refine cu_lawi (As := [.int (xs (i + 1))]) (rest := []) (mX_amount l D ax cB cI cL H.size n tip und P lev own amt s1 s2 wu (xs (i + 1)) h ht) ⟨hx, hb, hml, hown, hts⟩ (cwV 1 hts (lw_V q131 q132 q133 q18 q134) rfl rfl rfl (by decide +kernel) ⟨Nat.le_of_ble_eq_true rfl, Nat.le_of_ble_eq_true rfl⟩) hKX hPX hPM hD hS hA (ci := 0) rfl rfl ⟨Nat.le_of_ble_eq_true rfl, Nat.le_of_ble_eq_true rfl⟩ rfl hl.1 rfl (Nat.le_of_ble_eq_true rfl) dL_law_274 (fun r1 u1 H locs hw1 hPX hPM hD hS => ?_)
      refine lv_aload_n hx hb dL_law_277 rfl (lv_at hl 2 rfl) ?_
      refine lv_aload_n hx hb dL_law_278 rfl (lv_at hl 0 rfl) ?_
      refine lv_iload_n hx hb dL_law_279 rfl (lv_at hl 3 rfl) ?_
      refine lv_iconst (v := nI 1) hx hb dL_law_280 (by decide) ?_
      refine lv_iadd hx hb dL_law_281 ?_
      refine cu_top (y := nI (i + 1)) (nI_add _ _) ?_
      refine cu_sld hx hb hX hbl hbA hS (i + 1) (by omega) (by omega) dL_law_282 ?_
      refine cu_lawi (As := [.int (xs (i + 1))]) (rest := [.int r1]) (mM_amount l D am cI2 cZ H.size n tip und P lev own amt s1 s2 tk (xs (i + 1)) h ht) ⟨hx, hb, hml, hown, hts⟩ (cwV 1 hts (lw_V q246 q247 q248 q19 q249) rfl rfl rfl (by decide +kernel) ⟨Nat.le_of_ble_eq_true rfl, Nat.le_of_ble_eq_true rfl⟩) hKM hPM hPX (cu_Dswap hD) hS hA (ci := 1) rfl rfl ⟨Nat.le_of_ble_eq_true rfl, Nat.le_of_ble_eq_true rfl⟩ rfl hl.1 rfl (Nat.le_of_ble_eq_true rfl) dL_law_283 (fun r2 u2 H locs hw2 hPM hPX hD hS => ?_)
      refine lv_icmp_eq (tgt := 430) hx hb dL_law_286 (by decide) (fun c9 => ?_) (fun c9 => absurd (Eq.trans hw1 (Eq.symm hw2)) c9)
      refine lv_iinc (v := nI (i + 5)) (lv' := [(3, .int (nI (i + 5))), (0, .ref b), (1, .ref (ax 0)), (2, .ref (am 0))]) hx hb dL_law_430 hl (k := 3) rfl (cu_inc5 _) (by decide) rfl (fun ls hl => ?_)
      refine lv_goto (tgt := 18) hx hb dL_law_433 (by decide) ?_
      exact ih (i + 5, (n, tip, und, P, lev, own, amt, s1, s2), wu, tk) _ _ _ ⟨hPX, hPM, cu_Dswap hD, hS, lv_sub hl [1, 2, 3, 0] rfl, ⟨h, ht⟩, by omega⟩ (show L + 6 - (i + 5) < L + 6 - i by omega)
    · refine lv_tableIn (off := 259) (tgt := 291) hx hb dL_law_32 (by decide) (by decide) (by decide) (by decide) ?_
      refine lv_aload_n hx hb dL_law_291 rfl (lv_at hl 1 rfl) ?_
      refine lv_aload_n hx hb dL_law_292 rfl (lv_at hl 0 rfl) ?_
      refine lv_iload_n hx hb dL_law_293 rfl (lv_at hl 3 rfl) ?_
      refine lv_iconst (v := nI 1) hx hb dL_law_294 (by decide) ?_
      refine lv_iadd hx hb dL_law_295 ?_
      refine cu_top (y := nI (i + 1)) (nI_add _ _) ?_
      refine cu_sld hx hb hX hbl hbA hS (i + 1) (by omega) (by omega) dL_law_296 ?_
      refine cu_lawl (As := [.int (xs (i + 1))]) (rest := []) (mX_balance l D ax cB cI cL H.size n tip und P lev own amt s1 s2 wu (xs (i + 1)) h ht) ⟨hx, hb, hml, hown, hts⟩ (cwV 1 hts (lw_V q135 q136 q137 q18 q138) rfl rfl rfl (by decide +kernel) ⟨Nat.le_of_ble_eq_true rfl, Nat.le_of_ble_eq_true rfl⟩) hKX hPX hPM hD hS hA (ci := 0) rfl rfl ⟨Nat.le_of_ble_eq_true rfl, Nat.le_of_ble_eq_true rfl⟩ rfl hl.1 rfl (Nat.le_of_ble_eq_true rfl) dL_law_297 (fun r1 u1 H locs hw1 hPX hPM hD hS => ?_)
      refine lv_aload_n hx hb dL_law_300 rfl (lv_at hl 2 rfl) ?_
      refine lv_aload_n hx hb dL_law_301 rfl (lv_at hl 0 rfl) ?_
      refine lv_iload_n hx hb dL_law_302 rfl (lv_at hl 3 rfl) ?_
      refine lv_iconst (v := nI 1) hx hb dL_law_303 (by decide) ?_
      refine lv_iadd hx hb dL_law_304 ?_
      refine cu_top (y := nI (i + 1)) (nI_add _ _) ?_
      refine cu_sld hx hb hX hbl hbA hS (i + 1) (by omega) (by omega) dL_law_305 ?_
      refine cu_lawl (As := [.int (xs (i + 1))]) (rest := [.long r1]) (mM_balance l D am cI2 cZ H.size n tip und P lev own amt s1 s2 tk (xs (i + 1)) h ht) ⟨hx, hb, hml, hown, hts⟩ (cwV 1 hts (lw_V q250 q251 q252 q19 q253) rfl rfl rfl (by decide +kernel) ⟨Nat.le_of_ble_eq_true rfl, Nat.le_of_ble_eq_true rfl⟩) hKM hPM hPX (cu_Dswap hD) hS hA (ci := 1) rfl rfl ⟨Nat.le_of_ble_eq_true rfl, Nat.le_of_ble_eq_true rfl⟩ rfl hl.1 rfl (Nat.le_of_ble_eq_true rfl) dL_law_306 (fun r2 u2 H locs hw2 hPM hPX hD hS => ?_)
      refine W.lcmp hx hb dL_law_309 ?_
      refine lv_if_eq (tgt := 430) hx hb dL_law_310 (by decide) (fun c9 => ?_) (fun c9 => absurd ((lg_cmp_eq _ _).mpr (Eq.trans hw1 (Eq.symm hw2))) c9)
      refine lv_iinc (v := nI (i + 5)) (lv' := [(3, .int (nI (i + 5))), (0, .ref b), (1, .ref (ax 0)), (2, .ref (am 0))]) hx hb dL_law_430 hl (k := 3) rfl (cu_inc5 _) (by decide) rfl (fun ls hl => ?_)
      refine lv_goto (tgt := 18) hx hb dL_law_433 (by decide) ?_
      exact ih (i + 5, (n, tip, und, P, lev, own, amt, s1, s2), wu, tk) _ _ _ ⟨hPX, hPM, cu_Dswap hD, hS, lv_sub hl [1, 2, 3, 0] rfl, ⟨h, ht⟩, by omega⟩ (show L + 6 - (i + 5) < L + 6 - i by omega)
    · refine lv_tableIn (off := 283) (tgt := 315) hx hb dL_law_32 (by decide) (by decide) (by decide) (by decide) ?_
      refine lv_aload_n hx hb dL_law_315 rfl (lv_at hl 1 rfl) ?_
      refine cu_lawi (As := []) (rest := []) (mX_coins l D ax cB cI cL H.size n tip und P lev own amt s1 s2 wu  h ht) ⟨hx, hb, hml, hown, hts⟩ (cwV 0 hts (lw_V q139 q140 q141 q18 q142) rfl rfl rfl (by decide +kernel) ⟨Nat.le_of_ble_eq_true rfl, Nat.le_of_ble_eq_true rfl⟩) hKX hPX hPM hD hS hA (ci := 0) rfl rfl ⟨Nat.le_of_ble_eq_true rfl, Nat.le_of_ble_eq_true rfl⟩ rfl hl.1 rfl (Nat.le_of_ble_eq_true rfl) dL_law_316 (fun r1 u1 H locs hw1 hPX hPM hD hS => ?_)
      refine lv_aload_n hx hb dL_law_319 rfl (lv_at hl 2 rfl) ?_
      refine cu_lawi (As := []) (rest := [.int r1]) (mM_coins l D am cI2 cZ H.size n tip und P lev own amt s1 s2 tk  h ht) ⟨hx, hb, hml, hown, hts⟩ (cwV 0 hts (lw_V q254 q255 q256 q19 q257) rfl rfl rfl (by decide +kernel) ⟨Nat.le_of_ble_eq_true rfl, Nat.le_of_ble_eq_true rfl⟩) hKM hPM hPX (cu_Dswap hD) hS hA (ci := 1) rfl rfl ⟨Nat.le_of_ble_eq_true rfl, Nat.le_of_ble_eq_true rfl⟩ rfl hl.1 rfl (Nat.le_of_ble_eq_true rfl) dL_law_320 (fun r2 u2 H locs hw2 hPM hPX hD hS => ?_)
      refine lv_icmp_eq (tgt := 430) hx hb dL_law_323 (by decide) (fun c9 => ?_) (fun c9 => absurd (Eq.trans hw1 (Eq.symm hw2)) c9)
      refine lv_iinc (v := nI (i + 5)) (lv' := [(3, .int (nI (i + 5))), (0, .ref b), (1, .ref (ax 0)), (2, .ref (am 0))]) hx hb dL_law_430 hl (k := 3) rfl (cu_inc5 _) (by decide) rfl (fun ls hl => ?_)
      refine lv_goto (tgt := 18) hx hb dL_law_433 (by decide) ?_
      exact ih (i + 5, (n, tip, und, P, lev, own, amt, s1, s2), wu, tk) _ _ _ ⟨hPX, hPM, cu_Dswap hD, hS, lv_sub hl [1, 2, 3, 0] rfl, ⟨h, ht⟩, by omega⟩ (show L + 6 - (i + 5) < L + 6 - i by omega)
    · refine lv_tableIn (off := 296) (tgt := 328) hx hb dL_law_32 (by decide) (by decide) (by decide) (by decide) ?_
      refine lv_aload_n hx hb dL_law_328 rfl (lv_at hl 1 rfl) ?_
      refine lv_aload_n hx hb dL_law_329 rfl (lv_at hl 0 rfl) ?_
      refine lv_iload_n hx hb dL_law_330 rfl (lv_at hl 3 rfl) ?_
      refine lv_iconst (v := nI 1) hx hb dL_law_331 (by decide) ?_
      refine lv_iadd hx hb dL_law_332 ?_
      refine cu_top (y := nI (i + 1)) (nI_add _ _) ?_
      refine cu_sld hx hb hX hbl hbA hS (i + 1) (by omega) (by omega) dL_law_333 ?_
      refine lv_aload_n hx hb dL_law_334 rfl (lv_at hl 0 rfl) ?_
      refine lv_iload_n hx hb dL_law_335 rfl (lv_at hl 3 rfl) ?_
      refine lv_iconst (v := nI 2) hx hb dL_law_336 (by decide) ?_
      refine lv_iadd hx hb dL_law_337 ?_
      refine cu_top (y := nI (i + 2)) (nI_add _ _) ?_
      refine cu_sld hx hb hX hbl hbA hS (i + 2) (by omega) (by omega) dL_law_338 ?_
      refine cu_lawi (As := [.int (xs (i + 1)), .int (xs (i + 2))]) (rest := []) (mX_meeting l D ax cB cI cL H.size n tip und P lev own amt s1 s2 wu (xs (i + 1)) (xs (i + 2)) h ht) ⟨hx, hb, hml, hown, hts⟩ (cwV 2 hts (lw_V q143 q144 q145 q18 q146) rfl rfl rfl (by decide +kernel) ⟨Nat.le_of_ble_eq_true rfl, Nat.le_of_ble_eq_true rfl⟩) hKX hPX hPM hD hS hA (ci := 0) rfl rfl ⟨Nat.le_of_ble_eq_true rfl, Nat.le_of_ble_eq_true rfl⟩ rfl hl.1 rfl (Nat.le_of_ble_eq_true rfl) dL_law_339 (fun r1 u1 H locs hw1 hPX hPM hD hS => ?_)
      refine lv_aload_n hx hb dL_law_342 rfl (lv_at hl 2 rfl) ?_
      refine lv_aload_n hx hb dL_law_343 rfl (lv_at hl 0 rfl) ?_
      refine lv_iload_n hx hb dL_law_344 rfl (lv_at hl 3 rfl) ?_
      refine lv_iconst (v := nI 1) hx hb dL_law_345 (by decide) ?_
      refine lv_iadd hx hb dL_law_346 ?_
      refine cu_top (y := nI (i + 1)) (nI_add _ _) ?_
      refine cu_sld hx hb hX hbl hbA hS (i + 1) (by omega) (by omega) dL_law_347 ?_
      refine lv_aload_n hx hb dL_law_348 rfl (lv_at hl 0 rfl) ?_
      refine lv_iload_n hx hb dL_law_349 rfl (lv_at hl 3 rfl) ?_
      refine lv_iconst (v := nI 2) hx hb dL_law_350 (by decide) ?_
      refine lv_iadd hx hb dL_law_351 ?_
      refine cu_top (y := nI (i + 2)) (nI_add _ _) ?_
      refine cu_sld hx hb hX hbl hbA hS (i + 2) (by omega) (by omega) dL_law_352 ?_
      refine cu_lawi (As := [.int (xs (i + 1)), .int (xs (i + 2))]) (rest := [.int r1]) (mM_meeting l D am cI2 cZ H.size n tip und P lev own amt s1 s2 tk (xs (i + 1)) (xs (i + 2)) h ht) ⟨hx, hb, hml, hown, hts⟩ (cwV 2 hts (lw_V q258 q259 q260 q19 q261) rfl rfl rfl (by decide +kernel) ⟨Nat.le_of_ble_eq_true rfl, Nat.le_of_ble_eq_true rfl⟩) hKM hPM hPX (cu_Dswap hD) hS hA (ci := 1) rfl rfl ⟨Nat.le_of_ble_eq_true rfl, Nat.le_of_ble_eq_true rfl⟩ rfl hl.1 rfl (Nat.le_of_ble_eq_true rfl) dL_law_353 (fun r2 u2 H locs hw2 hPM hPX hD hS => ?_)
      refine lv_icmp_eq (tgt := 430) hx hb dL_law_356 (by decide) (fun c9 => ?_) (fun c9 => absurd (Eq.trans hw1 (Eq.symm hw2)) c9)
      refine lv_iinc (v := nI (i + 5)) (lv' := [(3, .int (nI (i + 5))), (0, .ref b), (1, .ref (ax 0)), (2, .ref (am 0))]) hx hb dL_law_430 hl (k := 3) rfl (cu_inc5 _) (by decide) rfl (fun ls hl => ?_)
      refine lv_goto (tgt := 18) hx hb dL_law_433 (by decide) ?_
      exact ih (i + 5, (n, tip, und, P, lev, own, amt, s1, s2), wu, tk) _ _ _ ⟨hPX, hPM, cu_Dswap hD, hS, lv_sub hl [1, 2, 3, 0] rfl, ⟨h, ht⟩, by omega⟩ (show L + 6 - (i + 5) < L + 6 - i by omega)
    · refine lv_tableIn (off := 329) (tgt := 361) hx hb dL_law_32 (by decide) (by decide) (by decide) (by decide) ?_
      refine lv_aload_n hx hb dL_law_361 rfl (lv_at hl 1 rfl) ?_
      refine cu_lawi (As := []) (rest := []) (mX_undone l D ax cB cI cL H.size n tip und P lev own amt s1 s2 wu  h ht) ⟨hx, hb, hml, hown, hts⟩ (cwV 0 hts (lw_V q147 q148 q149 q18 q150) rfl rfl rfl (by decide +kernel) ⟨Nat.le_of_ble_eq_true rfl, Nat.le_of_ble_eq_true rfl⟩) hKX hPX hPM hD hS hA (ci := 0) rfl rfl ⟨Nat.le_of_ble_eq_true rfl, Nat.le_of_ble_eq_true rfl⟩ rfl hl.1 rfl (Nat.le_of_ble_eq_true rfl) dL_law_362 (fun r1 u1 H locs hw1 hPX hPM hD hS => ?_)
      refine lv_aload_n hx hb dL_law_365 rfl (lv_at hl 2 rfl) ?_
      refine cu_lawi (As := []) (rest := [.int r1]) (mM_undone l D am cI2 cZ H.size n tip und P lev own amt s1 s2 tk  h ht) ⟨hx, hb, hml, hown, hts⟩ (cwV 0 hts (lw_V q262 q263 q264 q19 q265) rfl rfl rfl (by decide +kernel) ⟨Nat.le_of_ble_eq_true rfl, Nat.le_of_ble_eq_true rfl⟩) hKM hPM hPX (cu_Dswap hD) hS hA (ci := 1) rfl rfl ⟨Nat.le_of_ble_eq_true rfl, Nat.le_of_ble_eq_true rfl⟩ rfl hl.1 rfl (Nat.le_of_ble_eq_true rfl) dL_law_366 (fun r2 u2 H locs hw2 hPM hPX hD hS => ?_)
      refine lv_icmp_eq (tgt := 430) hx hb dL_law_369 (by decide) (fun c9 => ?_) (fun c9 => absurd (Eq.trans hw1 (Eq.symm hw2)) c9)
      refine lv_iinc (v := nI (i + 5)) (lv' := [(3, .int (nI (i + 5))), (0, .ref b), (1, .ref (ax 0)), (2, .ref (am 0))]) hx hb dL_law_430 hl (k := 3) rfl (cu_inc5 _) (by decide) rfl (fun ls hl => ?_)
      refine lv_goto (tgt := 18) hx hb dL_law_433 (by decide) ?_
      exact ih (i + 5, (n, tip, und, P, lev, own, amt, s1, s2), wu, tk) _ _ _ ⟨hPX, hPM, cu_Dswap hD, hS, lv_sub hl [1, 2, 3, 0] rfl, ⟨h, ht⟩, by omega⟩ (show L + 6 - (i + 5) < L + 6 - i by omega)
    · refine lv_tableIn (off := 342) (tgt := 374) hx hb dL_law_32 (by decide) (by decide) (by decide) (by decide) ?_
      refine lv_aload_n hx hb dL_law_374 rfl (lv_at hl 1 rfl) ?_
      refine lv_aload_n hx hb dL_law_375 rfl (lv_at hl 0 rfl) ?_
      refine lv_iload_n hx hb dL_law_376 rfl (lv_at hl 3 rfl) ?_
      refine lv_iconst (v := nI 1) hx hb dL_law_377 (by decide) ?_
      refine lv_iadd hx hb dL_law_378 ?_
      refine cu_top (y := nI (i + 1)) (nI_add _ _) ?_
      refine cu_sld hx hb hX hbl hbA hS (i + 1) (by omega) (by omega) dL_law_379 ?_
      refine lv_aload_n hx hb dL_law_380 rfl (lv_at hl 0 rfl) ?_
      refine lv_iload_n hx hb dL_law_381 rfl (lv_at hl 3 rfl) ?_
      refine lv_iconst (v := nI 2) hx hb dL_law_382 (by decide) ?_
      refine lv_iadd hx hb dL_law_383 ?_
      refine cu_top (y := nI (i + 2)) (nI_add _ _) ?_
      refine cu_sld hx hb hX hbl hbA hS (i + 2) (by omega) (by omega) dL_law_384 ?_
      refine cu_lawi (As := [.int (xs (i + 1)), .int (xs (i + 2))]) (rest := []) (mX_fewestFor l D ax cB cI cL H.size n tip und P lev own amt s1 s2 wu (xs (i + 1)) (xs (i + 2)) h ht) ⟨hx, hb, hml, hown, hts⟩ (cwV 2 hts (lw_V q151 q152 q153 q18 q154) rfl rfl rfl (by decide +kernel) ⟨Nat.le_of_ble_eq_true rfl, Nat.le_of_ble_eq_true rfl⟩) hKX hPX hPM hD hS hA (ci := 0) rfl rfl ⟨Nat.le_of_ble_eq_true rfl, Nat.le_of_ble_eq_true rfl⟩ rfl hl.1 rfl (Nat.le_of_ble_eq_true rfl) dL_law_385 (fun r1 u1 H locs hw1 hPX hPM hD hS => ?_)
      refine lv_aload_n hx hb dL_law_388 rfl (lv_at hl 2 rfl) ?_
      refine lv_aload_n hx hb dL_law_389 rfl (lv_at hl 0 rfl) ?_
      refine lv_iload_n hx hb dL_law_390 rfl (lv_at hl 3 rfl) ?_
      refine lv_iconst (v := nI 1) hx hb dL_law_391 (by decide) ?_
      refine lv_iadd hx hb dL_law_392 ?_
      refine cu_top (y := nI (i + 1)) (nI_add _ _) ?_
      refine cu_sld hx hb hX hbl hbA hS (i + 1) (by omega) (by omega) dL_law_393 ?_
      refine lv_aload_n hx hb dL_law_394 rfl (lv_at hl 0 rfl) ?_
      refine lv_iload_n hx hb dL_law_395 rfl (lv_at hl 3 rfl) ?_
      refine lv_iconst (v := nI 2) hx hb dL_law_396 (by decide) ?_
      refine lv_iadd hx hb dL_law_397 ?_
      refine cu_top (y := nI (i + 2)) (nI_add _ _) ?_
      refine cu_sld hx hb hX hbl hbA hS (i + 2) (by omega) (by omega) dL_law_398 ?_
      refine cu_lawi (As := [.int (xs (i + 1)), .int (xs (i + 2))]) (rest := [.int r1]) (mM_fewestFor l D am cI2 cZ H.size n tip und P lev own amt s1 s2 tk (xs (i + 1)) (xs (i + 2)) h ht) ⟨hx, hb, hml, hown, hts⟩ (cwV 2 hts (lw_V q266 q267 q268 q19 q269) rfl rfl rfl (by decide +kernel) ⟨Nat.le_of_ble_eq_true rfl, Nat.le_of_ble_eq_true rfl⟩) hKM hPM hPX (cu_Dswap hD) hS hA (ci := 1) rfl rfl ⟨Nat.le_of_ble_eq_true rfl, Nat.le_of_ble_eq_true rfl⟩ rfl hl.1 rfl (Nat.le_of_ble_eq_true rfl) dL_law_399 (fun r2 tk1 H locs hw2 hPM hPX hD hS => ?_)
      refine lv_icmp_eq (tgt := 430) hx hb dL_law_402 (by decide) (fun c9 => ?_) (fun c9 => absurd (Eq.trans hw1 (Eq.symm hw2)) c9)
      refine lv_iinc (v := nI (i + 5)) (lv' := [(3, .int (nI (i + 5))), (0, .ref b), (1, .ref (ax 0)), (2, .ref (am 0))]) hx hb dL_law_430 hl (k := 3) rfl (cu_inc5 _) (by decide) rfl (fun ls hl => ?_)
      refine lv_goto (tgt := 18) hx hb dL_law_433 (by decide) ?_
      exact ih (i + 5, (n, tip, und, P, lev, own, amt, s1, s2), wu, tk1) _ _ _ ⟨hPX, hPM, cu_Dswap hD, hS, lv_sub hl [1, 2, 3, 0] rfl, ⟨h, ht⟩, by omega⟩ (show L + 6 - (i + 5) < L + 6 - i by omega)
    · refine lv_tableIn (off := 375) (tgt := 407) hx hb dL_law_32 (by decide) (by decide) (by decide) (by decide) ?_
      refine lv_aload_n hx hb dL_law_407 rfl (lv_at hl 1 rfl) ?_
      refine lv_aload_n hx hb dL_law_408 rfl (lv_at hl 0 rfl) ?_
      refine lv_iload_n hx hb dL_law_409 rfl (lv_at hl 3 rfl) ?_
      refine lv_iconst (v := nI 1) hx hb dL_law_410 (by decide) ?_
      refine lv_iadd hx hb dL_law_411 ?_
      refine cu_top (y := nI (i + 1)) (nI_add _ _) ?_
      refine cu_sld hx hb hX hbl hbA hS (i + 1) (by omega) (by omega) dL_law_412 ?_
      refine cu_lawi (As := [.int (xs (i + 1))]) (rest := []) (mX_forget l D ax cB cI cL H.size n tip und P lev own amt s1 s2 wu (xs (i + 1)) h ht) ⟨hx, hb, hml, hown, hts⟩ (cwV 1 hts (lw_V q159 q160 q161 q18 q162) rfl rfl rfl (by decide +kernel) ⟨Nat.le_of_ble_eq_true rfl, Nat.le_of_ble_eq_true rfl⟩) hKX hPX hPM hD hS hA (ci := 0) rfl rfl ⟨Nat.le_of_ble_eq_true rfl, Nat.le_of_ble_eq_true rfl⟩ rfl hl.1 rfl (Nat.le_of_ble_eq_true rfl) dL_law_413 (fun r1 wu1 H locs hw1 hPX hPM hD hS => ?_)
      refine lv_aload_n hx hb dL_law_416 rfl (lv_at hl 2 rfl) ?_
      refine lv_aload_n hx hb dL_law_417 rfl (lv_at hl 0 rfl) ?_
      refine lv_iload_n hx hb dL_law_418 rfl (lv_at hl 3 rfl) ?_
      refine lv_iconst (v := nI 1) hx hb dL_law_419 (by decide) ?_
      refine lv_iadd hx hb dL_law_420 ?_
      refine cu_top (y := nI (i + 1)) (nI_add _ _) ?_
      refine cu_sld hx hb hX hbl hbA hS (i + 1) (by omega) (by omega) dL_law_421 ?_
      refine cu_lawi (As := [.int (xs (i + 1))]) (rest := [.int r1]) (mM_forget l D am cI2 cZ H.size n tip und P lev own amt s1 s2 tk (xs (i + 1)) h ht) ⟨hx, hb, hml, hown, hts⟩ (cwV 1 hts (lw_V q274 q275 q276 q19 q277) rfl rfl rfl (by decide +kernel) ⟨Nat.le_of_ble_eq_true rfl, Nat.le_of_ble_eq_true rfl⟩) hKM hPM hPX (cu_Dswap hD) hS hA (ci := 1) rfl rfl ⟨Nat.le_of_ble_eq_true rfl, Nat.le_of_ble_eq_true rfl⟩ rfl hl.1 rfl (Nat.le_of_ble_eq_true rfl) dL_law_422 (fun r2 u2 H locs hw2 hPM hPX hD hS => ?_)
      refine lv_icmp_eq (tgt := 430) hx hb dL_law_425 (by decide) (fun c9 => ?_) (fun c9 => absurd (Eq.trans hw1 (Eq.symm hw2)) c9)
      refine lv_iinc (v := nI (i + 5)) (lv' := [(3, .int (nI (i + 5))), (0, .ref b), (1, .ref (ax 0)), (2, .ref (am 0))]) hx hb dL_law_430 hl (k := 3) rfl (cu_inc5 _) (by decide) rfl (fun ls hl => ?_)
      refine lv_goto (tgt := 18) hx hb dL_law_433 (by decide) ?_
      exact ih (i + 5, (cu_forget (n, tip, und, P, lev, own, amt, s1, s2) (xs (i + 1))).2, wu1, tk) _ _ _ ⟨hPX, hPM, cu_Dswap hD, hS, lv_sub hl [1, 2, 3, 0] rfl, cu_ok_forget (S := (n, tip, und, P, lev, own, amt, s1, s2)) ⟨h, ht⟩ _, by omega⟩ (show L + 6 - (i + 5) < L + 6 - i by omega)
    · refine lv_tableOut (tgt := 430) hx hb dL_law_32 (by decide) (by decide) ?_
      refine lv_iinc (v := nI (i + 5)) (lv' := [(3, .int (nI (i + 5))), (0, .ref b), (1, .ref (ax 0)), (2, .ref (am 0))]) hx hb dL_law_430 hl (k := 3) rfl (cu_inc5 _) (by decide) rfl (fun ls hl => ?_)
      refine lv_goto (tgt := 18) hx hb dL_law_433 (by decide) ?_
      exact ih (i + 5, (n, tip, und, P, lev, own, amt, s1, s2), wu, tk) _ _ _ ⟨hPX, hPM, hD, hS, lv_sub hl [1, 2, 3, 0] rfl, ⟨h, ht⟩, by omega⟩ (show L + 6 - (i + 5) < L + 6 - i by omega)
    · refine lv_tableOut (tgt := 430) hx hb dL_law_32 (by decide) (by decide) ?_
      refine lv_iinc (v := nI (i + 5)) (lv' := [(3, .int (nI (i + 5))), (0, .ref b), (1, .ref (ax 0)), (2, .ref (am 0))]) hx hb dL_law_430 hl (k := 3) rfl (cu_inc5 _) (by decide) rfl (fun ls hl => ?_)
      refine lv_goto (tgt := 18) hx hb dL_law_433 (by decide) ?_
      exact ih (i + 5, (n, tip, und, P, lev, own, amt, s1, s2), wu, tk) _ _ _ ⟨hPX, hPM, hD, hS, lv_sub hl [1, 2, 3, 0] rfl, ⟨h, ht⟩, by omega⟩ (show L + 6 - (i + 5) < L + 6 - i by omega)
    · refine lv_tableOut (tgt := 430) hx hb dL_law_32 (by decide) (by decide) ?_
      refine lv_iinc (v := nI (i + 5)) (lv' := [(3, .int (nI (i + 5))), (0, .ref b), (1, .ref (ax 0)), (2, .ref (am 0))]) hx hb dL_law_430 hl (k := 3) rfl (cu_inc5 _) (by decide) rfl (fun ls hl => ?_)
      refine lv_goto (tgt := 18) hx hb dL_law_433 (by decide) ?_
      exact ih (i + 5, (n, tip, und, P, lev, own, amt, s1, s2), wu, tk) _ _ _ ⟨hPX, hPM, hD, hS, lv_sub hl [1, 2, 3, 0] rfl, ⟨h, ht⟩, by omega⟩ (show L + 6 - (i + 5) < L + 6 - i by omega)
end
section
/-! the walk from the law's entry: printed by gen/law.py -/
theorem cu_Pr {D : va_G} {cl : List vw_C} {w1 w2 : va_W} {H : Heap} (h : va_P D cl (w1 ++ w2) H) : va_P D cl w2 H := fun k q hk => h (w1.length + k) q (by rw [List.getElem?_append_right (by omega), Nat.add_sub_cancel_left]; exact hk)
theorem cu_Pl {D : va_G} {cl : List vw_C} {w1 w2 : va_W} {H : Heap} (h : va_P D cl (w1 ++ w2) H) : va_P D cl w1 H := fun k q hk => h k q (by rw [List.getElem?_append_left (List.getElem?_eq_some_iff.mp hk).1]; exact hk)
theorem cu_preS {D : va_G} {cl : List vw_C} {tys : List (ClassId × FieldType)} {ws : va_W} {H : Heap} {s : State} {A : Nat → Prop} {av : List Value} (hK : va_K D cl tys s) (hP : va_P D cl ws H) (hD : va_D A ws) : PreS s H (va_Pc av (cu_In D cl tys ws H.size)) av :=
  ⟨cu_blind, fun U hU hW => ⟨rfl, by rw [hU], by rw [hU]; exact hP, va_K.moved hW.alike hK, hD.weaken (fun _ _ _ _ => trivial)⟩⟩
set_option maxHeartbeats 4000000 in
set_option maxRecDepth 100000 in
theorem whole_start {p : Program} {e : Env} {s : State} {m : MethodId} {below : List Frame} {meth : Method} {c : Code} (l : Launch) {b L : Nat} {xs : Nat → Int32} (hL : L ≤ 320) (C0 : lw_At p s m meth c b L xs) : W p l e room_1 s m #[Value.ref b] below meth c s.heap [] 0 0 (lw_Z below #[Value.ref b] s) (entryFrame m ([Value.ref b] : List Value).toArray 4) := by
  obtain ⟨hx, hb, hr, hml, hown, hts0, hX, hbl, hlocks, hgv⟩ := id C0
  have hts : ∀ w ∈ lw_all, w.before #[Value.ref b] s = true := fun w h => hts0 w (lw_all_tbl h)
  have hA : ∀ q : Nat, s.heap.size ≤ q → cu_A s q := fun _ h => h
  obtain ⟨c0_, iS0, hKn0⟩ := u_known (C := RX0) (T := TX0) (N := 13) (n := 13) hts0 (fun w h => lw_all_tbl (in_X0 w h)) (hts0 _ (lw_all_tbl q21))
  obtain ⟨c1_, iS1, hKn1⟩ := u_known (C := RX1) (T := TX1) (N := 9) (n := 9) hts0 (fun w h => lw_all_tbl (in_X1 w h)) (hts0 _ (lw_all_tbl q164))
  obtain ⟨D, hKc⟩ : ∃ D : va_G, ∀ (k : Nat) (q : vw_C), vwCl[k]? = some q → u_Kn s q.1 q.2.1 q.2.2 (D.1 k) (D.2 k) := by
    refine ⟨(fun k => if k = 0 then c0_ else c1_, fun k => if k = 0 then iS0 else iS1), ?_⟩
    intro k q hq
    match k, hq with
    | 0, hq => cases hq; exact hKn0
    | 1, hq => cases hq; exact hKn1
    | k + 2, hq => simp [vwCl] at hq
  have hS : va_S (cu_A s) s.heap s.heap [] := va_S.rf
  have hK : va_K D vwCl [] s := ⟨hKc, fun k q h => by simp at h⟩
  have hP : va_P D vwCl [] s.heap := fun k q h => by simp at h
  have hD : va_D (cu_A s) [] := ⟨fun i j p q h => by simp at h, fun k q h => by simp at h⟩
  have hl := lv_entry ([.ref b]) (n := 4) (Nat.le_of_ble_eq_true rfl)
  rw [lg_entry_eq]
  generalize (lg_sl ([.ref b]) ++ List.replicate (4 - (lg_sl ([.ref b])).length) Slot.unset).toArray = ls at hl ⊢
  have hl : lv_has ls 4 [(0, .ref b)] := hl
  refine va_new (ci := 0) (fs := [.int 0, .null, .null, .null, .null, .null, .null, .int 0, .int 0, .null, .null, .int 0, .int 0]) (C := RX0) (T := TX0) (N := 13) hx hb hts in_X0 tyX0 tyX0_ok hown (hts _ q20) (hts _ q21) (hts _ q18) hK hP hD hS hA rfl (fun j hj => by rcases (show j = 0 ∨ j = 1 ∨ j = 2 ∨ j = 3 ∨ j = 4 ∨ j = 5 ∨ j = 6 ∨ j = 7 ∨ j = 8 ∨ j = 9 ∨ j = 10 ∨ j = 11 ∨ j = 12 by omega) with rfl | rfl | rfl | rfl | rfl | rfl | rfl | rfl | rfl | rfl | rfl | rfl | rfl <;> rfl) (Nat.le_of_ble_eq_true rfl) (Nat.le_of_ble_eq_true rfl) dL_law_0 (fun qx H hP hD hS => ?_)
  have hP : va_P D vwCl [(qx, .inr (0, [.int 0, .null, .null, .null, .null, .null, .null, .int 0, .int 0, .null, .null, .int 0, .int 0]))] H := hP
  have hD : va_D (cu_A s) [(qx, .inr (0, [.int 0, .null, .null, .null, .null, .null, .null, .int 0, .int 0, .null, .null, .int 0, .int 0]))] := hD
  refine W.widen (k := 1) (n := 13) (Nat.le_of_ble_eq_true rfl) (Nat.le_of_ble_eq_true rfl) ?_
  refine lv_dup hx hb dL_law_3 rfl ?_
  have hF := cu_freeW hD hS hA
  refine va_callv (va_runI (As := []) (rest := [.ref qx]) ⟨hx, hb, hml, hown, hts⟩ (mX_init l D qx H.size) (cwI 0 hts (lw_meth q24) rfl rfl rfl (hts _ q18) (hts _ q22) (hts _ q23) rfl (by decide +kernel) ⟨Nat.le_of_ble_eq_true rfl, Nat.le_of_ble_eq_true rfl⟩) (cu_preS hK hP hD) rfl rfl hl.1 rfl (lv_room (Nat.le_of_ble_eq_true rfl)) dL_law_4 ⟨Nat.le_of_ble_eq_true rfl, Nat.le_of_ble_eq_true rfl⟩) hS (fun q _ h => hF q h) hF (fun u t H1 locs ht hvm hw1 hB hz1 hk1 hS => ?_)
  obtain ⟨ax, cB, cI, cL⟩ := u
  obtain ⟨hPX, hKX, hDX⟩ := hB
  rw [ht] at hPX
  have hw1 : ax 0 = qx := hw1
  have hKX : va_K D vwCl (XT cB cI cL) s := va_K.moved hvm.symm hKX
  have hPX : va_P D vwCl (XS ax cB cI cL cu_S0 (fun _ => 0)) H1 := hPX
  have hDX : va_D (cu_A s) (XS ax cB cI cL cu_S0 (fun _ => 0)) := hDX.weaken (fun k q _ h => hF q.1 h)
  refine W.widen (k := 9) (n := 157) (Nat.le_of_ble_eq_true rfl) (Nat.le_of_ble_eq_true rfl) ?_
  refine lv_astore_n (lv' := [(1, .ref qx), (0, .ref b)]) hx hb dL_law_7 rfl hl (by decide) rfl (fun ls hl => ?_)
  refine va_new (ci := 1) (fs := [.int 0, .null, .null, .null, .null, .null, .null, .int 0, .int 0]) (C := RX1) (T := TX1) (N := 9) hx hb hts in_X1 tyX1 tyX1_ok hown (hts _ q163) (hts _ q164) (hts _ q19) hK hPX hDX hS hA rfl (fun j hj => by rcases (show j = 0 ∨ j = 1 ∨ j = 2 ∨ j = 3 ∨ j = 4 ∨ j = 5 ∨ j = 6 ∨ j = 7 ∨ j = 8 by omega) with rfl | rfl | rfl | rfl | rfl | rfl | rfl | rfl | rfl <;> rfl) (Nat.le_of_ble_eq_true rfl) (Nat.le_of_ble_eq_true rfl) dL_law_8 (fun qm H2 hP hD hS => ?_)
  have hPX := cu_Pl hP
  have hP := cu_Pr hP
  have hD := cu_Dswap hD
  refine W.widen (k := 10) (n := 166) (Nat.le_of_ble_eq_true rfl) (Nat.le_of_ble_eq_true rfl) ?_
  refine lv_dup hx hb dL_law_11 rfl ?_
  have hF := cu_freeW (cu_Dl hD) hS hA
  refine va_callv (va_runI (As := []) (rest := [.ref qm]) ⟨hx, hb, hml, hown, hts⟩ (mM_init l D qm H2.size) (cwI 0 hts (lw_meth q167) rfl rfl rfl (hts _ q19) (hts _ q165) (hts _ q166) rfl (by decide +kernel) ⟨Nat.le_of_ble_eq_true rfl, Nat.le_of_ble_eq_true rfl⟩) (cu_preS hK hP (cu_Dl hD)) rfl rfl hl.1 rfl (lv_room (Nat.le_of_ble_eq_true rfl)) dL_law_12 ⟨Nat.le_of_ble_eq_true rfl, Nat.le_of_ble_eq_true rfl⟩) hS (fun q _ h => hF q h) hF (fun u t H3 locs ht hvm hw2 hB hz1 hk1 hS => ?_)
  obtain ⟨am, cI2, cZ⟩ := u
  obtain ⟨hPM, hKM, hDM⟩ := hB
  rw [ht] at hPM
  have hw2 : am 0 = qm := hw2
  have hKM : va_K D vwCl (MT cI2 cZ) s := va_K.moved hvm.symm hKM
  obtain ⟨hPX, hD⟩ := cu_fr hPX hD hF hk1 hDM
  refine W.widen (k := 16) (n := 286) (Nat.le_of_ble_eq_true rfl) (Nat.le_of_ble_eq_true rfl) ?_
  refine lv_astore_n (lv' := [(2, .ref qm), (1, .ref qx), (0, .ref b)]) hx hb dL_law_15 rfl hl (by decide) rfl (fun ls hl => ?_)
  refine lv_iconst (v := nI 0) hx hb dL_law_16 (by decide) ?_
  refine lv_istore_n (lv' := [(3, .int (nI 0)), (2, .ref qm), (1, .ref qx), (0, .ref b)]) hx hb dL_law_17 rfl hl (by decide) rfl (fun ls hl => ?_)
  refine cu_law_loop l hL C0 D ax am cB cI cL cI2 cZ hKX hKM (fun _ => 0) (fun _ => 0) hPX hPM (cu_Dswap hD) hS ?_
  rw [hw1, hw2]
  exact lv_sub hl [3, 2, 1, 0] rfl
end
section
set_option maxHeartbeats 4000000 in
theorem lw_walk (l : Launch) (b : Addr) (xs : List Int32) : MetFree l x (headSpec (Jvm.Cond.code x code maxLocals ret :: tables_1) room_1) (lw_P b xs) (fun _ _ _ _ _ => True) lw_Q := by
  refine MetFree.of_bodyS (code := code) (maxLocals := maxLocals) (ret := ret) (by decide) ?_ ?_
  · intro args s m h hn
    obtain ⟨meth, c, h1, h2, h3, h4, h5, h6, -, -⟩ := Cond.code_spec hn (atoms_spec (ws := Jvm.Cond.code x code maxLocals ret :: tables_1) h _ List.mem_cons_self)
    exact ⟨meth, c, h1, h2, h3, h4, h5, h6⟩
  · intro p e s m args below meth c s₁ B hml0 hP _
    obtain ⟨rfl, hx, hbd, hgv⟩ := hP
    obtain ⟨scr, harrAt, hlist, hof, hsmall⟩ := hx
    obtain ⟨hcb, hkn, -, -⟩ := State.arrayAt?_spec harrAt
    have hown : s.vm.findClass R_law = some m.cls := findClass_of_methodNamed B.named
    have hts0 : ∀ c ∈ (Jvm.Cond.code x code maxLocals ret :: tables_1), c.before #[Value.ref b] s = true := atoms_spec (ws := Jvm.Cond.code x code maxLocals ret :: tables_1) B.pre
    have hts : ∀ w ∈ lw_tbl, w.before #[Value.ref b] s = true := k2_hts_sels lw_privs (fun w hw => hts0 w (List.mem_cons_of_mem _ hw)) lw_privs_ok
    have hml : c.maxLocals = 4 := B.maxLocals_eq (hts0 _ List.mem_cons_self)
    have X₀ : Stand p l e room_1 s m #[Value.ref b] below meth c s₁ [] 0 0 := Stand.of_body B
    have hh0 : s₁.heap = s.heap := by rw [B.state]; rfl
    have hsz : scr.slots.size = xs.length := by rw [← Array.length_toList, hlist, List.length_map]
    have hval : ∀ j : Nat, j < xs.length → scr.slots[j]? = some (.int (xs.getD j 0)) := fun j hj => by
      rw [← Array.getElem?_toList, hlist]
      simp [hj]
    have hbl : b < s.heap.size := (Array.getElem?_eq_some_iff.mp hcb).1
    have hX : va_X b xs.length (fun j => xs.getD j 0) s s.heap := ⟨scr, hcb, hof, hkn, hsz, hval⟩
    have K : W p l e room_1 s m #[Value.ref b] below meth c s₁.heap [] 0 0 (lw_Z below #[Value.ref b] s) (entryFrame m ([Value.ref b] : List Value).toArray 4) := by
      rw [hh0]
      exact whole_start l hbd ⟨B.exec, B.bytes, B.returns, hml, hown, hts, hX, hbl, B.notSynchronized, hgv⟩
    obtain ⟨t, a1, o, b1, b2, b3⟩ := K s₁ rfl X₀
    exact ⟨t, o, a1, b1, b2, b3⟩
theorem lw_pre_spec {args : Array Value} {s : State} (h : (Jvm.Cond.and given_1 narrow_1).before args s = true) (hr : rest_1_c.before args s = true) : ∃ (b : Addr) (xs : List Int32), lw_P b xs args s := by
  have hs := flat_of_before _ h
  have hq := flat_of_before _ hr
  have hc : (Cond.count 1).before args s = true := hs _ (by decide +kernel)
  have harr : (Cond.arrayOf (.arg 0) .int).before args s = true := hs _ (by decide +kernel)
  have hle : (Cond.le (.length (.arg 0)) (.int 320)).before args s = true := hs _ (by decide +kernel)
  have hlen : (Cond.isInt (.length (.arg 0))).before args s = true := hq _ (by decide +kernel)
  have hall : (Cond.all (.arg 0) (.isInt (.elem (.arg 0) (.index 0)))).before args s = true := hq _ (by decide +kernel)
  obtain ⟨b, xs, hb, hx⟩ := State.ints_of_pre rfl harr hlen hall
  have hsm : xs.length < 2 ^ 31 := hx.choose_spec.2.2.2
  have hev : (Term.length (.arg 0)).eval args s none [] s = some (.int xs.length.toInt32) := hx.length_eval hb
  have hv := Cond.le_ints hev (show (Term.int 320).eval args s none [] s = some (.int 320) from rfl)
  have hd : xs.length.toInt32 ≤ 320 := by
    simpa [Cond.before, Cond.holds, hv] using hle
  have hN : xs.length ≤ 320 := (Int32.ofNat_le_ofNat hsm (by decide)).mp (show Int32.ofNat xs.length ≤ Int32.ofNat 320 from hd)
  exact ⟨b, xs, Cond.one_arg hc (show args[0]? = some (.ref b) from hb), hx, hN, h⟩
theorem lw_comes (l : Launch) : Comes l x (Jvm.Cond.code x code maxLocals ret :: tables_1) room_1 (fun tb e args s => Calls_1 tb e args s ∧ rest_1 tb e args s ∧ Pre_1 tb e args s)
    (fun _ _ args s o t => lw_Q args s o t) := by
  intro p e ha hc hk s m args below hf hfit hheap happ hpre
  obtain ⟨b, xs, hP⟩ := lw_pre_spec hpre.2.2 hpre.2.1
  obtain ⟨k, o, h1, h2, h3, hQ⟩ := lw_walk l b xs p e ha hc hk s m args below hf ((Spec.applies_iff_loose hf).mp happ).1 hP trivial
  exact ⟨k, o, h1, h2, h3, hQ⟩
theorem lw_frame {s t : State} {o : Outcome} {args : Array Value} (h : Framed s o t [] 600000 7290000) :
    Framed s o t (fieldLocs frame_1_writes args s ++ arrayLocs frame_1_arrays args s ++ staticLocs frame_1_statics s) 600000 7290000 := h
theorem lw_limb (L : Cond) (hL : ∀ (args : Array Value) (s t : State), L.after args s (.returned (some (.int 1))) t = true) :
    ArmFor flags0 classFile x code maxLocals ret World_1 tables_1 room_1 Calls_1 rest_1 Pre_1
      (fun tb e a s o t => postC L tb e a s o t ∧ Framed s o t (fieldLocs frame_1_writes a s ++ arrayLocs frame_1_arrays a s ++ staticLocs frame_1_statics s) 600000 7290000) := by
  intro l _ _ _ p e ha hc hk s m args below hf hfit hheap happ hpre
  obtain ⟨k, o, h1, h2, h3, rfl, hF⟩ := lw_comes l p e ha hc hk s m args below hf hfit hheap happ hpre
  exact ⟨k, _, h1, h2, h3, hL args s _, lw_frame hF⟩
theorem i_vc : Claimed_1_1 ∧ Claimed_1_2 := ⟨lw_limb limb_1_1 (fun args s t => by simp [limb_1_1, Cond.after, Cond.holds, Cond.value]), lw_limb limb_1_2 (fun args s t => Cond.after_iff.mpr (by
  first | (rw [show limb_1_2 = Cond.eq .result (.int 1) from rfl, Cond.eq_ints (x := 1) (y := 1) rfl rfl]; simp; done) | (simp [limb_1_2, Cond.value, Term.eval]; done)))⟩
end
