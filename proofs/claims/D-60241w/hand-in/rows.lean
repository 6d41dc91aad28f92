section
-- ===== PART A: goes FIRST, ahead of the names: the tables' words, and 'selects' of the private methods out of them =====
/-- a private method of a class that the tables say can be made, by its rows of tables_1 -/
def lw_okq (q : MethodName × Nat) : Prop := (q.1.cls ≠ "java/lang/invoke/MethodHandle" ∧ q.1.cls ≠ "java/lang/invoke/VarHandle") ∧ Cond.instantiable q.1.cls q.2 ∈ tables_1 ∧ Cond.privateMethod q.1 ∈ tables_1 ∧ Cond.instanceMethod q.1 ∈ tables_1
set_option maxRecDepth 100000
theorem lw_t1 {w : Cond} (h : w ∈ tables_1_1) : w ∈ tables_1 := List.mem_append_left _ h
theorem lw_t2 {w : Cond} (h : w ∈ tables_1_2) : w ∈ tables_1 := List.mem_append_right _ h
theorem lw_p0 : lw_okq (⟨"BackdatedBook", "bears", "(III)Z"⟩, 16) := ⟨⟨by decide +kernel, by decide +kernel⟩, lw_t1 (List.mem_of_getElem? (i := 4) rfl), lw_t1 (List.mem_of_getElem? (i := 73) rfl), lw_t1 (List.mem_of_getElem? (i := 74) rfl)⟩
theorem lw_p1 : lw_okq (⟨"BackdatedBook", "lowestIn", "(III)I"⟩, 16) := ⟨⟨by decide +kernel, by decide +kernel⟩, lw_t1 (List.mem_of_getElem? (i := 4) rfl), lw_t1 (List.mem_of_getElem? (i := 77) rfl), lw_t1 (List.mem_of_getElem? (i := 78) rfl)⟩
theorem lw_p2 : lw_okq (⟨"BackdatedBook", "walk", "(III)V"⟩, 16) := ⟨⟨by decide +kernel, by decide +kernel⟩, lw_t1 (List.mem_of_getElem? (i := 4) rfl), lw_t1 (List.mem_of_getElem? (i := 81) rfl), lw_t1 (List.mem_of_getElem? (i := 82) rfl)⟩
theorem lw_p3 : lw_okq (⟨"BackdatedBook", "enter", "(III)I"⟩, 16) := ⟨⟨by decide +kernel, by decide +kernel⟩, lw_t1 (List.mem_of_getElem? (i := 4) rfl), lw_t1 (List.mem_of_getElem? (i := 89) rfl), lw_t1 (List.mem_of_getElem? (i := 90) rfl)⟩
theorem lw_p4 : lw_okq (⟨"BackdatedBook", "add", "(III)V"⟩, 16) := ⟨⟨by decide +kernel, by decide +kernel⟩, lw_t1 (List.mem_of_getElem? (i := 4) rfl), lw_t1 (List.mem_of_getElem? (i := 93) rfl), lw_t1 (List.mem_of_getElem? (i := 94) rfl)⟩
theorem lw_p5 : lw_okq (⟨"BackdatedBook", "isEntry", "(I)Z"⟩, 16) := ⟨⟨by decide +kernel, by decide +kernel⟩, lw_t1 (List.mem_of_getElem? (i := 4) rfl), lw_t1 (List.mem_of_getElem? (i := 105) rfl), lw_t1 (List.mem_of_getElem? (i := 106) rfl)⟩
theorem lw_p6 : lw_okq (⟨"BackdatedBook", "isSound", "()Z"⟩, 16) := ⟨⟨by decide +kernel, by decide +kernel⟩, lw_t1 (List.mem_of_getElem? (i := 4) rfl), lw_t1 (List.mem_of_getElem? (i := 121) rfl), lw_t1 (List.mem_of_getElem? (i := 122) rfl)⟩
theorem lw_p7 : lw_okq (⟨"BackdatedBook", "search", "(III)I"⟩, 16) := ⟨⟨by decide +kernel, by decide +kernel⟩, lw_t1 (List.mem_of_getElem? (i := 4) rfl), lw_t1 (List.mem_of_getElem? (i := 167) rfl), lw_t1 (List.mem_of_getElem? (i := 168) rfl)⟩
theorem lw_p8 : lw_okq (⟨"BackdatedBook", "descend", "(IIII)I"⟩, 16) := ⟨⟨by decide +kernel, by decide +kernel⟩, lw_t1 (List.mem_of_getElem? (i := 4) rfl), lw_t1 (List.mem_of_getElem? (i := 171) rfl), lw_t1 (List.mem_of_getElem? (i := 172) rfl)⟩
theorem lw_p9 : lw_okq (⟨"BackdatedBook", "lastBelow", "(II)I"⟩, 16) := ⟨⟨by decide +kernel, by decide +kernel⟩, lw_t1 (List.mem_of_getElem? (i := 4) rfl), lw_t1 (List.mem_of_getElem? (i := 184) rfl), lw_t1 (List.mem_of_getElem? (i := 185) rfl)⟩
theorem lw_p10 : lw_okq (⟨"BackdatedBookModel", "bad", "(I)Z"⟩, 9) := ⟨⟨by decide +kernel, by decide +kernel⟩, lw_t1 (List.mem_of_getElem? (i := 192) rfl), lw_t1 (List.mem_of_getElem? (i := 230) rfl), lw_t1 (List.mem_of_getElem? (i := 231) rfl)⟩
theorem lw_p11 : lw_okq (⟨"BackdatedBookModel", "badDay", "(I)Z"⟩, 9) := ⟨⟨by decide +kernel, by decide +kernel⟩, lw_t1 (List.mem_of_getElem? (i := 192) rfl), lw_t1 (List.mem_of_getElem? (i := 234) rfl), lw_t1 (List.mem_of_getElem? (i := 235) rfl)⟩
theorem lw_p12 : lw_okq (⟨"BackdatedBookModel", "put", "(III)V"⟩, 9) := ⟨⟨by decide +kernel, by decide +kernel⟩, lw_t1 (List.mem_of_getElem? (i := 192) rfl), lw_t1 (List.mem_of_getElem? (i := 238) rfl), lw_t1 (List.mem_of_getElem? (i := 239) rfl)⟩
theorem lw_p13 : lw_okq (⟨"BackdatedBookModel", "allSound", "()Z"⟩, 9) := ⟨⟨by decide +kernel, by decide +kernel⟩, lw_t1 (List.mem_of_getElem? (i := 192) rfl), lw_t2 (List.mem_of_getElem? (i := 2) rfl), lw_t2 (List.mem_of_getElem? (i := 3) rfl)⟩
theorem lw_p14 : lw_okq (⟨"BackdatedBookModel", "holds", "(I)Z"⟩, 9) := ⟨⟨by decide +kernel, by decide +kernel⟩, lw_t1 (List.mem_of_getElem? (i := 192) rfl), lw_t2 (List.mem_of_getElem? (i := 6) rfl), lw_t2 (List.mem_of_getElem? (i := 7) rfl)⟩
theorem lw_p15 : lw_okq (⟨"BackdatedBookModel", "worth", "(II)I"⟩, 9) := ⟨⟨by decide +kernel, by decide +kernel⟩, lw_t1 (List.mem_of_getElem? (i := 192) rfl), lw_t2 (List.mem_of_getElem? (i := 10) rfl), lw_t2 (List.mem_of_getElem? (i := 11) rfl)⟩
def lw_privs_1 : List (MethodName × Nat) := [(⟨"BackdatedBook", "bears", "(III)Z"⟩, 16), (⟨"BackdatedBook", "lowestIn", "(III)I"⟩, 16), (⟨"BackdatedBook", "walk", "(III)V"⟩, 16), (⟨"BackdatedBook", "enter", "(III)I"⟩, 16), (⟨"BackdatedBook", "add", "(III)V"⟩, 16), (⟨"BackdatedBook", "isEntry", "(I)Z"⟩, 16), (⟨"BackdatedBook", "isSound", "()Z"⟩, 16), (⟨"BackdatedBook", "search", "(III)I"⟩, 16), (⟨"BackdatedBook", "descend", "(IIII)I"⟩, 16), (⟨"BackdatedBook", "lastBelow", "(II)I"⟩, 16), (⟨"BackdatedBookModel", "bad", "(I)Z"⟩, 9), (⟨"BackdatedBookModel", "badDay", "(I)Z"⟩, 9), (⟨"BackdatedBookModel", "put", "(III)V"⟩, 9), (⟨"BackdatedBookModel", "allSound", "()Z"⟩, 9), (⟨"BackdatedBookModel", "holds", "(I)Z"⟩, 9), (⟨"BackdatedBookModel", "worth", "(II)I"⟩, 9)]
theorem lw_r1 : ∀ q ∈ lw_privs_1, lw_okq q := List.forall_mem_cons.mpr ⟨lw_p0, List.forall_mem_cons.mpr ⟨lw_p1, List.forall_mem_cons.mpr ⟨lw_p2, List.forall_mem_cons.mpr ⟨lw_p3, List.forall_mem_cons.mpr ⟨lw_p4, List.forall_mem_cons.mpr ⟨lw_p5, List.forall_mem_cons.mpr ⟨lw_p6, List.forall_mem_cons.mpr ⟨lw_p7, List.forall_mem_cons.mpr ⟨lw_p8, List.forall_mem_cons.mpr ⟨lw_p9, List.forall_mem_cons.mpr ⟨lw_p10, List.forall_mem_cons.mpr ⟨lw_p11, List.forall_mem_cons.mpr ⟨lw_p12, List.forall_mem_cons.mpr ⟨lw_p13, List.forall_mem_cons.mpr ⟨lw_p14, List.forall_mem_cons.mpr ⟨lw_p15, fun _ h => absurd h List.not_mem_nil⟩⟩⟩⟩⟩⟩⟩⟩⟩⟩⟩⟩⟩⟩⟩⟩
theorem lw_p16 : lw_okq (⟨"BackdatedBookModel", "badEntry", "(I)Z"⟩, 9) := ⟨⟨by decide +kernel, by decide +kernel⟩, lw_t1 (List.mem_of_getElem? (i := 192) rfl), lw_t2 (List.mem_of_getElem? (i := 22) rfl), lw_t2 (List.mem_of_getElem? (i := 23) rfl)⟩
theorem lw_p17 : lw_okq (⟨"BackdatedBookModel", "badStretch", "(II)Z"⟩, 9) := ⟨⟨by decide +kernel, by decide +kernel⟩, lw_t1 (List.mem_of_getElem? (i := 192) rfl), lw_t2 (List.mem_of_getElem? (i := 67) rfl), lw_t2 (List.mem_of_getElem? (i := 68) rfl)⟩
theorem lw_p18 : lw_okq (⟨"BackdatedBookModel", "spare", "(II)I"⟩, 9) := ⟨⟨by decide +kernel, by decide +kernel⟩, lw_t1 (List.mem_of_getElem? (i := 192) rfl), lw_t2 (List.mem_of_getElem? (i := 85) rfl), lw_t2 (List.mem_of_getElem? (i := 86) rfl)⟩
def lw_privs_2 : List (MethodName × Nat) := [(⟨"BackdatedBookModel", "badEntry", "(I)Z"⟩, 9), (⟨"BackdatedBookModel", "badStretch", "(II)Z"⟩, 9), (⟨"BackdatedBookModel", "spare", "(II)I"⟩, 9)]
theorem lw_r2 : ∀ q ∈ lw_privs_2, lw_okq q := List.forall_mem_cons.mpr ⟨lw_p16, List.forall_mem_cons.mpr ⟨lw_p17, List.forall_mem_cons.mpr ⟨lw_p18, fun _ h => absurd h List.not_mem_nil⟩⟩⟩
def lw_privs : List (MethodName × Nat) := lw_privs_1 ++ (lw_privs_2)
def lw_tbl : List Cond := k2_sels lw_privs ++ tables_1
theorem lw_privs_ok : ∀ q ∈ lw_privs, lw_okq q := by
  show ∀ q ∈ lw_privs_1 ++ (lw_privs_2), lw_okq q
  exact List.forall_mem_append.mpr ⟨lw_r1, lw_r2⟩
-- ===== ONE list of words for every method: the tables' words that hold all through a run =====
def lw_all : List Cond := lw_tbl.filter goodWord
/-- a word of the tables by its place: claim/WORDS.tsv -/
theorem lw_w {w : Cond} (i : Nat) (h : lw_tbl[i]? = some w) (g : goodWord w = true) : w ∈ lw_all := List.mem_filter.mpr ⟨List.mem_of_getElem? h, g⟩
theorem lw_all_tbl {w : Cond} (h : w ∈ lw_all) : w ∈ lw_tbl := (List.mem_filter.mp h).1
theorem lw_self : GoodIn lw_all lw_all := fun w h => ⟨h, good_of_word (List.mem_filter.mp h).2⟩
/-- a class's field words, by their places -/
theorem lw_in (ws : List Cond) (ps : List Nat) (hp : ws = ps.filterMap (fun i => lw_tbl[i]?)) (hg : ws.all goodWord = true) : ∀ w ∈ ws, w ∈ lw_all := by
  intro w h
  have h1 := List.all_eq_true.mp hg w h
  rw [hp] at h
  obtain ⟨i, -, hi⟩ := List.mem_filterMap.mp h
  exact lw_w i hi h1
/-- the words of a contract for the method y with code b, L locals, answer r -/
abbrev ws_ (y : MethodName) (b : ByteArray) (L : Nat) (r : Option FieldType) : List Cond := Cond.code y b L r :: lw_all
theorem lw_meth {y : MethodName} {b : ByteArray} {L : Nat} {r : Option FieldType} (h : Cond.code y b L r ∈ lw_all) : GoodIn lw_all (ws_ y b L r) := by
  intro w hw
  rcases List.mem_cons.mp hw with e | e
  · rw [e]
    exact lw_self _ h
  · exact lw_self _ e
theorem lw_app {a c : List Cond} (ha : ∀ w ∈ a, w ∈ lw_all) (hc : GoodIn lw_all c) : GoodIn lw_all (a ++ c) := by
  intro w hw
  rcases List.mem_append.mp hw with e | e
  · exact lw_self w (ha w e)
  · exact hc w e
/-- what a call through an object asks: cwV n hts (lw_V ..) -/
theorem lw_V {own : String} {idx : Nat} {C : String} {y : MethodName} {b : ByteArray} {L : Nat} {r : Option FieldType} (h1 : Cond.methodLink own idx y ∈ lw_all) (h2 : Cond.instanceMethod y ∈ lw_all) (h3 : Cond.selects C y y ∈ lw_all) (h4 : Cond.initialized C ∈ lw_all) (h5 : Cond.code y b L r ∈ lw_all) : GoodIn lw_all (wsV own idx C y (ws_ y b L r)) := by
  refine lw_app ?_ (lw_meth h5)
  intro w hw
  simp only [List.mem_cons, List.not_mem_nil, or_false] at hw
  rcases hw with e | e | e | e
  · rw [e]; exact h1
  · rw [e]; exact h2
  · rw [e]; exact h3
  · rw [e]; exact h4
/-- what a static call asks: va_cwS n hts (lw_S ..) -/
theorem lw_S {own : String} {idx : Nat} {y : MethodName} {b : ByteArray} {L : Nat} {r : Option FieldType} (h1 : Cond.methodLink own idx y ∈ lw_all) (h2 : Cond.static y ∈ lw_all) (h3 : Cond.initialized y.cls ∈ lw_all) (h4 : Cond.code y b L r ∈ lw_all) : GoodIn lw_all (va_wsS own idx y (ws_ y b L r)) := by
  refine lw_app ?_ (lw_meth h4)
  intro w hw
  simp only [List.mem_cons, List.not_mem_nil, or_false] at hw
  rcases hw with e | e | e
  · rw [e]; exact h1
  · rw [e]; exact h2
  · rw [e]; exact h3
/-- the words of a contract for a method WITH HANDLERS (hh: its table) -/
abbrev wsW_ (y : MethodName) (b : ByteArray) (L : Nat) (r : Option FieldType) (hh : List (Nat × Nat × Nat × Nat)) : List Cond := Cond.codeWith y b L r hh :: lw_all
theorem lw_methW {y : MethodName} {b : ByteArray} {L : Nat} {r : Option FieldType} {hh : List (Nat × Nat × Nat × Nat)} (h : Cond.codeWith y b L r hh ∈ lw_all) : GoodIn lw_all (wsW_ y b L r hh) := by
  intro w hw
  rcases List.mem_cons.mp hw with e | e
  · rw [e]
    exact lw_self _ h
  · exact lw_self _ e
/-- any list of words by their places (lw_in), good -/
theorem lw_good {ws : List Cond} (h : ∀ w ∈ ws, w ∈ lw_all) : GoodIn lw_all ws := fun w hw => lw_self w (h w hw)
/-- what a call of a method with handlers asks: vx_cwVW n hts (lw_VW ..), vx_cwSW n hts (lw_SW ..) -/
theorem lw_VW {own : String} {idx : Nat} {C : String} {y : MethodName} {b : ByteArray} {L : Nat} {r : Option FieldType} {hh : List (Nat × Nat × Nat × Nat)} (h1 : Cond.methodLink own idx y ∈ lw_all) (h2 : Cond.instanceMethod y ∈ lw_all) (h3 : Cond.selects C y y ∈ lw_all) (h4 : Cond.initialized C ∈ lw_all) (h5 : Cond.codeWith y b L r hh ∈ lw_all) : GoodIn lw_all (wsV own idx C y (wsW_ y b L r hh)) := by
  refine lw_app ?_ (lw_methW h5)
  intro w hw
  simp only [List.mem_cons, List.not_mem_nil, or_false] at hw
  rcases hw with e | e | e | e
  · rw [e]; exact h1
  · rw [e]; exact h2
  · rw [e]; exact h3
  · rw [e]; exact h4
theorem lw_SW {own : String} {idx : Nat} {y : MethodName} {b : ByteArray} {L : Nat} {r : Option FieldType} {hh : List (Nat × Nat × Nat × Nat)} (h1 : Cond.methodLink own idx y ∈ lw_all) (h2 : Cond.static y ∈ lw_all) (h3 : Cond.initialized y.cls ∈ lw_all) (h4 : Cond.codeWith y b L r hh ∈ lw_all) : GoodIn lw_all (va_wsS own idx y (wsW_ y b L r hh)) := by
  refine lw_app ?_ (lw_methW h4)
  intro w hw
  simp only [List.mem_cons, List.not_mem_nil, or_false] at hw
  rcases hw with e | e | e
  · rw [e]; exact h1
  · rw [e]; exact h2
  · rw [e]; exact h3
/-- a word by its place in its run of the tables -/
theorem lw_at {r : List Cond} (hr : ∀ w ∈ r, w ∈ lw_tbl) {w : Cond} (i : Nat) (h : r[i]? = some w) : w ∈ lw_tbl := hr w (List.mem_of_getElem? h)
theorem lw_g {w : Cond} (h : w ∈ lw_tbl) (g : goodWord w = true) : w ∈ lw_all := List.mem_filter.mpr ⟨h, g⟩
theorem lw_ms : ∀ w ∈ k2_sels lw_privs, w ∈ lw_tbl := fun w h => show w ∈ k2_sels lw_privs ++ tables_1 from List.mem_append_left _ h
theorem lw_m1 : ∀ w ∈ tables_1_1, w ∈ lw_tbl := fun w h => show w ∈ k2_sels lw_privs ++ tables_1 from List.mem_append_right (k2_sels lw_privs) (show w ∈ tables_1 from List.mem_append_left _ h)
theorem lw_m2 : ∀ w ∈ tables_1_2, w ∈ lw_tbl := fun w h => show w ∈ k2_sels lw_privs ++ tables_1 from List.mem_append_right (k2_sels lw_privs) (show w ∈ tables_1 from List.mem_append_right _ h)
theorem qs0 : (Cond.selects "BackdatedBook" ⟨"BackdatedBook", "bears", "(III)Z"⟩ ⟨"BackdatedBook", "bears", "(III)Z"⟩) ∈ lw_all := lw_g (lw_at lw_ms 0 rfl) rfl
theorem qs1 : (Cond.selects "BackdatedBook" ⟨"BackdatedBook", "lowestIn", "(III)I"⟩ ⟨"BackdatedBook", "lowestIn", "(III)I"⟩) ∈ lw_all := lw_g (lw_at lw_ms 1 rfl) rfl
theorem qs2 : (Cond.selects "BackdatedBook" ⟨"BackdatedBook", "walk", "(III)V"⟩ ⟨"BackdatedBook", "walk", "(III)V"⟩) ∈ lw_all := lw_g (lw_at lw_ms 2 rfl) rfl
theorem qs3 : (Cond.selects "BackdatedBook" ⟨"BackdatedBook", "enter", "(III)I"⟩ ⟨"BackdatedBook", "enter", "(III)I"⟩) ∈ lw_all := lw_g (lw_at lw_ms 3 rfl) rfl
theorem qs4 : (Cond.selects "BackdatedBook" ⟨"BackdatedBook", "add", "(III)V"⟩ ⟨"BackdatedBook", "add", "(III)V"⟩) ∈ lw_all := lw_g (lw_at lw_ms 4 rfl) rfl
theorem qs5 : (Cond.selects "BackdatedBook" ⟨"BackdatedBook", "isEntry", "(I)Z"⟩ ⟨"BackdatedBook", "isEntry", "(I)Z"⟩) ∈ lw_all := lw_g (lw_at lw_ms 5 rfl) rfl
theorem qs6 : (Cond.selects "BackdatedBook" ⟨"BackdatedBook", "isSound", "()Z"⟩ ⟨"BackdatedBook", "isSound", "()Z"⟩) ∈ lw_all := lw_g (lw_at lw_ms 6 rfl) rfl
theorem qs7 : (Cond.selects "BackdatedBook" ⟨"BackdatedBook", "search", "(III)I"⟩ ⟨"BackdatedBook", "search", "(III)I"⟩) ∈ lw_all := lw_g (lw_at lw_ms 7 rfl) rfl
theorem qs8 : (Cond.selects "BackdatedBook" ⟨"BackdatedBook", "descend", "(IIII)I"⟩ ⟨"BackdatedBook", "descend", "(IIII)I"⟩) ∈ lw_all := lw_g (lw_at lw_ms 8 rfl) rfl
theorem qs9 : (Cond.selects "BackdatedBook" ⟨"BackdatedBook", "lastBelow", "(II)I"⟩ ⟨"BackdatedBook", "lastBelow", "(II)I"⟩) ∈ lw_all := lw_g (lw_at lw_ms 9 rfl) rfl
theorem qs10 : (Cond.selects "BackdatedBookModel" ⟨"BackdatedBookModel", "bad", "(I)Z"⟩ ⟨"BackdatedBookModel", "bad", "(I)Z"⟩) ∈ lw_all := lw_g (lw_at lw_ms 10 rfl) rfl
theorem qs11 : (Cond.selects "BackdatedBookModel" ⟨"BackdatedBookModel", "badDay", "(I)Z"⟩ ⟨"BackdatedBookModel", "badDay", "(I)Z"⟩) ∈ lw_all := lw_g (lw_at lw_ms 11 rfl) rfl
theorem qs12 : (Cond.selects "BackdatedBookModel" ⟨"BackdatedBookModel", "put", "(III)V"⟩ ⟨"BackdatedBookModel", "put", "(III)V"⟩) ∈ lw_all := lw_g (lw_at lw_ms 12 rfl) rfl
theorem qs13 : (Cond.selects "BackdatedBookModel" ⟨"BackdatedBookModel", "allSound", "()Z"⟩ ⟨"BackdatedBookModel", "allSound", "()Z"⟩) ∈ lw_all := lw_g (lw_at lw_ms 13 rfl) rfl
theorem qs14 : (Cond.selects "BackdatedBookModel" ⟨"BackdatedBookModel", "holds", "(I)Z"⟩ ⟨"BackdatedBookModel", "holds", "(I)Z"⟩) ∈ lw_all := lw_g (lw_at lw_ms 14 rfl) rfl
theorem qs15 : (Cond.selects "BackdatedBookModel" ⟨"BackdatedBookModel", "worth", "(II)I"⟩ ⟨"BackdatedBookModel", "worth", "(II)I"⟩) ∈ lw_all := lw_g (lw_at lw_ms 15 rfl) rfl
theorem qs16 : (Cond.selects "BackdatedBookModel" ⟨"BackdatedBookModel", "badEntry", "(I)Z"⟩ ⟨"BackdatedBookModel", "badEntry", "(I)Z"⟩) ∈ lw_all := lw_g (lw_at lw_ms 16 rfl) rfl
theorem qs17 : (Cond.selects "BackdatedBookModel" ⟨"BackdatedBookModel", "badStretch", "(II)Z"⟩ ⟨"BackdatedBookModel", "badStretch", "(II)Z"⟩) ∈ lw_all := lw_g (lw_at lw_ms 17 rfl) rfl
theorem qs18 : (Cond.selects "BackdatedBookModel" ⟨"BackdatedBookModel", "spare", "(II)I"⟩ ⟨"BackdatedBookModel", "spare", "(II)I"⟩) ∈ lw_all := lw_g (lw_at lw_ms 18 rfl) rfl
end
section
/-! BackdatedBook -/
set_option maxRecDepth 100000
def RX0 : String := "BackdatedBook"
def TX0 : u_T := fun k => match k with
  | 0 => ("BackdatedBook", "accountOf", "[I", true)
  | 1 => ("BackdatedBook", "dayOf", "[I", true)
  | 2 => ("BackdatedBook", "amounts", "[I", true)
  | 3 => ("BackdatedBook", "gone", "[Z", true)
  | 4 => ("BackdatedBook", "floors", "[I", true)
  | 5 => ("BackdatedBook", "change", "[I", true)
  | 6 => ("BackdatedBook", "least", "[I", true)
  | 7 => ("BackdatedBook", "area", "[I", true)
  | 8 => ("BackdatedBook", "log", "[I", true)
  | 9 => ("BackdatedBook", "count", "I", false)
  | 10 => ("BackdatedBook", "logged", "I", false)
  | 11 => ("BackdatedBook", "mark", "I", false)
  | 12 => ("BackdatedBook", "batch", "Z", false)
  | 13 => ("BackdatedBook", "walkChange", "I", false)
  | 14 => ("BackdatedBook", "walkLeast", "I", false)
  | _ => ("BackdatedBook", "walkArea", "I", false)
def tyX0 : Nat → FieldType := fun k => match k with
  | 0 => .array .int
  | 1 => .array .int
  | 2 => .array .int
  | 3 => .array .boolean
  | 4 => .array .int
  | 5 => .array .int
  | 6 => .array .int
  | 7 => .array .int
  | 8 => .array .int
  | 9 => .int
  | 10 => .int
  | 11 => .int
  | 12 => .boolean
  | 13 => .int
  | 14 => .int
  | _ => .int
abbrev wsX00 : List Cond := u_ws RX0 TX0 16
set_option maxRecDepth 100000 in
theorem nmX0 : ∀ a, a < 16 → ∀ b, b < 16 → a ≠ b → (TX0 a).2.1 ≠ (TX0 b).2.1 := by decide +kernel
set_option maxRecDepth 100000 in
theorem tyX0_ok : ∀ k, k < 16 → parseFieldDescriptor (TX0 k).2.2.1 = some (tyX0 k) := by decide +kernel
abbrev cX0_init : ByteArray := prog_1_method_1_code
def yX0_init : MethodName := ⟨RX0, "<init>", "()V"⟩
theorem dX0_init_0 : decode cX0_init 0 = .ok (.aload_n 0, 1) := by decide +kernel
theorem dX0_init_1 : decode cX0_init 1 = .ok (.invokespecial 1, 3) := by decide +kernel
theorem dX0_init_4 : decode cX0_init 4 = .ok (.aload_n 0, 1) := by decide +kernel
theorem dX0_init_5 : decode cX0_init 5 = .ok (.bipush 60, 2) := by decide +kernel
theorem dX0_init_7 : decode cX0_init 7 = .ok (.newarray .int, 2) := by decide +kernel
theorem dX0_init_9 : decode cX0_init 9 = .ok (.putfield 7, 3) := by decide +kernel
theorem dX0_init_12 : decode cX0_init 12 = .ok (.aload_n 0, 1) := by decide +kernel
theorem dX0_init_13 : decode cX0_init 13 = .ok (.bipush 60, 2) := by decide +kernel
theorem dX0_init_15 : decode cX0_init 15 = .ok (.newarray .int, 2) := by decide +kernel
theorem dX0_init_17 : decode cX0_init 17 = .ok (.putfield 13, 3) := by decide +kernel
theorem dX0_init_20 : decode cX0_init 20 = .ok (.aload_n 0, 1) := by decide +kernel
theorem dX0_init_21 : decode cX0_init 21 = .ok (.bipush 60, 2) := by decide +kernel
theorem dX0_init_23 : decode cX0_init 23 = .ok (.newarray .int, 2) := by decide +kernel
theorem dX0_init_25 : decode cX0_init 25 = .ok (.putfield 16, 3) := by decide +kernel
theorem dX0_init_28 : decode cX0_init 28 = .ok (.aload_n 0, 1) := by decide +kernel
theorem dX0_init_29 : decode cX0_init 29 = .ok (.bipush 60, 2) := by decide +kernel
theorem dX0_init_31 : decode cX0_init 31 = .ok (.newarray .boolean, 2) := by decide +kernel
theorem dX0_init_33 : decode cX0_init 33 = .ok (.putfield 19, 3) := by decide +kernel
theorem dX0_init_36 : decode cX0_init 36 = .ok (.aload_n 0, 1) := by decide +kernel
theorem dX0_init_37 : decode cX0_init 37 = .ok (.iconst 4, 1) := by decide +kernel
theorem dX0_init_38 : decode cX0_init 38 = .ok (.newarray .int, 2) := by decide +kernel
theorem dX0_init_40 : decode cX0_init 40 = .ok (.putfield 23, 3) := by decide +kernel
theorem dX0_init_43 : decode cX0_init 43 = .ok (.aload_n 0, 1) := by decide +kernel
theorem dX0_init_44 : decode cX0_init 44 = .ok (.sipush 512, 3) := by decide +kernel
theorem dX0_init_47 : decode cX0_init 47 = .ok (.newarray .int, 2) := by decide +kernel
theorem dX0_init_49 : decode cX0_init 49 = .ok (.putfield 26, 3) := by decide +kernel
theorem dX0_init_52 : decode cX0_init 52 = .ok (.aload_n 0, 1) := by decide +kernel
theorem dX0_init_53 : decode cX0_init 53 = .ok (.sipush 512, 3) := by decide +kernel
theorem dX0_init_56 : decode cX0_init 56 = .ok (.newarray .int, 2) := by decide +kernel
theorem dX0_init_58 : decode cX0_init 58 = .ok (.putfield 29, 3) := by decide +kernel
theorem dX0_init_61 : decode cX0_init 61 = .ok (.aload_n 0, 1) := by decide +kernel
theorem dX0_init_62 : decode cX0_init 62 = .ok (.sipush 512, 3) := by decide +kernel
theorem dX0_init_65 : decode cX0_init 65 = .ok (.newarray .int, 2) := by decide +kernel
theorem dX0_init_67 : decode cX0_init 67 = .ok (.putfield 32, 3) := by decide +kernel
theorem dX0_init_70 : decode cX0_init 70 = .ok (.aload_n 0, 1) := by decide +kernel
theorem dX0_init_71 : decode cX0_init 71 = .ok (.bipush 60, 2) := by decide +kernel
theorem dX0_init_73 : decode cX0_init 73 = .ok (.newarray .int, 2) := by decide +kernel
theorem dX0_init_75 : decode cX0_init 75 = .ok (.putfield 35, 3) := by decide +kernel
theorem dX0_init_78 : decode cX0_init 78 = .ok (.aload_n 0, 1) := by decide +kernel
theorem dX0_init_79 : decode cX0_init 79 = .ok (.iconst 0, 1) := by decide +kernel
theorem dX0_init_80 : decode cX0_init 80 = .ok (.putfield 38, 3) := by decide +kernel
theorem dX0_init_83 : decode cX0_init 83 = .ok (.return_, 1) := by decide +kernel
abbrev cX0_post : ByteArray := prog_1_method_2_code
def yX0_post : MethodName := ⟨RX0, "post", "(III)I"⟩
theorem dX0_post_0 : decode cX0_post 0 = .ok (.iload_n 1, 1) := by decide +kernel
theorem dX0_post_1 : decode cX0_post 1 = .ok (.invokestatic 42, 3) := by decide +kernel
theorem dX0_post_4 : decode cX0_post 4 = .ok (.ifCond .ne 5, 3) := by decide +kernel
theorem dX0_post_7 : decode cX0_post 7 = .ok (.iconst (-1), 1) := by decide +kernel
theorem dX0_post_8 : decode cX0_post 8 = .ok (.ireturn, 1) := by decide +kernel
theorem dX0_post_9 : decode cX0_post 9 = .ok (.iload_n 2, 1) := by decide +kernel
theorem dX0_post_10 : decode cX0_post 10 = .ok (.invokestatic 46, 3) := by decide +kernel
theorem dX0_post_13 : decode cX0_post 13 = .ok (.ifCond .ne 6, 3) := by decide +kernel
theorem dX0_post_16 : decode cX0_post 16 = .ok (.bipush (-2), 2) := by decide +kernel
theorem dX0_post_18 : decode cX0_post 18 = .ok (.ireturn, 1) := by decide +kernel
theorem dX0_post_19 : decode cX0_post 19 = .ok (.iload_n 3, 1) := by decide +kernel
theorem dX0_post_20 : decode cX0_post 20 = .ok (.ifCond .eq 17, 3) := by decide +kernel
theorem dX0_post_23 : decode cX0_post 23 = .ok (.iload_n 3, 1) := by decide +kernel
theorem dX0_post_24 : decode cX0_post 24 = .ok (.sipush (-10000), 3) := by decide +kernel
theorem dX0_post_27 : decode cX0_post 27 = .ok (.if_icmp .lt 10, 3) := by decide +kernel
theorem dX0_post_30 : decode cX0_post 30 = .ok (.iload_n 3, 1) := by decide +kernel
theorem dX0_post_31 : decode cX0_post 31 = .ok (.sipush 10000, 3) := by decide +kernel
theorem dX0_post_34 : decode cX0_post 34 = .ok (.if_icmp .le 6, 3) := by decide +kernel
theorem dX0_post_37 : decode cX0_post 37 = .ok (.bipush (-3), 2) := by decide +kernel
theorem dX0_post_39 : decode cX0_post 39 = .ok (.ireturn, 1) := by decide +kernel
theorem dX0_post_40 : decode cX0_post 40 = .ok (.aload_n 0, 1) := by decide +kernel
theorem dX0_post_41 : decode cX0_post 41 = .ok (.getfield 38, 3) := by decide +kernel
theorem dX0_post_44 : decode cX0_post 44 = .ok (.bipush 60, 2) := by decide +kernel
theorem dX0_post_46 : decode cX0_post 46 = .ok (.if_icmp .ne 6, 3) := by decide +kernel
theorem dX0_post_49 : decode cX0_post 49 = .ok (.bipush (-4), 2) := by decide +kernel
theorem dX0_post_51 : decode cX0_post 51 = .ok (.ireturn, 1) := by decide +kernel
theorem dX0_post_52 : decode cX0_post 52 = .ok (.aload_n 0, 1) := by decide +kernel
theorem dX0_post_53 : decode cX0_post 53 = .ok (.getfield 49, 3) := by decide +kernel
theorem dX0_post_56 : decode cX0_post 56 = .ok (.ifCond .ne 16, 3) := by decide +kernel
theorem dX0_post_59 : decode cX0_post 59 = .ok (.aload_n 0, 1) := by decide +kernel
theorem dX0_post_60 : decode cX0_post 60 = .ok (.iload_n 1, 1) := by decide +kernel
theorem dX0_post_61 : decode cX0_post 61 = .ok (.iload_n 2, 1) := by decide +kernel
theorem dX0_post_62 : decode cX0_post 62 = .ok (.iload_n 3, 1) := by decide +kernel
theorem dX0_post_63 : decode cX0_post 63 = .ok (.invokevirtual 53, 3) := by decide +kernel
theorem dX0_post_66 : decode cX0_post 66 = .ok (.ifCond .ne 6, 3) := by decide +kernel
theorem dX0_post_69 : decode cX0_post 69 = .ok (.bipush (-5), 2) := by decide +kernel
theorem dX0_post_71 : decode cX0_post 71 = .ok (.ireturn, 1) := by decide +kernel
theorem dX0_post_72 : decode cX0_post 72 = .ok (.aload_n 0, 1) := by decide +kernel
theorem dX0_post_73 : decode cX0_post 73 = .ok (.iload_n 1, 1) := by decide +kernel
theorem dX0_post_74 : decode cX0_post 74 = .ok (.iload_n 2, 1) := by decide +kernel
theorem dX0_post_75 : decode cX0_post 75 = .ok (.iload_n 3, 1) := by decide +kernel
theorem dX0_post_76 : decode cX0_post 76 = .ok (.invokevirtual 57, 3) := by decide +kernel
theorem dX0_post_79 : decode cX0_post 79 = .ok (.ireturn, 1) := by decide +kernel
abbrev cX0_isAccount : ByteArray := prog_1_method_20_code
def yX0_isAccount : MethodName := ⟨RX0, "isAccount", "(I)Z"⟩
theorem dX0_isAccount_0 : decode cX0_isAccount 0 = .ok (.iload_n 0, 1) := by decide +kernel
theorem dX0_isAccount_1 : decode cX0_isAccount 1 = .ok (.ifCond .lt 12, 3) := by decide +kernel
theorem dX0_isAccount_4 : decode cX0_isAccount 4 = .ok (.iload_n 0, 1) := by decide +kernel
theorem dX0_isAccount_5 : decode cX0_isAccount 5 = .ok (.iconst 4, 1) := by decide +kernel
theorem dX0_isAccount_6 : decode cX0_isAccount 6 = .ok (.if_icmp .ge 7, 3) := by decide +kernel
theorem dX0_isAccount_9 : decode cX0_isAccount 9 = .ok (.iconst 1, 1) := by decide +kernel
theorem dX0_isAccount_10 : decode cX0_isAccount 10 = .ok (.goto 4, 3) := by decide +kernel
theorem dX0_isAccount_13 : decode cX0_isAccount 13 = .ok (.iconst 0, 1) := by decide +kernel
theorem dX0_isAccount_14 : decode cX0_isAccount 14 = .ok (.ireturn, 1) := by decide +kernel
abbrev cX0_isDay : ByteArray := prog_1_method_21_code
def yX0_isDay : MethodName := ⟨RX0, "isDay", "(I)Z"⟩
theorem dX0_isDay_0 : decode cX0_isDay 0 = .ok (.iload_n 0, 1) := by decide +kernel
theorem dX0_isDay_1 : decode cX0_isDay 1 = .ok (.ifCond .lt 13, 3) := by decide +kernel
theorem dX0_isDay_4 : decode cX0_isDay 4 = .ok (.iload_n 0, 1) := by decide +kernel
theorem dX0_isDay_5 : decode cX0_isDay 5 = .ok (.bipush 48, 2) := by decide +kernel
theorem dX0_isDay_7 : decode cX0_isDay 7 = .ok (.if_icmp .ge 7, 3) := by decide +kernel
theorem dX0_isDay_10 : decode cX0_isDay 10 = .ok (.iconst 1, 1) := by decide +kernel
theorem dX0_isDay_11 : decode cX0_isDay 11 = .ok (.goto 4, 3) := by decide +kernel
theorem dX0_isDay_14 : decode cX0_isDay 14 = .ok (.iconst 0, 1) := by decide +kernel
theorem dX0_isDay_15 : decode cX0_isDay 15 = .ok (.ireturn, 1) := by decide +kernel
abbrev cX0_bears : ByteArray := prog_1_method_25_code
def yX0_bears : MethodName := ⟨RX0, "bears", "(III)Z"⟩
theorem dX0_bears_0 : decode cX0_bears 0 = .ok (.iload_n 3, 1) := by decide +kernel
theorem dX0_bears_1 : decode cX0_bears 1 = .ok (.ifCond .gt 22, 3) := by decide +kernel
theorem dX0_bears_4 : decode cX0_bears 4 = .ok (.aload_n 0, 1) := by decide +kernel
theorem dX0_bears_5 : decode cX0_bears 5 = .ok (.iload_n 1, 1) := by decide +kernel
theorem dX0_bears_6 : decode cX0_bears 6 = .ok (.iload_n 2, 1) := by decide +kernel
theorem dX0_bears_7 : decode cX0_bears 7 = .ok (.bipush 47, 2) := by decide +kernel
theorem dX0_bears_9 : decode cX0_bears 9 = .ok (.invokevirtual 93, 3) := by decide +kernel
theorem dX0_bears_12 : decode cX0_bears 12 = .ok (.iload_n 3, 1) := by decide +kernel
theorem dX0_bears_13 : decode cX0_bears 13 = .ok (.iadd, 1) := by decide +kernel
theorem dX0_bears_14 : decode cX0_bears 14 = .ok (.aload_n 0, 1) := by decide +kernel
theorem dX0_bears_15 : decode cX0_bears 15 = .ok (.getfield 23, 3) := by decide +kernel
theorem dX0_bears_18 : decode cX0_bears 18 = .ok (.iload_n 1, 1) := by decide +kernel
theorem dX0_bears_19 : decode cX0_bears 19 = .ok (.iaload, 1) := by decide +kernel
theorem dX0_bears_20 : decode cX0_bears 20 = .ok (.if_icmp .lt 7, 3) := by decide +kernel
theorem dX0_bears_23 : decode cX0_bears 23 = .ok (.iconst 1, 1) := by decide +kernel
theorem dX0_bears_24 : decode cX0_bears 24 = .ok (.goto 4, 3) := by decide +kernel
theorem dX0_bears_27 : decode cX0_bears 27 = .ok (.iconst 0, 1) := by decide +kernel
theorem dX0_bears_28 : decode cX0_bears 28 = .ok (.ireturn, 1) := by decide +kernel
abbrev cX0_lowestIn : ByteArray := prog_1_method_30_code
def yX0_lowestIn : MethodName := ⟨RX0, "lowestIn", "(III)I"⟩
theorem dX0_lowestIn_0 : decode cX0_lowestIn 0 = .ok (.aload_n 0, 1) := by decide +kernel
theorem dX0_lowestIn_1 : decode cX0_lowestIn 1 = .ok (.iload_n 1, 1) := by decide +kernel
theorem dX0_lowestIn_2 : decode cX0_lowestIn 2 = .ok (.iconst 0, 1) := by decide +kernel
theorem dX0_lowestIn_3 : decode cX0_lowestIn 3 = .ok (.iload_n 2, 1) := by decide +kernel
theorem dX0_lowestIn_4 : decode cX0_lowestIn 4 = .ok (.iconst 1, 1) := by decide +kernel
theorem dX0_lowestIn_5 : decode cX0_lowestIn 5 = .ok (.isub, 1) := by decide +kernel
theorem dX0_lowestIn_6 : decode cX0_lowestIn 6 = .ok (.invokevirtual 71, 3) := by decide +kernel
theorem dX0_lowestIn_9 : decode cX0_lowestIn 9 = .ok (.aload_n 0, 1) := by decide +kernel
theorem dX0_lowestIn_10 : decode cX0_lowestIn 10 = .ok (.getfield 85, 3) := by decide +kernel
theorem dX0_lowestIn_13 : decode cX0_lowestIn 13 = .ok (.istore 4, 2) := by decide +kernel
theorem dX0_lowestIn_15 : decode cX0_lowestIn 15 = .ok (.aload_n 0, 1) := by decide +kernel
theorem dX0_lowestIn_16 : decode cX0_lowestIn 16 = .ok (.iload_n 1, 1) := by decide +kernel
theorem dX0_lowestIn_17 : decode cX0_lowestIn 17 = .ok (.iload_n 2, 1) := by decide +kernel
theorem dX0_lowestIn_18 : decode cX0_lowestIn 18 = .ok (.iload_n 3, 1) := by decide +kernel
theorem dX0_lowestIn_19 : decode cX0_lowestIn 19 = .ok (.invokevirtual 71, 3) := by decide +kernel
theorem dX0_lowestIn_22 : decode cX0_lowestIn 22 = .ok (.iload 4, 2) := by decide +kernel
theorem dX0_lowestIn_24 : decode cX0_lowestIn 24 = .ok (.aload_n 0, 1) := by decide +kernel
theorem dX0_lowestIn_25 : decode cX0_lowestIn 25 = .ok (.getfield 74, 3) := by decide +kernel
theorem dX0_lowestIn_28 : decode cX0_lowestIn 28 = .ok (.iadd, 1) := by decide +kernel
theorem dX0_lowestIn_29 : decode cX0_lowestIn 29 = .ok (.ireturn, 1) := by decide +kernel
abbrev cX0_walk : ByteArray := prog_1_method_28_code
def yX0_walk : MethodName := ⟨RX0, "walk", "(III)V"⟩
theorem dX0_walk_0 : decode cX0_walk 0 = .ok (.sipush 128, 3) := by decide +kernel
theorem dX0_walk_3 : decode cX0_walk 3 = .ok (.iload_n 1, 1) := by decide +kernel
theorem dX0_walk_4 : decode cX0_walk 4 = .ok (.imul, 1) := by decide +kernel
theorem dX0_walk_5 : decode cX0_walk 5 = .ok (.istore 4, 2) := by decide +kernel
theorem dX0_walk_7 : decode cX0_walk 7 = .ok (.iload_n 2, 1) := by decide +kernel
theorem dX0_walk_8 : decode cX0_walk 8 = .ok (.istore 5, 2) := by decide +kernel
theorem dX0_walk_10 : decode cX0_walk 10 = .ok (.aload_n 0, 1) := by decide +kernel
theorem dX0_walk_11 : decode cX0_walk 11 = .ok (.iconst 0, 1) := by decide +kernel
theorem dX0_walk_12 : decode cX0_walk 12 = .ok (.putfield 85, 3) := by decide +kernel
theorem dX0_walk_15 : decode cX0_walk 15 = .ok (.aload_n 0, 1) := by decide +kernel
theorem dX0_walk_16 : decode cX0_walk 16 = .ok (.ldc 108, 2) := by decide +kernel
theorem dX0_walk_18 : decode cX0_walk 18 = .ok (.putfield 74, 3) := by decide +kernel
theorem dX0_walk_21 : decode cX0_walk 21 = .ok (.aload_n 0, 1) := by decide +kernel
theorem dX0_walk_22 : decode cX0_walk 22 = .ok (.iconst 0, 1) := by decide +kernel
theorem dX0_walk_23 : decode cX0_walk 23 = .ok (.putfield 97, 3) := by decide +kernel
theorem dX0_walk_26 : decode cX0_walk 26 = .ok (.iconst 0, 1) := by decide +kernel
theorem dX0_walk_27 : decode cX0_walk 27 = .ok (.istore 6, 2) := by decide +kernel
theorem dX0_walk_29 : decode cX0_walk 29 = .ok (.iload 6, 2) := by decide +kernel
theorem dX0_walk_31 : decode cX0_walk 31 = .ok (.bipush 14, 2) := by decide +kernel
theorem dX0_walk_33 : decode cX0_walk 33 = .ok (.if_icmp .ge 121, 3) := by decide +kernel
theorem dX0_walk_36 : decode cX0_walk 36 = .ok (.iload 5, 2) := by decide +kernel
theorem dX0_walk_38 : decode cX0_walk 38 = .ok (.iload_n 3, 1) := by decide +kernel
theorem dX0_walk_39 : decode cX0_walk 39 = .ok (.if_icmp .gt 115, 3) := by decide +kernel
theorem dX0_walk_42 : decode cX0_walk 42 = .ok (.iload 5, 2) := by decide +kernel
theorem dX0_walk_44 : decode cX0_walk 44 = .ok (.iload_n 3, 1) := by decide +kernel
theorem dX0_walk_45 : decode cX0_walk 45 = .ok (.invokestatic 109, 3) := by decide +kernel
theorem dX0_walk_48 : decode cX0_walk 48 = .ok (.istore 7, 2) := by decide +kernel
theorem dX0_walk_50 : decode cX0_walk 50 = .ok (.iload 4, 2) := by decide +kernel
theorem dX0_walk_52 : decode cX0_walk 52 = .ok (.bipush 64, 2) := by decide +kernel
theorem dX0_walk_54 : decode cX0_walk 54 = .ok (.iload 5, 2) := by decide +kernel
theorem dX0_walk_56 : decode cX0_walk 56 = .ok (.iadd, 1) := by decide +kernel
theorem dX0_walk_57 : decode cX0_walk 57 = .ok (.iload 7, 2) := by decide +kernel
theorem dX0_walk_59 : decode cX0_walk 59 = .ok (.ishr, 1) := by decide +kernel
theorem dX0_walk_60 : decode cX0_walk 60 = .ok (.iadd, 1) := by decide +kernel
theorem dX0_walk_61 : decode cX0_walk 61 = .ok (.istore 8, 2) := by decide +kernel
theorem dX0_walk_63 : decode cX0_walk 63 = .ok (.aload_n 0, 1) := by decide +kernel
theorem dX0_walk_64 : decode cX0_walk 64 = .ok (.getfield 85, 3) := by decide +kernel
theorem dX0_walk_67 : decode cX0_walk 67 = .ok (.aload_n 0, 1) := by decide +kernel
theorem dX0_walk_68 : decode cX0_walk 68 = .ok (.getfield 29, 3) := by decide +kernel
theorem dX0_walk_71 : decode cX0_walk 71 = .ok (.iload 8, 2) := by decide +kernel
theorem dX0_walk_73 : decode cX0_walk 73 = .ok (.iaload, 1) := by decide +kernel
theorem dX0_walk_74 : decode cX0_walk 74 = .ok (.iadd, 1) := by decide +kernel
theorem dX0_walk_75 : decode cX0_walk 75 = .ok (.istore 9, 2) := by decide +kernel
theorem dX0_walk_77 : decode cX0_walk 77 = .ok (.aload_n 0, 1) := by decide +kernel
theorem dX0_walk_78 : decode cX0_walk 78 = .ok (.iload 9, 2) := by decide +kernel
theorem dX0_walk_80 : decode cX0_walk 80 = .ok (.aload_n 0, 1) := by decide +kernel
theorem dX0_walk_81 : decode cX0_walk 81 = .ok (.getfield 74, 3) := by decide +kernel
theorem dX0_walk_84 : decode cX0_walk 84 = .ok (.if_icmp .ge 8, 3) := by decide +kernel
theorem dX0_walk_87 : decode cX0_walk 87 = .ok (.iload 9, 2) := by decide +kernel
theorem dX0_walk_89 : decode cX0_walk 89 = .ok (.goto 7, 3) := by decide +kernel
theorem dX0_walk_92 : decode cX0_walk 92 = .ok (.aload_n 0, 1) := by decide +kernel
theorem dX0_walk_93 : decode cX0_walk 93 = .ok (.getfield 74, 3) := by decide +kernel
theorem dX0_walk_96 : decode cX0_walk 96 = .ok (.putfield 74, 3) := by decide +kernel
theorem dX0_walk_99 : decode cX0_walk 99 = .ok (.aload_n 0, 1) := by decide +kernel
theorem dX0_walk_100 : decode cX0_walk 100 = .ok (.dup, 1) := by decide +kernel
theorem dX0_walk_101 : decode cX0_walk 101 = .ok (.getfield 97, 3) := by decide +kernel
theorem dX0_walk_104 : decode cX0_walk 104 = .ok (.aload_n 0, 1) := by decide +kernel
theorem dX0_walk_105 : decode cX0_walk 105 = .ok (.getfield 32, 3) := by decide +kernel
theorem dX0_walk_108 : decode cX0_walk 108 = .ok (.iload 8, 2) := by decide +kernel
theorem dX0_walk_110 : decode cX0_walk 110 = .ok (.iaload, 1) := by decide +kernel
theorem dX0_walk_111 : decode cX0_walk 111 = .ok (.aload_n 0, 1) := by decide +kernel
theorem dX0_walk_112 : decode cX0_walk 112 = .ok (.getfield 85, 3) := by decide +kernel
theorem dX0_walk_115 : decode cX0_walk 115 = .ok (.iload 7, 2) := by decide +kernel
theorem dX0_walk_117 : decode cX0_walk 117 = .ok (.ishl, 1) := by decide +kernel
theorem dX0_walk_118 : decode cX0_walk 118 = .ok (.iadd, 1) := by decide +kernel
theorem dX0_walk_119 : decode cX0_walk 119 = .ok (.iadd, 1) := by decide +kernel
theorem dX0_walk_120 : decode cX0_walk 120 = .ok (.putfield 97, 3) := by decide +kernel
theorem dX0_walk_123 : decode cX0_walk 123 = .ok (.aload_n 0, 1) := by decide +kernel
theorem dX0_walk_124 : decode cX0_walk 124 = .ok (.dup, 1) := by decide +kernel
theorem dX0_walk_125 : decode cX0_walk 125 = .ok (.getfield 85, 3) := by decide +kernel
theorem dX0_walk_128 : decode cX0_walk 128 = .ok (.aload_n 0, 1) := by decide +kernel
theorem dX0_walk_129 : decode cX0_walk 129 = .ok (.getfield 26, 3) := by decide +kernel
theorem dX0_walk_132 : decode cX0_walk 132 = .ok (.iload 8, 2) := by decide +kernel
theorem dX0_walk_134 : decode cX0_walk 134 = .ok (.iaload, 1) := by decide +kernel
theorem dX0_walk_135 : decode cX0_walk 135 = .ok (.iadd, 1) := by decide +kernel
theorem dX0_walk_136 : decode cX0_walk 136 = .ok (.putfield 85, 3) := by decide +kernel
theorem dX0_walk_139 : decode cX0_walk 139 = .ok (.iload 5, 2) := by decide +kernel
theorem dX0_walk_141 : decode cX0_walk 141 = .ok (.iconst 1, 1) := by decide +kernel
theorem dX0_walk_142 : decode cX0_walk 142 = .ok (.iload 7, 2) := by decide +kernel
theorem dX0_walk_144 : decode cX0_walk 144 = .ok (.ishl, 1) := by decide +kernel
theorem dX0_walk_145 : decode cX0_walk 145 = .ok (.iadd, 1) := by decide +kernel
theorem dX0_walk_146 : decode cX0_walk 146 = .ok (.istore 5, 2) := by decide +kernel
theorem dX0_walk_148 : decode cX0_walk 148 = .ok (.iinc 6 1, 3) := by decide +kernel
theorem dX0_walk_151 : decode cX0_walk 151 = .ok (.goto (-122), 3) := by decide +kernel
theorem dX0_walk_154 : decode cX0_walk 154 = .ok (.return_, 1) := by decide +kernel
abbrev cX0_widest : ByteArray := prog_1_method_29_code
def yX0_widest : MethodName := ⟨RX0, "widest", "(II)I"⟩
theorem dX0_widest_0 : decode cX0_widest 0 = .ok (.iconst 0, 1) := by decide +kernel
theorem dX0_widest_1 : decode cX0_widest 1 = .ok (.istore_n 2, 1) := by decide +kernel
theorem dX0_widest_2 : decode cX0_widest 2 = .ok (.iload_n 2, 1) := by decide +kernel
theorem dX0_widest_3 : decode cX0_widest 3 = .ok (.bipush 6, 2) := by decide +kernel
theorem dX0_widest_5 : decode cX0_widest 5 = .ok (.if_icmp .ge 28, 3) := by decide +kernel
theorem dX0_widest_8 : decode cX0_widest 8 = .ok (.iload_n 0, 1) := by decide +kernel
theorem dX0_widest_9 : decode cX0_widest 9 = .ok (.iload_n 2, 1) := by decide +kernel
theorem dX0_widest_10 : decode cX0_widest 10 = .ok (.ishr, 1) := by decide +kernel
theorem dX0_widest_11 : decode cX0_widest 11 = .ok (.iconst 1, 1) := by decide +kernel
theorem dX0_widest_12 : decode cX0_widest 12 = .ok (.iand, 1) := by decide +kernel
theorem dX0_widest_13 : decode cX0_widest 13 = .ok (.ifCond .ne 20, 3) := by decide +kernel
theorem dX0_widest_16 : decode cX0_widest 16 = .ok (.iload_n 0, 1) := by decide +kernel
theorem dX0_widest_17 : decode cX0_widest 17 = .ok (.iconst 2, 1) := by decide +kernel
theorem dX0_widest_18 : decode cX0_widest 18 = .ok (.iload_n 2, 1) := by decide +kernel
theorem dX0_widest_19 : decode cX0_widest 19 = .ok (.ishl, 1) := by decide +kernel
theorem dX0_widest_20 : decode cX0_widest 20 = .ok (.iadd, 1) := by decide +kernel
theorem dX0_widest_21 : decode cX0_widest 21 = .ok (.iconst 1, 1) := by decide +kernel
theorem dX0_widest_22 : decode cX0_widest 22 = .ok (.isub, 1) := by decide +kernel
theorem dX0_widest_23 : decode cX0_widest 23 = .ok (.iload_n 1, 1) := by decide +kernel
theorem dX0_widest_24 : decode cX0_widest 24 = .ok (.if_icmp .gt 9, 3) := by decide +kernel
theorem dX0_widest_27 : decode cX0_widest 27 = .ok (.iinc 2 1, 3) := by decide +kernel
theorem dX0_widest_30 : decode cX0_widest 30 = .ok (.goto (-28), 3) := by decide +kernel
theorem dX0_widest_33 : decode cX0_widest 33 = .ok (.iload_n 2, 1) := by decide +kernel
theorem dX0_widest_34 : decode cX0_widest 34 = .ok (.ireturn, 1) := by decide +kernel
abbrev cX0_enter : ByteArray := prog_1_method_26_code
def yX0_enter : MethodName := ⟨RX0, "enter", "(III)I"⟩
theorem dX0_enter_0 : decode cX0_enter 0 = .ok (.aload_n 0, 1) := by decide +kernel
theorem dX0_enter_1 : decode cX0_enter 1 = .ok (.getfield 7, 3) := by decide +kernel
theorem dX0_enter_4 : decode cX0_enter 4 = .ok (.aload_n 0, 1) := by decide +kernel
theorem dX0_enter_5 : decode cX0_enter 5 = .ok (.getfield 38, 3) := by decide +kernel
theorem dX0_enter_8 : decode cX0_enter 8 = .ok (.iload_n 1, 1) := by decide +kernel
theorem dX0_enter_9 : decode cX0_enter 9 = .ok (.iastore, 1) := by decide +kernel
theorem dX0_enter_10 : decode cX0_enter 10 = .ok (.aload_n 0, 1) := by decide +kernel
theorem dX0_enter_11 : decode cX0_enter 11 = .ok (.getfield 13, 3) := by decide +kernel
theorem dX0_enter_14 : decode cX0_enter 14 = .ok (.aload_n 0, 1) := by decide +kernel
theorem dX0_enter_15 : decode cX0_enter 15 = .ok (.getfield 38, 3) := by decide +kernel
theorem dX0_enter_18 : decode cX0_enter 18 = .ok (.iload_n 2, 1) := by decide +kernel
theorem dX0_enter_19 : decode cX0_enter 19 = .ok (.iastore, 1) := by decide +kernel
theorem dX0_enter_20 : decode cX0_enter 20 = .ok (.aload_n 0, 1) := by decide +kernel
theorem dX0_enter_21 : decode cX0_enter 21 = .ok (.getfield 16, 3) := by decide +kernel
theorem dX0_enter_24 : decode cX0_enter 24 = .ok (.aload_n 0, 1) := by decide +kernel
theorem dX0_enter_25 : decode cX0_enter 25 = .ok (.getfield 38, 3) := by decide +kernel
theorem dX0_enter_28 : decode cX0_enter 28 = .ok (.iload_n 3, 1) := by decide +kernel
theorem dX0_enter_29 : decode cX0_enter 29 = .ok (.iastore, 1) := by decide +kernel
theorem dX0_enter_30 : decode cX0_enter 30 = .ok (.aload_n 0, 1) := by decide +kernel
theorem dX0_enter_31 : decode cX0_enter 31 = .ok (.getfield 19, 3) := by decide +kernel
theorem dX0_enter_34 : decode cX0_enter 34 = .ok (.aload_n 0, 1) := by decide +kernel
theorem dX0_enter_35 : decode cX0_enter 35 = .ok (.getfield 38, 3) := by decide +kernel
theorem dX0_enter_38 : decode cX0_enter 38 = .ok (.iconst 0, 1) := by decide +kernel
theorem dX0_enter_39 : decode cX0_enter 39 = .ok (.bastore, 1) := by decide +kernel
theorem dX0_enter_40 : decode cX0_enter 40 = .ok (.aload_n 0, 1) := by decide +kernel
theorem dX0_enter_41 : decode cX0_enter 41 = .ok (.iload_n 1, 1) := by decide +kernel
theorem dX0_enter_42 : decode cX0_enter 42 = .ok (.iload_n 2, 1) := by decide +kernel
theorem dX0_enter_43 : decode cX0_enter 43 = .ok (.iload_n 3, 1) := by decide +kernel
theorem dX0_enter_44 : decode cX0_enter 44 = .ok (.invokevirtual 64, 3) := by decide +kernel
theorem dX0_enter_47 : decode cX0_enter 47 = .ok (.aload_n 0, 1) := by decide +kernel
theorem dX0_enter_48 : decode cX0_enter 48 = .ok (.dup, 1) := by decide +kernel
theorem dX0_enter_49 : decode cX0_enter 49 = .ok (.getfield 38, 3) := by decide +kernel
theorem dX0_enter_52 : decode cX0_enter 52 = .ok (.iconst 1, 1) := by decide +kernel
theorem dX0_enter_53 : decode cX0_enter 53 = .ok (.iadd, 1) := by decide +kernel
theorem dX0_enter_54 : decode cX0_enter 54 = .ok (.putfield 38, 3) := by decide +kernel
theorem dX0_enter_57 : decode cX0_enter 57 = .ok (.aload_n 0, 1) := by decide +kernel
theorem dX0_enter_58 : decode cX0_enter 58 = .ok (.getfield 38, 3) := by decide +kernel
theorem dX0_enter_61 : decode cX0_enter 61 = .ok (.iconst 1, 1) := by decide +kernel
theorem dX0_enter_62 : decode cX0_enter 62 = .ok (.isub, 1) := by decide +kernel
theorem dX0_enter_63 : decode cX0_enter 63 = .ok (.ireturn, 1) := by decide +kernel
end
section
set_option maxRecDepth 100000
abbrev cX0_add : ByteArray := prog_1_method_27_code
def yX0_add : MethodName := ⟨RX0, "add", "(III)V"⟩
theorem dX0_add_0 : decode cX0_add 0 = .ok (.sipush 128, 3) := by decide +kernel
theorem dX0_add_3 : decode cX0_add 3 = .ok (.iload_n 1, 1) := by decide +kernel
theorem dX0_add_4 : decode cX0_add 4 = .ok (.imul, 1) := by decide +kernel
theorem dX0_add_5 : decode cX0_add 5 = .ok (.istore 4, 2) := by decide +kernel
theorem dX0_add_7 : decode cX0_add 7 = .ok (.bipush 64, 2) := by decide +kernel
theorem dX0_add_9 : decode cX0_add 9 = .ok (.iload_n 2, 1) := by decide +kernel
theorem dX0_add_10 : decode cX0_add 10 = .ok (.iadd, 1) := by decide +kernel
theorem dX0_add_11 : decode cX0_add 11 = .ok (.istore 5, 2) := by decide +kernel
theorem dX0_add_13 : decode cX0_add 13 = .ok (.aload_n 0, 1) := by decide +kernel
theorem dX0_add_14 : decode cX0_add 14 = .ok (.getfield 26, 3) := by decide +kernel
theorem dX0_add_17 : decode cX0_add 17 = .ok (.iload 4, 2) := by decide +kernel
theorem dX0_add_19 : decode cX0_add 19 = .ok (.iload 5, 2) := by decide +kernel
theorem dX0_add_21 : decode cX0_add 21 = .ok (.iadd, 1) := by decide +kernel
theorem dX0_add_22 : decode cX0_add 22 = .ok (.dup2, 1) := by decide +kernel
theorem dX0_add_23 : decode cX0_add 23 = .ok (.iaload, 1) := by decide +kernel
theorem dX0_add_24 : decode cX0_add 24 = .ok (.iload_n 3, 1) := by decide +kernel
theorem dX0_add_25 : decode cX0_add 25 = .ok (.iadd, 1) := by decide +kernel
theorem dX0_add_26 : decode cX0_add 26 = .ok (.iastore, 1) := by decide +kernel
theorem dX0_add_27 : decode cX0_add 27 = .ok (.aload_n 0, 1) := by decide +kernel
theorem dX0_add_28 : decode cX0_add 28 = .ok (.getfield 29, 3) := by decide +kernel
theorem dX0_add_31 : decode cX0_add 31 = .ok (.iload 4, 2) := by decide +kernel
theorem dX0_add_33 : decode cX0_add 33 = .ok (.iload 5, 2) := by decide +kernel
theorem dX0_add_35 : decode cX0_add 35 = .ok (.iadd, 1) := by decide +kernel
theorem dX0_add_36 : decode cX0_add 36 = .ok (.aload_n 0, 1) := by decide +kernel
theorem dX0_add_37 : decode cX0_add 37 = .ok (.getfield 26, 3) := by decide +kernel
theorem dX0_add_40 : decode cX0_add 40 = .ok (.iload 4, 2) := by decide +kernel
theorem dX0_add_42 : decode cX0_add 42 = .ok (.iload 5, 2) := by decide +kernel
theorem dX0_add_44 : decode cX0_add 44 = .ok (.iadd, 1) := by decide +kernel
theorem dX0_add_45 : decode cX0_add 45 = .ok (.iaload, 1) := by decide +kernel
theorem dX0_add_46 : decode cX0_add 46 = .ok (.iastore, 1) := by decide +kernel
theorem dX0_add_47 : decode cX0_add 47 = .ok (.aload_n 0, 1) := by decide +kernel
theorem dX0_add_48 : decode cX0_add 48 = .ok (.getfield 32, 3) := by decide +kernel
theorem dX0_add_51 : decode cX0_add 51 = .ok (.iload 4, 2) := by decide +kernel
theorem dX0_add_53 : decode cX0_add 53 = .ok (.iload 5, 2) := by decide +kernel
theorem dX0_add_55 : decode cX0_add 55 = .ok (.iadd, 1) := by decide +kernel
theorem dX0_add_56 : decode cX0_add 56 = .ok (.aload_n 0, 1) := by decide +kernel
theorem dX0_add_57 : decode cX0_add 57 = .ok (.getfield 26, 3) := by decide +kernel
theorem dX0_add_60 : decode cX0_add 60 = .ok (.iload 4, 2) := by decide +kernel
theorem dX0_add_62 : decode cX0_add 62 = .ok (.iload 5, 2) := by decide +kernel
theorem dX0_add_64 : decode cX0_add 64 = .ok (.iadd, 1) := by decide +kernel
theorem dX0_add_65 : decode cX0_add 65 = .ok (.iaload, 1) := by decide +kernel
theorem dX0_add_66 : decode cX0_add 66 = .ok (.iastore, 1) := by decide +kernel
theorem dX0_add_67 : decode cX0_add 67 = .ok (.iconst 1, 1) := by decide +kernel
theorem dX0_add_68 : decode cX0_add 68 = .ok (.istore 6, 2) := by decide +kernel
theorem dX0_add_70 : decode cX0_add 70 = .ok (.iconst 0, 1) := by decide +kernel
theorem dX0_add_71 : decode cX0_add 71 = .ok (.istore 7, 2) := by decide +kernel
theorem dX0_add_73 : decode cX0_add 73 = .ok (.iload 7, 2) := by decide +kernel
theorem dX0_add_75 : decode cX0_add 75 = .ok (.bipush 6, 2) := by decide +kernel
theorem dX0_add_77 : decode cX0_add 77 = .ok (.if_icmp .ge 148, 3) := by decide +kernel
theorem dX0_add_80 : decode cX0_add 80 = .ok (.iload 5, 2) := by decide +kernel
theorem dX0_add_82 : decode cX0_add 82 = .ok (.iconst 1, 1) := by decide +kernel
theorem dX0_add_83 : decode cX0_add 83 = .ok (.ishr, 1) := by decide +kernel
theorem dX0_add_84 : decode cX0_add 84 = .ok (.istore 5, 2) := by decide +kernel
theorem dX0_add_86 : decode cX0_add 86 = .ok (.iload 4, 2) := by decide +kernel
theorem dX0_add_88 : decode cX0_add 88 = .ok (.iconst 2, 1) := by decide +kernel
theorem dX0_add_89 : decode cX0_add 89 = .ok (.iload 5, 2) := by decide +kernel
theorem dX0_add_91 : decode cX0_add 91 = .ok (.imul, 1) := by decide +kernel
theorem dX0_add_92 : decode cX0_add 92 = .ok (.iadd, 1) := by decide +kernel
theorem dX0_add_93 : decode cX0_add 93 = .ok (.istore 8, 2) := by decide +kernel
theorem dX0_add_95 : decode cX0_add 95 = .ok (.aload_n 0, 1) := by decide +kernel
theorem dX0_add_96 : decode cX0_add 96 = .ok (.getfield 26, 3) := by decide +kernel
theorem dX0_add_99 : decode cX0_add 99 = .ok (.iload 8, 2) := by decide +kernel
theorem dX0_add_101 : decode cX0_add 101 = .ok (.iaload, 1) := by decide +kernel
theorem dX0_add_102 : decode cX0_add 102 = .ok (.aload_n 0, 1) := by decide +kernel
theorem dX0_add_103 : decode cX0_add 103 = .ok (.getfield 29, 3) := by decide +kernel
theorem dX0_add_106 : decode cX0_add 106 = .ok (.iload 8, 2) := by decide +kernel
theorem dX0_add_108 : decode cX0_add 108 = .ok (.iconst 1, 1) := by decide +kernel
theorem dX0_add_109 : decode cX0_add 109 = .ok (.iadd, 1) := by decide +kernel
theorem dX0_add_110 : decode cX0_add 110 = .ok (.iaload, 1) := by decide +kernel
theorem dX0_add_111 : decode cX0_add 111 = .ok (.iadd, 1) := by decide +kernel
theorem dX0_add_112 : decode cX0_add 112 = .ok (.istore 9, 2) := by decide +kernel
theorem dX0_add_114 : decode cX0_add 114 = .ok (.aload_n 0, 1) := by decide +kernel
theorem dX0_add_115 : decode cX0_add 115 = .ok (.getfield 26, 3) := by decide +kernel
theorem dX0_add_118 : decode cX0_add 118 = .ok (.iload 4, 2) := by decide +kernel
theorem dX0_add_120 : decode cX0_add 120 = .ok (.iload 5, 2) := by decide +kernel
theorem dX0_add_122 : decode cX0_add 122 = .ok (.iadd, 1) := by decide +kernel
theorem dX0_add_123 : decode cX0_add 123 = .ok (.aload_n 0, 1) := by decide +kernel
theorem dX0_add_124 : decode cX0_add 124 = .ok (.getfield 26, 3) := by decide +kernel
theorem dX0_add_127 : decode cX0_add 127 = .ok (.iload 8, 2) := by decide +kernel
theorem dX0_add_129 : decode cX0_add 129 = .ok (.iaload, 1) := by decide +kernel
theorem dX0_add_130 : decode cX0_add 130 = .ok (.aload_n 0, 1) := by decide +kernel
theorem dX0_add_131 : decode cX0_add 131 = .ok (.getfield 26, 3) := by decide +kernel
theorem dX0_add_134 : decode cX0_add 134 = .ok (.iload 8, 2) := by decide +kernel
theorem dX0_add_136 : decode cX0_add 136 = .ok (.iconst 1, 1) := by decide +kernel
theorem dX0_add_137 : decode cX0_add 137 = .ok (.iadd, 1) := by decide +kernel
theorem dX0_add_138 : decode cX0_add 138 = .ok (.iaload, 1) := by decide +kernel
theorem dX0_add_139 : decode cX0_add 139 = .ok (.iadd, 1) := by decide +kernel
theorem dX0_add_140 : decode cX0_add 140 = .ok (.iastore, 1) := by decide +kernel
theorem dX0_add_141 : decode cX0_add 141 = .ok (.aload_n 0, 1) := by decide +kernel
theorem dX0_add_142 : decode cX0_add 142 = .ok (.getfield 29, 3) := by decide +kernel
theorem dX0_add_145 : decode cX0_add 145 = .ok (.iload 4, 2) := by decide +kernel
theorem dX0_add_147 : decode cX0_add 147 = .ok (.iload 5, 2) := by decide +kernel
theorem dX0_add_149 : decode cX0_add 149 = .ok (.iadd, 1) := by decide +kernel
theorem dX0_add_150 : decode cX0_add 150 = .ok (.aload_n 0, 1) := by decide +kernel
theorem dX0_add_151 : decode cX0_add 151 = .ok (.getfield 29, 3) := by decide +kernel
theorem dX0_add_154 : decode cX0_add 154 = .ok (.iload 8, 2) := by decide +kernel
theorem dX0_add_156 : decode cX0_add 156 = .ok (.iaload, 1) := by decide +kernel
theorem dX0_add_157 : decode cX0_add 157 = .ok (.iload 9, 2) := by decide +kernel
theorem dX0_add_159 : decode cX0_add 159 = .ok (.if_icmp .ge 13, 3) := by decide +kernel
theorem dX0_add_162 : decode cX0_add 162 = .ok (.aload_n 0, 1) := by decide +kernel
theorem dX0_add_163 : decode cX0_add 163 = .ok (.getfield 29, 3) := by decide +kernel
theorem dX0_add_166 : decode cX0_add 166 = .ok (.iload 8, 2) := by decide +kernel
theorem dX0_add_168 : decode cX0_add 168 = .ok (.iaload, 1) := by decide +kernel
theorem dX0_add_169 : decode cX0_add 169 = .ok (.goto 5, 3) := by decide +kernel
theorem dX0_add_172 : decode cX0_add 172 = .ok (.iload 9, 2) := by decide +kernel
theorem dX0_add_174 : decode cX0_add 174 = .ok (.iastore, 1) := by decide +kernel
theorem dX0_add_175 : decode cX0_add 175 = .ok (.aload_n 0, 1) := by decide +kernel
theorem dX0_add_176 : decode cX0_add 176 = .ok (.getfield 32, 3) := by decide +kernel
theorem dX0_add_179 : decode cX0_add 179 = .ok (.iload 4, 2) := by decide +kernel
theorem dX0_add_181 : decode cX0_add 181 = .ok (.iload 5, 2) := by decide +kernel
theorem dX0_add_183 : decode cX0_add 183 = .ok (.iadd, 1) := by decide +kernel
theorem dX0_add_184 : decode cX0_add 184 = .ok (.aload_n 0, 1) := by decide +kernel
theorem dX0_add_185 : decode cX0_add 185 = .ok (.getfield 32, 3) := by decide +kernel
theorem dX0_add_188 : decode cX0_add 188 = .ok (.iload 8, 2) := by decide +kernel
theorem dX0_add_190 : decode cX0_add 190 = .ok (.iaload, 1) := by decide +kernel
theorem dX0_add_191 : decode cX0_add 191 = .ok (.aload_n 0, 1) := by decide +kernel
theorem dX0_add_192 : decode cX0_add 192 = .ok (.getfield 32, 3) := by decide +kernel
theorem dX0_add_195 : decode cX0_add 195 = .ok (.iload 8, 2) := by decide +kernel
theorem dX0_add_197 : decode cX0_add 197 = .ok (.iconst 1, 1) := by decide +kernel
theorem dX0_add_198 : decode cX0_add 198 = .ok (.iadd, 1) := by decide +kernel
theorem dX0_add_199 : decode cX0_add 199 = .ok (.iaload, 1) := by decide +kernel
theorem dX0_add_200 : decode cX0_add 200 = .ok (.iadd, 1) := by decide +kernel
theorem dX0_add_201 : decode cX0_add 201 = .ok (.aload_n 0, 1) := by decide +kernel
theorem dX0_add_202 : decode cX0_add 202 = .ok (.getfield 26, 3) := by decide +kernel
theorem dX0_add_205 : decode cX0_add 205 = .ok (.iload 8, 2) := by decide +kernel
theorem dX0_add_207 : decode cX0_add 207 = .ok (.iaload, 1) := by decide +kernel
theorem dX0_add_208 : decode cX0_add 208 = .ok (.iload 6, 2) := by decide +kernel
theorem dX0_add_210 : decode cX0_add 210 = .ok (.imul, 1) := by decide +kernel
theorem dX0_add_211 : decode cX0_add 211 = .ok (.iadd, 1) := by decide +kernel
theorem dX0_add_212 : decode cX0_add 212 = .ok (.iastore, 1) := by decide +kernel
theorem dX0_add_213 : decode cX0_add 213 = .ok (.iconst 2, 1) := by decide +kernel
theorem dX0_add_214 : decode cX0_add 214 = .ok (.iload 6, 2) := by decide +kernel
theorem dX0_add_216 : decode cX0_add 216 = .ok (.imul, 1) := by decide +kernel
theorem dX0_add_217 : decode cX0_add 217 = .ok (.istore 6, 2) := by decide +kernel
theorem dX0_add_219 : decode cX0_add 219 = .ok (.iinc 7 1, 3) := by decide +kernel
theorem dX0_add_222 : decode cX0_add 222 = .ok (.goto (-149), 3) := by decide +kernel
theorem dX0_add_225 : decode cX0_add 225 = .ok (.return_, 1) := by decide +kernel
abbrev cX0_transfer : ByteArray := prog_1_method_3_code
def yX0_transfer : MethodName := ⟨RX0, "transfer", "(III)I"⟩
theorem dX0_transfer_0 : decode cX0_transfer 0 = .ok (.iload_n 1, 1) := by decide +kernel
theorem dX0_transfer_1 : decode cX0_transfer 1 = .ok (.iconst 2, 1) := by decide +kernel
theorem dX0_transfer_2 : decode cX0_transfer 2 = .ok (.ishr, 1) := by decide +kernel
theorem dX0_transfer_3 : decode cX0_transfer 3 = .ok (.istore 4, 2) := by decide +kernel
theorem dX0_transfer_5 : decode cX0_transfer 5 = .ok (.iload_n 1, 1) := by decide +kernel
theorem dX0_transfer_6 : decode cX0_transfer 6 = .ok (.iconst 3, 1) := by decide +kernel
theorem dX0_transfer_7 : decode cX0_transfer 7 = .ok (.iand, 1) := by decide +kernel
theorem dX0_transfer_8 : decode cX0_transfer 8 = .ok (.istore 5, 2) := by decide +kernel
theorem dX0_transfer_10 : decode cX0_transfer 10 = .ok (.iload_n 1, 1) := by decide +kernel
theorem dX0_transfer_11 : decode cX0_transfer 11 = .ok (.ifCond .lt 16, 3) := by decide +kernel
theorem dX0_transfer_14 : decode cX0_transfer 14 = .ok (.iload_n 1, 1) := by decide +kernel
theorem dX0_transfer_15 : decode cX0_transfer 15 = .ok (.bipush 15, 2) := by decide +kernel
theorem dX0_transfer_17 : decode cX0_transfer 17 = .ok (.if_icmp .gt 10, 3) := by decide +kernel
theorem dX0_transfer_20 : decode cX0_transfer 20 = .ok (.iload 4, 2) := by decide +kernel
theorem dX0_transfer_22 : decode cX0_transfer 22 = .ok (.iload 5, 2) := by decide +kernel
theorem dX0_transfer_24 : decode cX0_transfer 24 = .ok (.if_icmp .ne 5, 3) := by decide +kernel
theorem dX0_transfer_27 : decode cX0_transfer 27 = .ok (.iconst (-1), 1) := by decide +kernel
theorem dX0_transfer_28 : decode cX0_transfer 28 = .ok (.ireturn, 1) := by decide +kernel
theorem dX0_transfer_29 : decode cX0_transfer 29 = .ok (.iload_n 2, 1) := by decide +kernel
theorem dX0_transfer_30 : decode cX0_transfer 30 = .ok (.invokestatic 46, 3) := by decide +kernel
theorem dX0_transfer_33 : decode cX0_transfer 33 = .ok (.ifCond .ne 6, 3) := by decide +kernel
theorem dX0_transfer_36 : decode cX0_transfer 36 = .ok (.bipush (-2), 2) := by decide +kernel
theorem dX0_transfer_38 : decode cX0_transfer 38 = .ok (.ireturn, 1) := by decide +kernel
theorem dX0_transfer_39 : decode cX0_transfer 39 = .ok (.iload_n 3, 1) := by decide +kernel
theorem dX0_transfer_40 : decode cX0_transfer 40 = .ok (.iconst 1, 1) := by decide +kernel
theorem dX0_transfer_41 : decode cX0_transfer 41 = .ok (.if_icmp .lt 10, 3) := by decide +kernel
theorem dX0_transfer_44 : decode cX0_transfer 44 = .ok (.iload_n 3, 1) := by decide +kernel
theorem dX0_transfer_45 : decode cX0_transfer 45 = .ok (.sipush 10000, 3) := by decide +kernel
theorem dX0_transfer_48 : decode cX0_transfer 48 = .ok (.if_icmp .le 6, 3) := by decide +kernel
theorem dX0_transfer_51 : decode cX0_transfer 51 = .ok (.bipush (-3), 2) := by decide +kernel
theorem dX0_transfer_53 : decode cX0_transfer 53 = .ok (.ireturn, 1) := by decide +kernel
theorem dX0_transfer_54 : decode cX0_transfer 54 = .ok (.aload_n 0, 1) := by decide +kernel
theorem dX0_transfer_55 : decode cX0_transfer 55 = .ok (.getfield 38, 3) := by decide +kernel
theorem dX0_transfer_58 : decode cX0_transfer 58 = .ok (.bipush 58, 2) := by decide +kernel
theorem dX0_transfer_60 : decode cX0_transfer 60 = .ok (.if_icmp .le 6, 3) := by decide +kernel
theorem dX0_transfer_63 : decode cX0_transfer 63 = .ok (.bipush (-4), 2) := by decide +kernel
theorem dX0_transfer_65 : decode cX0_transfer 65 = .ok (.ireturn, 1) := by decide +kernel
theorem dX0_transfer_66 : decode cX0_transfer 66 = .ok (.aload_n 0, 1) := by decide +kernel
theorem dX0_transfer_67 : decode cX0_transfer 67 = .ok (.getfield 49, 3) := by decide +kernel
theorem dX0_transfer_70 : decode cX0_transfer 70 = .ok (.ifCond .ne 18, 3) := by decide +kernel
theorem dX0_transfer_73 : decode cX0_transfer 73 = .ok (.aload_n 0, 1) := by decide +kernel
theorem dX0_transfer_74 : decode cX0_transfer 74 = .ok (.iload 4, 2) := by decide +kernel
theorem dX0_transfer_76 : decode cX0_transfer 76 = .ok (.iload_n 2, 1) := by decide +kernel
theorem dX0_transfer_77 : decode cX0_transfer 77 = .ok (.iload_n 3, 1) := by decide +kernel
theorem dX0_transfer_78 : decode cX0_transfer 78 = .ok (.ineg, 1) := by decide +kernel
theorem dX0_transfer_79 : decode cX0_transfer 79 = .ok (.invokevirtual 53, 3) := by decide +kernel
theorem dX0_transfer_82 : decode cX0_transfer 82 = .ok (.ifCond .ne 6, 3) := by decide +kernel
theorem dX0_transfer_85 : decode cX0_transfer 85 = .ok (.bipush (-5), 2) := by decide +kernel
theorem dX0_transfer_87 : decode cX0_transfer 87 = .ok (.ireturn, 1) := by decide +kernel
theorem dX0_transfer_88 : decode cX0_transfer 88 = .ok (.aload_n 0, 1) := by decide +kernel
theorem dX0_transfer_89 : decode cX0_transfer 89 = .ok (.iload 4, 2) := by decide +kernel
theorem dX0_transfer_91 : decode cX0_transfer 91 = .ok (.iload_n 2, 1) := by decide +kernel
theorem dX0_transfer_92 : decode cX0_transfer 92 = .ok (.iload_n 3, 1) := by decide +kernel
theorem dX0_transfer_93 : decode cX0_transfer 93 = .ok (.ineg, 1) := by decide +kernel
theorem dX0_transfer_94 : decode cX0_transfer 94 = .ok (.invokevirtual 57, 3) := by decide +kernel
theorem dX0_transfer_97 : decode cX0_transfer 97 = .ok (.istore 6, 2) := by decide +kernel
theorem dX0_transfer_99 : decode cX0_transfer 99 = .ok (.aload_n 0, 1) := by decide +kernel
theorem dX0_transfer_100 : decode cX0_transfer 100 = .ok (.iload 5, 2) := by decide +kernel
theorem dX0_transfer_102 : decode cX0_transfer 102 = .ok (.iload_n 2, 1) := by decide +kernel
theorem dX0_transfer_103 : decode cX0_transfer 103 = .ok (.iload_n 3, 1) := by decide +kernel
theorem dX0_transfer_104 : decode cX0_transfer 104 = .ok (.invokevirtual 57, 3) := by decide +kernel
theorem dX0_transfer_107 : decode cX0_transfer 107 = .ok (.pop, 1) := by decide +kernel
theorem dX0_transfer_108 : decode cX0_transfer 108 = .ok (.iload 6, 2) := by decide +kernel
theorem dX0_transfer_110 : decode cX0_transfer 110 = .ok (.ireturn, 1) := by decide +kernel
abbrev cX0_cancel : ByteArray := prog_1_method_4_code
def yX0_cancel : MethodName := ⟨RX0, "cancel", "(I)I"⟩
theorem dX0_cancel_0 : decode cX0_cancel 0 = .ok (.aload_n 0, 1) := by decide +kernel
theorem dX0_cancel_1 : decode cX0_cancel 1 = .ok (.iload_n 1, 1) := by decide +kernel
theorem dX0_cancel_2 : decode cX0_cancel 2 = .ok (.invokevirtual 61, 3) := by decide +kernel
theorem dX0_cancel_5 : decode cX0_cancel 5 = .ok (.ifCond .ne 5, 3) := by decide +kernel
theorem dX0_cancel_8 : decode cX0_cancel 8 = .ok (.iconst (-1), 1) := by decide +kernel
theorem dX0_cancel_9 : decode cX0_cancel 9 = .ok (.ireturn, 1) := by decide +kernel
theorem dX0_cancel_10 : decode cX0_cancel 10 = .ok (.aload_n 0, 1) := by decide +kernel
theorem dX0_cancel_11 : decode cX0_cancel 11 = .ok (.getfield 19, 3) := by decide +kernel
theorem dX0_cancel_14 : decode cX0_cancel 14 = .ok (.iload_n 1, 1) := by decide +kernel
theorem dX0_cancel_15 : decode cX0_cancel 15 = .ok (.baload, 1) := by decide +kernel
theorem dX0_cancel_16 : decode cX0_cancel 16 = .ok (.ifCond .eq 6, 3) := by decide +kernel
theorem dX0_cancel_19 : decode cX0_cancel 19 = .ok (.bipush (-2), 2) := by decide +kernel
theorem dX0_cancel_21 : decode cX0_cancel 21 = .ok (.ireturn, 1) := by decide +kernel
theorem dX0_cancel_22 : decode cX0_cancel 22 = .ok (.aload_n 0, 1) := by decide +kernel
theorem dX0_cancel_23 : decode cX0_cancel 23 = .ok (.getfield 16, 3) := by decide +kernel
theorem dX0_cancel_26 : decode cX0_cancel 26 = .ok (.iload_n 1, 1) := by decide +kernel
theorem dX0_cancel_27 : decode cX0_cancel 27 = .ok (.iaload, 1) := by decide +kernel
theorem dX0_cancel_28 : decode cX0_cancel 28 = .ok (.istore_n 2, 1) := by decide +kernel
theorem dX0_cancel_29 : decode cX0_cancel 29 = .ok (.aload_n 0, 1) := by decide +kernel
theorem dX0_cancel_30 : decode cX0_cancel 30 = .ok (.getfield 49, 3) := by decide +kernel
theorem dX0_cancel_33 : decode cX0_cancel 33 = .ok (.ifCond .ne 27, 3) := by decide +kernel
theorem dX0_cancel_36 : decode cX0_cancel 36 = .ok (.aload_n 0, 1) := by decide +kernel
theorem dX0_cancel_37 : decode cX0_cancel 37 = .ok (.aload_n 0, 1) := by decide +kernel
theorem dX0_cancel_38 : decode cX0_cancel 38 = .ok (.getfield 7, 3) := by decide +kernel
theorem dX0_cancel_41 : decode cX0_cancel 41 = .ok (.iload_n 1, 1) := by decide +kernel
theorem dX0_cancel_42 : decode cX0_cancel 42 = .ok (.iaload, 1) := by decide +kernel
theorem dX0_cancel_43 : decode cX0_cancel 43 = .ok (.aload_n 0, 1) := by decide +kernel
theorem dX0_cancel_44 : decode cX0_cancel 44 = .ok (.getfield 13, 3) := by decide +kernel
theorem dX0_cancel_47 : decode cX0_cancel 47 = .ok (.iload_n 1, 1) := by decide +kernel
theorem dX0_cancel_48 : decode cX0_cancel 48 = .ok (.iaload, 1) := by decide +kernel
theorem dX0_cancel_49 : decode cX0_cancel 49 = .ok (.iload_n 2, 1) := by decide +kernel
theorem dX0_cancel_50 : decode cX0_cancel 50 = .ok (.ineg, 1) := by decide +kernel
theorem dX0_cancel_51 : decode cX0_cancel 51 = .ok (.invokevirtual 53, 3) := by decide +kernel
theorem dX0_cancel_54 : decode cX0_cancel 54 = .ok (.ifCond .ne 6, 3) := by decide +kernel
theorem dX0_cancel_57 : decode cX0_cancel 57 = .ok (.bipush (-3), 2) := by decide +kernel
theorem dX0_cancel_59 : decode cX0_cancel 59 = .ok (.ireturn, 1) := by decide +kernel
theorem dX0_cancel_60 : decode cX0_cancel 60 = .ok (.aload_n 0, 1) := by decide +kernel
theorem dX0_cancel_61 : decode cX0_cancel 61 = .ok (.getfield 19, 3) := by decide +kernel
theorem dX0_cancel_64 : decode cX0_cancel 64 = .ok (.iload_n 1, 1) := by decide +kernel
theorem dX0_cancel_65 : decode cX0_cancel 65 = .ok (.iconst 1, 1) := by decide +kernel
theorem dX0_cancel_66 : decode cX0_cancel 66 = .ok (.bastore, 1) := by decide +kernel
theorem dX0_cancel_67 : decode cX0_cancel 67 = .ok (.aload_n 0, 1) := by decide +kernel
theorem dX0_cancel_68 : decode cX0_cancel 68 = .ok (.aload_n 0, 1) := by decide +kernel
theorem dX0_cancel_69 : decode cX0_cancel 69 = .ok (.getfield 7, 3) := by decide +kernel
theorem dX0_cancel_72 : decode cX0_cancel 72 = .ok (.iload_n 1, 1) := by decide +kernel
theorem dX0_cancel_73 : decode cX0_cancel 73 = .ok (.iaload, 1) := by decide +kernel
theorem dX0_cancel_74 : decode cX0_cancel 74 = .ok (.aload_n 0, 1) := by decide +kernel
theorem dX0_cancel_75 : decode cX0_cancel 75 = .ok (.getfield 13, 3) := by decide +kernel
theorem dX0_cancel_78 : decode cX0_cancel 78 = .ok (.iload_n 1, 1) := by decide +kernel
theorem dX0_cancel_79 : decode cX0_cancel 79 = .ok (.iaload, 1) := by decide +kernel
theorem dX0_cancel_80 : decode cX0_cancel 80 = .ok (.iload_n 2, 1) := by decide +kernel
theorem dX0_cancel_81 : decode cX0_cancel 81 = .ok (.ineg, 1) := by decide +kernel
theorem dX0_cancel_82 : decode cX0_cancel 82 = .ok (.invokevirtual 64, 3) := by decide +kernel
theorem dX0_cancel_85 : decode cX0_cancel 85 = .ok (.aload_n 0, 1) := by decide +kernel
theorem dX0_cancel_86 : decode cX0_cancel 86 = .ok (.getfield 49, 3) := by decide +kernel
theorem dX0_cancel_89 : decode cX0_cancel 89 = .ok (.ifCond .eq 23, 3) := by decide +kernel
theorem dX0_cancel_92 : decode cX0_cancel 92 = .ok (.aload_n 0, 1) := by decide +kernel
theorem dX0_cancel_93 : decode cX0_cancel 93 = .ok (.getfield 35, 3) := by decide +kernel
theorem dX0_cancel_96 : decode cX0_cancel 96 = .ok (.aload_n 0, 1) := by decide +kernel
theorem dX0_cancel_97 : decode cX0_cancel 97 = .ok (.getfield 68, 3) := by decide +kernel
theorem dX0_cancel_100 : decode cX0_cancel 100 = .ok (.iload_n 1, 1) := by decide +kernel
theorem dX0_cancel_101 : decode cX0_cancel 101 = .ok (.iastore, 1) := by decide +kernel
theorem dX0_cancel_102 : decode cX0_cancel 102 = .ok (.aload_n 0, 1) := by decide +kernel
theorem dX0_cancel_103 : decode cX0_cancel 103 = .ok (.dup, 1) := by decide +kernel
theorem dX0_cancel_104 : decode cX0_cancel 104 = .ok (.getfield 68, 3) := by decide +kernel
theorem dX0_cancel_107 : decode cX0_cancel 107 = .ok (.iconst 1, 1) := by decide +kernel
theorem dX0_cancel_108 : decode cX0_cancel 108 = .ok (.iadd, 1) := by decide +kernel
theorem dX0_cancel_109 : decode cX0_cancel 109 = .ok (.putfield 68, 3) := by decide +kernel
theorem dX0_cancel_112 : decode cX0_cancel 112 = .ok (.iload_n 2, 1) := by decide +kernel
theorem dX0_cancel_113 : decode cX0_cancel 113 = .ok (.ireturn, 1) := by decide +kernel
abbrev cX0_isEntry : ByteArray := prog_1_method_22_code
def yX0_isEntry : MethodName := ⟨RX0, "isEntry", "(I)Z"⟩
theorem dX0_isEntry_0 : decode cX0_isEntry 0 = .ok (.iload_n 1, 1) := by decide +kernel
theorem dX0_isEntry_1 : decode cX0_isEntry 1 = .ok (.ifCond .lt 15, 3) := by decide +kernel
theorem dX0_isEntry_4 : decode cX0_isEntry 4 = .ok (.iload_n 1, 1) := by decide +kernel
theorem dX0_isEntry_5 : decode cX0_isEntry 5 = .ok (.aload_n 0, 1) := by decide +kernel
theorem dX0_isEntry_6 : decode cX0_isEntry 6 = .ok (.getfield 38, 3) := by decide +kernel
theorem dX0_isEntry_9 : decode cX0_isEntry 9 = .ok (.if_icmp .ge 7, 3) := by decide +kernel
theorem dX0_isEntry_12 : decode cX0_isEntry 12 = .ok (.iconst 1, 1) := by decide +kernel
theorem dX0_isEntry_13 : decode cX0_isEntry 13 = .ok (.goto 4, 3) := by decide +kernel
theorem dX0_isEntry_16 : decode cX0_isEntry 16 = .ok (.iconst 0, 1) := by decide +kernel
theorem dX0_isEntry_17 : decode cX0_isEntry 17 = .ok (.ireturn, 1) := by decide +kernel
abbrev cX0_floor : ByteArray := prog_1_method_5_code
def yX0_floor : MethodName := ⟨RX0, "floor", "(II)I"⟩
theorem dX0_floor_0 : decode cX0_floor 0 = .ok (.iload_n 1, 1) := by decide +kernel
theorem dX0_floor_1 : decode cX0_floor 1 = .ok (.invokestatic 42, 3) := by decide +kernel
theorem dX0_floor_4 : decode cX0_floor 4 = .ok (.ifCond .ne 5, 3) := by decide +kernel
theorem dX0_floor_7 : decode cX0_floor 7 = .ok (.iconst (-1), 1) := by decide +kernel
theorem dX0_floor_8 : decode cX0_floor 8 = .ok (.ireturn, 1) := by decide +kernel
theorem dX0_floor_9 : decode cX0_floor 9 = .ok (.iload_n 2, 1) := by decide +kernel
theorem dX0_floor_10 : decode cX0_floor 10 = .ok (.sipush (-10000), 3) := by decide +kernel
theorem dX0_floor_13 : decode cX0_floor 13 = .ok (.if_icmp .lt 10, 3) := by decide +kernel
theorem dX0_floor_16 : decode cX0_floor 16 = .ok (.iload_n 2, 1) := by decide +kernel
theorem dX0_floor_17 : decode cX0_floor 17 = .ok (.sipush 10000, 3) := by decide +kernel
theorem dX0_floor_20 : decode cX0_floor 20 = .ok (.if_icmp .le 6, 3) := by decide +kernel
theorem dX0_floor_23 : decode cX0_floor 23 = .ok (.bipush (-2), 2) := by decide +kernel
theorem dX0_floor_25 : decode cX0_floor 25 = .ok (.ireturn, 1) := by decide +kernel
theorem dX0_floor_26 : decode cX0_floor 26 = .ok (.aload_n 0, 1) := by decide +kernel
theorem dX0_floor_27 : decode cX0_floor 27 = .ok (.getfield 49, 3) := by decide +kernel
theorem dX0_floor_30 : decode cX0_floor 30 = .ok (.ifCond .eq 6, 3) := by decide +kernel
theorem dX0_floor_33 : decode cX0_floor 33 = .ok (.bipush (-3), 2) := by decide +kernel
theorem dX0_floor_35 : decode cX0_floor 35 = .ok (.ireturn, 1) := by decide +kernel
theorem dX0_floor_36 : decode cX0_floor 36 = .ok (.aload_n 0, 1) := by decide +kernel
theorem dX0_floor_37 : decode cX0_floor 37 = .ok (.iload_n 1, 1) := by decide +kernel
theorem dX0_floor_38 : decode cX0_floor 38 = .ok (.iconst 0, 1) := by decide +kernel
theorem dX0_floor_39 : decode cX0_floor 39 = .ok (.bipush 47, 2) := by decide +kernel
theorem dX0_floor_41 : decode cX0_floor 41 = .ok (.invokevirtual 71, 3) := by decide +kernel
theorem dX0_floor_44 : decode cX0_floor 44 = .ok (.aload_n 0, 1) := by decide +kernel
theorem dX0_floor_45 : decode cX0_floor 45 = .ok (.getfield 74, 3) := by decide +kernel
theorem dX0_floor_48 : decode cX0_floor 48 = .ok (.iload_n 2, 1) := by decide +kernel
theorem dX0_floor_49 : decode cX0_floor 49 = .ok (.if_icmp .ge 6, 3) := by decide +kernel
theorem dX0_floor_52 : decode cX0_floor 52 = .ok (.bipush (-4), 2) := by decide +kernel
theorem dX0_floor_54 : decode cX0_floor 54 = .ok (.ireturn, 1) := by decide +kernel
theorem dX0_floor_55 : decode cX0_floor 55 = .ok (.aload_n 0, 1) := by decide +kernel
theorem dX0_floor_56 : decode cX0_floor 56 = .ok (.getfield 23, 3) := by decide +kernel
theorem dX0_floor_59 : decode cX0_floor 59 = .ok (.iload_n 1, 1) := by decide +kernel
theorem dX0_floor_60 : decode cX0_floor 60 = .ok (.iaload, 1) := by decide +kernel
theorem dX0_floor_61 : decode cX0_floor 61 = .ok (.istore_n 3, 1) := by decide +kernel
theorem dX0_floor_62 : decode cX0_floor 62 = .ok (.aload_n 0, 1) := by decide +kernel
theorem dX0_floor_63 : decode cX0_floor 63 = .ok (.getfield 23, 3) := by decide +kernel
theorem dX0_floor_66 : decode cX0_floor 66 = .ok (.iload_n 1, 1) := by decide +kernel
theorem dX0_floor_67 : decode cX0_floor 67 = .ok (.iload_n 2, 1) := by decide +kernel
theorem dX0_floor_68 : decode cX0_floor 68 = .ok (.iastore, 1) := by decide +kernel
theorem dX0_floor_69 : decode cX0_floor 69 = .ok (.iload_n 3, 1) := by decide +kernel
theorem dX0_floor_70 : decode cX0_floor 70 = .ok (.ireturn, 1) := by decide +kernel
abbrev cX0_open : ByteArray := prog_1_method_6_code
def yX0_open : MethodName := ⟨RX0, "open", "()I"⟩
theorem dX0_open_0 : decode cX0_open 0 = .ok (.aload_n 0, 1) := by decide +kernel
theorem dX0_open_1 : decode cX0_open 1 = .ok (.getfield 49, 3) := by decide +kernel
theorem dX0_open_4 : decode cX0_open 4 = .ok (.ifCond .eq 5, 3) := by decide +kernel
theorem dX0_open_7 : decode cX0_open 7 = .ok (.iconst (-1), 1) := by decide +kernel
theorem dX0_open_8 : decode cX0_open 8 = .ok (.ireturn, 1) := by decide +kernel
theorem dX0_open_9 : decode cX0_open 9 = .ok (.aload_n 0, 1) := by decide +kernel
theorem dX0_open_10 : decode cX0_open 10 = .ok (.iconst 1, 1) := by decide +kernel
theorem dX0_open_11 : decode cX0_open 11 = .ok (.putfield 49, 3) := by decide +kernel
theorem dX0_open_14 : decode cX0_open 14 = .ok (.aload_n 0, 1) := by decide +kernel
theorem dX0_open_15 : decode cX0_open 15 = .ok (.aload_n 0, 1) := by decide +kernel
theorem dX0_open_16 : decode cX0_open 16 = .ok (.getfield 38, 3) := by decide +kernel
theorem dX0_open_19 : decode cX0_open 19 = .ok (.putfield 77, 3) := by decide +kernel
theorem dX0_open_22 : decode cX0_open 22 = .ok (.aload_n 0, 1) := by decide +kernel
theorem dX0_open_23 : decode cX0_open 23 = .ok (.iconst 0, 1) := by decide +kernel
theorem dX0_open_24 : decode cX0_open 24 = .ok (.putfield 68, 3) := by decide +kernel
theorem dX0_open_27 : decode cX0_open 27 = .ok (.iconst 0, 1) := by decide +kernel
theorem dX0_open_28 : decode cX0_open 28 = .ok (.ireturn, 1) := by decide +kernel
end
section
set_option maxRecDepth 100000
abbrev cX0_close : ByteArray := prog_1_method_7_code
def yX0_close : MethodName := ⟨RX0, "close", "()I"⟩
theorem dX0_close_0 : decode cX0_close 0 = .ok (.aload_n 0, 1) := by decide +kernel
theorem dX0_close_1 : decode cX0_close 1 = .ok (.getfield 49, 3) := by decide +kernel
theorem dX0_close_4 : decode cX0_close 4 = .ok (.ifCond .ne 5, 3) := by decide +kernel
theorem dX0_close_7 : decode cX0_close 7 = .ok (.iconst (-1), 1) := by decide +kernel
theorem dX0_close_8 : decode cX0_close 8 = .ok (.ireturn, 1) := by decide +kernel
theorem dX0_close_9 : decode cX0_close 9 = .ok (.aload_n 0, 1) := by decide +kernel
theorem dX0_close_10 : decode cX0_close 10 = .ok (.iconst 0, 1) := by decide +kernel
theorem dX0_close_11 : decode cX0_close 11 = .ok (.putfield 49, 3) := by decide +kernel
theorem dX0_close_14 : decode cX0_close 14 = .ok (.aload_n 0, 1) := by decide +kernel
theorem dX0_close_15 : decode cX0_close 15 = .ok (.invokevirtual 80, 3) := by decide +kernel
theorem dX0_close_18 : decode cX0_close 18 = .ok (.ifCond .eq 5, 3) := by decide +kernel
theorem dX0_close_21 : decode cX0_close 21 = .ok (.iconst 1, 1) := by decide +kernel
theorem dX0_close_22 : decode cX0_close 22 = .ok (.ireturn, 1) := by decide +kernel
theorem dX0_close_23 : decode cX0_close 23 = .ok (.aload_n 0, 1) := by decide +kernel
theorem dX0_close_24 : decode cX0_close 24 = .ok (.getfield 38, 3) := by decide +kernel
theorem dX0_close_27 : decode cX0_close 27 = .ok (.iconst 1, 1) := by decide +kernel
theorem dX0_close_28 : decode cX0_close 28 = .ok (.isub, 1) := by decide +kernel
theorem dX0_close_29 : decode cX0_close 29 = .ok (.istore_n 1, 1) := by decide +kernel
theorem dX0_close_30 : decode cX0_close 30 = .ok (.iload_n 1, 1) := by decide +kernel
theorem dX0_close_31 : decode cX0_close 31 = .ok (.aload_n 0, 1) := by decide +kernel
theorem dX0_close_32 : decode cX0_close 32 = .ok (.getfield 77, 3) := by decide +kernel
theorem dX0_close_35 : decode cX0_close 35 = .ok (.if_icmp .lt 48, 3) := by decide +kernel
theorem dX0_close_38 : decode cX0_close 38 = .ok (.aload_n 0, 1) := by decide +kernel
theorem dX0_close_39 : decode cX0_close 39 = .ok (.getfield 19, 3) := by decide +kernel
theorem dX0_close_42 : decode cX0_close 42 = .ok (.iload_n 1, 1) := by decide +kernel
theorem dX0_close_43 : decode cX0_close 43 = .ok (.baload, 1) := by decide +kernel
theorem dX0_close_44 : decode cX0_close 44 = .ok (.ifCond .ne 26, 3) := by decide +kernel
theorem dX0_close_47 : decode cX0_close 47 = .ok (.aload_n 0, 1) := by decide +kernel
theorem dX0_close_48 : decode cX0_close 48 = .ok (.aload_n 0, 1) := by decide +kernel
theorem dX0_close_49 : decode cX0_close 49 = .ok (.getfield 7, 3) := by decide +kernel
theorem dX0_close_52 : decode cX0_close 52 = .ok (.iload_n 1, 1) := by decide +kernel
theorem dX0_close_53 : decode cX0_close 53 = .ok (.iaload, 1) := by decide +kernel
theorem dX0_close_54 : decode cX0_close 54 = .ok (.aload_n 0, 1) := by decide +kernel
theorem dX0_close_55 : decode cX0_close 55 = .ok (.getfield 13, 3) := by decide +kernel
theorem dX0_close_58 : decode cX0_close 58 = .ok (.iload_n 1, 1) := by decide +kernel
theorem dX0_close_59 : decode cX0_close 59 = .ok (.iaload, 1) := by decide +kernel
theorem dX0_close_60 : decode cX0_close 60 = .ok (.aload_n 0, 1) := by decide +kernel
theorem dX0_close_61 : decode cX0_close 61 = .ok (.getfield 16, 3) := by decide +kernel
theorem dX0_close_64 : decode cX0_close 64 = .ok (.iload_n 1, 1) := by decide +kernel
theorem dX0_close_65 : decode cX0_close 65 = .ok (.iaload, 1) := by decide +kernel
theorem dX0_close_66 : decode cX0_close 66 = .ok (.ineg, 1) := by decide +kernel
theorem dX0_close_67 : decode cX0_close 67 = .ok (.invokevirtual 64, 3) := by decide +kernel
theorem dX0_close_70 : decode cX0_close 70 = .ok (.aload_n 0, 1) := by decide +kernel
theorem dX0_close_71 : decode cX0_close 71 = .ok (.getfield 19, 3) := by decide +kernel
theorem dX0_close_74 : decode cX0_close 74 = .ok (.iload_n 1, 1) := by decide +kernel
theorem dX0_close_75 : decode cX0_close 75 = .ok (.iconst 0, 1) := by decide +kernel
theorem dX0_close_76 : decode cX0_close 76 = .ok (.bastore, 1) := by decide +kernel
theorem dX0_close_77 : decode cX0_close 77 = .ok (.iinc 1 (-1), 3) := by decide +kernel
theorem dX0_close_80 : decode cX0_close 80 = .ok (.goto (-50), 3) := by decide +kernel
theorem dX0_close_83 : decode cX0_close 83 = .ok (.iconst 0, 1) := by decide +kernel
theorem dX0_close_84 : decode cX0_close 84 = .ok (.istore_n 1, 1) := by decide +kernel
theorem dX0_close_85 : decode cX0_close 85 = .ok (.iload_n 1, 1) := by decide +kernel
theorem dX0_close_86 : decode cX0_close 86 = .ok (.aload_n 0, 1) := by decide +kernel
theorem dX0_close_87 : decode cX0_close 87 = .ok (.getfield 68, 3) := by decide +kernel
theorem dX0_close_90 : decode cX0_close 90 = .ok (.if_icmp .ge 53, 3) := by decide +kernel
theorem dX0_close_93 : decode cX0_close 93 = .ok (.aload_n 0, 1) := by decide +kernel
theorem dX0_close_94 : decode cX0_close 94 = .ok (.getfield 35, 3) := by decide +kernel
theorem dX0_close_97 : decode cX0_close 97 = .ok (.iload_n 1, 1) := by decide +kernel
theorem dX0_close_98 : decode cX0_close 98 = .ok (.iaload, 1) := by decide +kernel
theorem dX0_close_99 : decode cX0_close 99 = .ok (.istore_n 2, 1) := by decide +kernel
theorem dX0_close_100 : decode cX0_close 100 = .ok (.iload_n 2, 1) := by decide +kernel
theorem dX0_close_101 : decode cX0_close 101 = .ok (.aload_n 0, 1) := by decide +kernel
theorem dX0_close_102 : decode cX0_close 102 = .ok (.getfield 77, 3) := by decide +kernel
theorem dX0_close_105 : decode cX0_close 105 = .ok (.if_icmp .ge 32, 3) := by decide +kernel
theorem dX0_close_108 : decode cX0_close 108 = .ok (.aload_n 0, 1) := by decide +kernel
theorem dX0_close_109 : decode cX0_close 109 = .ok (.getfield 19, 3) := by decide +kernel
theorem dX0_close_112 : decode cX0_close 112 = .ok (.iload_n 2, 1) := by decide +kernel
theorem dX0_close_113 : decode cX0_close 113 = .ok (.iconst 0, 1) := by decide +kernel
theorem dX0_close_114 : decode cX0_close 114 = .ok (.bastore, 1) := by decide +kernel
theorem dX0_close_115 : decode cX0_close 115 = .ok (.aload_n 0, 1) := by decide +kernel
theorem dX0_close_116 : decode cX0_close 116 = .ok (.aload_n 0, 1) := by decide +kernel
theorem dX0_close_117 : decode cX0_close 117 = .ok (.getfield 7, 3) := by decide +kernel
theorem dX0_close_120 : decode cX0_close 120 = .ok (.iload_n 2, 1) := by decide +kernel
theorem dX0_close_121 : decode cX0_close 121 = .ok (.iaload, 1) := by decide +kernel
theorem dX0_close_122 : decode cX0_close 122 = .ok (.aload_n 0, 1) := by decide +kernel
theorem dX0_close_123 : decode cX0_close 123 = .ok (.getfield 13, 3) := by decide +kernel
theorem dX0_close_126 : decode cX0_close 126 = .ok (.iload_n 2, 1) := by decide +kernel
theorem dX0_close_127 : decode cX0_close 127 = .ok (.iaload, 1) := by decide +kernel
theorem dX0_close_128 : decode cX0_close 128 = .ok (.aload_n 0, 1) := by decide +kernel
theorem dX0_close_129 : decode cX0_close 129 = .ok (.getfield 16, 3) := by decide +kernel
theorem dX0_close_132 : decode cX0_close 132 = .ok (.iload_n 2, 1) := by decide +kernel
theorem dX0_close_133 : decode cX0_close 133 = .ok (.iaload, 1) := by decide +kernel
theorem dX0_close_134 : decode cX0_close 134 = .ok (.invokevirtual 64, 3) := by decide +kernel
theorem dX0_close_137 : decode cX0_close 137 = .ok (.iinc 1 1, 3) := by decide +kernel
theorem dX0_close_140 : decode cX0_close 140 = .ok (.goto (-55), 3) := by decide +kernel
theorem dX0_close_143 : decode cX0_close 143 = .ok (.aload_n 0, 1) := by decide +kernel
theorem dX0_close_144 : decode cX0_close 144 = .ok (.aload_n 0, 1) := by decide +kernel
theorem dX0_close_145 : decode cX0_close 145 = .ok (.getfield 77, 3) := by decide +kernel
theorem dX0_close_148 : decode cX0_close 148 = .ok (.putfield 38, 3) := by decide +kernel
theorem dX0_close_151 : decode cX0_close 151 = .ok (.iconst 0, 1) := by decide +kernel
theorem dX0_close_152 : decode cX0_close 152 = .ok (.ireturn, 1) := by decide +kernel
abbrev cX0_isSound : ByteArray := prog_1_method_24_code
def yX0_isSound : MethodName := ⟨RX0, "isSound", "()Z"⟩
theorem dX0_isSound_0 : decode cX0_isSound 0 = .ok (.iconst 0, 1) := by decide +kernel
theorem dX0_isSound_1 : decode cX0_isSound 1 = .ok (.istore_n 1, 1) := by decide +kernel
theorem dX0_isSound_2 : decode cX0_isSound 2 = .ok (.iload_n 1, 1) := by decide +kernel
theorem dX0_isSound_3 : decode cX0_isSound 3 = .ok (.iconst 4, 1) := by decide +kernel
theorem dX0_isSound_4 : decode cX0_isSound 4 = .ok (.if_icmp .ge 32, 3) := by decide +kernel
theorem dX0_isSound_7 : decode cX0_isSound 7 = .ok (.aload_n 0, 1) := by decide +kernel
theorem dX0_isSound_8 : decode cX0_isSound 8 = .ok (.iload_n 1, 1) := by decide +kernel
theorem dX0_isSound_9 : decode cX0_isSound 9 = .ok (.iconst 0, 1) := by decide +kernel
theorem dX0_isSound_10 : decode cX0_isSound 10 = .ok (.bipush 47, 2) := by decide +kernel
theorem dX0_isSound_12 : decode cX0_isSound 12 = .ok (.invokevirtual 71, 3) := by decide +kernel
theorem dX0_isSound_15 : decode cX0_isSound 15 = .ok (.aload_n 0, 1) := by decide +kernel
theorem dX0_isSound_16 : decode cX0_isSound 16 = .ok (.getfield 74, 3) := by decide +kernel
theorem dX0_isSound_19 : decode cX0_isSound 19 = .ok (.aload_n 0, 1) := by decide +kernel
theorem dX0_isSound_20 : decode cX0_isSound 20 = .ok (.getfield 23, 3) := by decide +kernel
theorem dX0_isSound_23 : decode cX0_isSound 23 = .ok (.iload_n 1, 1) := by decide +kernel
theorem dX0_isSound_24 : decode cX0_isSound 24 = .ok (.iaload, 1) := by decide +kernel
theorem dX0_isSound_25 : decode cX0_isSound 25 = .ok (.if_icmp .ge 5, 3) := by decide +kernel
theorem dX0_isSound_28 : decode cX0_isSound 28 = .ok (.iconst 0, 1) := by decide +kernel
theorem dX0_isSound_29 : decode cX0_isSound 29 = .ok (.ireturn, 1) := by decide +kernel
theorem dX0_isSound_30 : decode cX0_isSound 30 = .ok (.iinc 1 1, 3) := by decide +kernel
theorem dX0_isSound_33 : decode cX0_isSound 33 = .ok (.goto (-31), 3) := by decide +kernel
theorem dX0_isSound_36 : decode cX0_isSound 36 = .ok (.iconst 1, 1) := by decide +kernel
theorem dX0_isSound_37 : decode cX0_isSound 37 = .ok (.ireturn, 1) := by decide +kernel
abbrev cX0_isOpen : ByteArray := prog_1_method_8_code
def yX0_isOpen : MethodName := ⟨RX0, "isOpen", "()I"⟩
theorem dX0_isOpen_0 : decode cX0_isOpen 0 = .ok (.aload_n 0, 1) := by decide +kernel
theorem dX0_isOpen_1 : decode cX0_isOpen 1 = .ok (.getfield 49, 3) := by decide +kernel
theorem dX0_isOpen_4 : decode cX0_isOpen 4 = .ok (.ifCond .eq 7, 3) := by decide +kernel
theorem dX0_isOpen_7 : decode cX0_isOpen 7 = .ok (.iconst 1, 1) := by decide +kernel
theorem dX0_isOpen_8 : decode cX0_isOpen 8 = .ok (.goto 4, 3) := by decide +kernel
theorem dX0_isOpen_11 : decode cX0_isOpen 11 = .ok (.iconst 0, 1) := by decide +kernel
theorem dX0_isOpen_12 : decode cX0_isOpen 12 = .ok (.ireturn, 1) := by decide +kernel
abbrev cX0_entries : ByteArray := prog_1_method_9_code
def yX0_entries : MethodName := ⟨RX0, "entries", "()I"⟩
theorem dX0_entries_0 : decode cX0_entries 0 = .ok (.aload_n 0, 1) := by decide +kernel
theorem dX0_entries_1 : decode cX0_entries 1 = .ok (.getfield 38, 3) := by decide +kernel
theorem dX0_entries_4 : decode cX0_entries 4 = .ok (.ireturn, 1) := by decide +kernel
abbrev cX0_cancelled : ByteArray := prog_1_method_10_code
def yX0_cancelled : MethodName := ⟨RX0, "cancelled", "(I)I"⟩
theorem dX0_cancelled_0 : decode cX0_cancelled 0 = .ok (.aload_n 0, 1) := by decide +kernel
theorem dX0_cancelled_1 : decode cX0_cancelled 1 = .ok (.iload_n 1, 1) := by decide +kernel
theorem dX0_cancelled_2 : decode cX0_cancelled 2 = .ok (.invokevirtual 61, 3) := by decide +kernel
theorem dX0_cancelled_5 : decode cX0_cancelled 5 = .ok (.ifCond .ne 5, 3) := by decide +kernel
theorem dX0_cancelled_8 : decode cX0_cancelled 8 = .ok (.iconst (-1), 1) := by decide +kernel
theorem dX0_cancelled_9 : decode cX0_cancelled 9 = .ok (.ireturn, 1) := by decide +kernel
theorem dX0_cancelled_10 : decode cX0_cancelled 10 = .ok (.aload_n 0, 1) := by decide +kernel
theorem dX0_cancelled_11 : decode cX0_cancelled 11 = .ok (.getfield 19, 3) := by decide +kernel
theorem dX0_cancelled_14 : decode cX0_cancelled 14 = .ok (.iload_n 1, 1) := by decide +kernel
theorem dX0_cancelled_15 : decode cX0_cancelled 15 = .ok (.baload, 1) := by decide +kernel
theorem dX0_cancelled_16 : decode cX0_cancelled 16 = .ok (.ifCond .eq 7, 3) := by decide +kernel
theorem dX0_cancelled_19 : decode cX0_cancelled 19 = .ok (.iconst 1, 1) := by decide +kernel
theorem dX0_cancelled_20 : decode cX0_cancelled 20 = .ok (.goto 4, 3) := by decide +kernel
theorem dX0_cancelled_23 : decode cX0_cancelled 23 = .ok (.iconst 0, 1) := by decide +kernel
theorem dX0_cancelled_24 : decode cX0_cancelled 24 = .ok (.ireturn, 1) := by decide +kernel
abbrev cX0_amountOf : ByteArray := prog_1_method_11_code
def yX0_amountOf : MethodName := ⟨RX0, "amountOf", "(I)I"⟩
theorem dX0_amountOf_0 : decode cX0_amountOf 0 = .ok (.aload_n 0, 1) := by decide +kernel
theorem dX0_amountOf_1 : decode cX0_amountOf 1 = .ok (.iload_n 1, 1) := by decide +kernel
theorem dX0_amountOf_2 : decode cX0_amountOf 2 = .ok (.invokevirtual 61, 3) := by decide +kernel
theorem dX0_amountOf_5 : decode cX0_amountOf 5 = .ok (.ifCond .eq 12, 3) := by decide +kernel
theorem dX0_amountOf_8 : decode cX0_amountOf 8 = .ok (.aload_n 0, 1) := by decide +kernel
theorem dX0_amountOf_9 : decode cX0_amountOf 9 = .ok (.getfield 16, 3) := by decide +kernel
theorem dX0_amountOf_12 : decode cX0_amountOf 12 = .ok (.iload_n 1, 1) := by decide +kernel
theorem dX0_amountOf_13 : decode cX0_amountOf 13 = .ok (.iaload, 1) := by decide +kernel
theorem dX0_amountOf_14 : decode cX0_amountOf 14 = .ok (.goto 4, 3) := by decide +kernel
theorem dX0_amountOf_17 : decode cX0_amountOf 17 = .ok (.iconst 0, 1) := by decide +kernel
theorem dX0_amountOf_18 : decode cX0_amountOf 18 = .ok (.ireturn, 1) := by decide +kernel
abbrev cX0_sound : ByteArray := prog_1_method_12_code
def yX0_sound : MethodName := ⟨RX0, "sound", "()I"⟩
theorem dX0_sound_0 : decode cX0_sound 0 = .ok (.aload_n 0, 1) := by decide +kernel
theorem dX0_sound_1 : decode cX0_sound 1 = .ok (.invokevirtual 80, 3) := by decide +kernel
theorem dX0_sound_4 : decode cX0_sound 4 = .ok (.ifCond .eq 7, 3) := by decide +kernel
theorem dX0_sound_7 : decode cX0_sound 7 = .ok (.iconst 1, 1) := by decide +kernel
theorem dX0_sound_8 : decode cX0_sound 8 = .ok (.goto 4, 3) := by decide +kernel
theorem dX0_sound_11 : decode cX0_sound 11 = .ok (.iconst 0, 1) := by decide +kernel
theorem dX0_sound_12 : decode cX0_sound 12 = .ok (.ireturn, 1) := by decide +kernel
abbrev cX0_balance : ByteArray := prog_1_method_13_code
def yX0_balance : MethodName := ⟨RX0, "balance", "(II)I"⟩
theorem dX0_balance_0 : decode cX0_balance 0 = .ok (.iload_n 1, 1) := by decide +kernel
theorem dX0_balance_1 : decode cX0_balance 1 = .ok (.invokestatic 42, 3) := by decide +kernel
theorem dX0_balance_4 : decode cX0_balance 4 = .ok (.ifCond .eq 10, 3) := by decide +kernel
theorem dX0_balance_7 : decode cX0_balance 7 = .ok (.iload_n 2, 1) := by decide +kernel
theorem dX0_balance_8 : decode cX0_balance 8 = .ok (.invokestatic 46, 3) := by decide +kernel
theorem dX0_balance_11 : decode cX0_balance 11 = .ok (.ifCond .ne 6, 3) := by decide +kernel
theorem dX0_balance_14 : decode cX0_balance 14 = .ok (.ldc 84, 2) := by decide +kernel
theorem dX0_balance_16 : decode cX0_balance 16 = .ok (.ireturn, 1) := by decide +kernel
theorem dX0_balance_17 : decode cX0_balance 17 = .ok (.aload_n 0, 1) := by decide +kernel
theorem dX0_balance_18 : decode cX0_balance 18 = .ok (.iload_n 1, 1) := by decide +kernel
theorem dX0_balance_19 : decode cX0_balance 19 = .ok (.iconst 0, 1) := by decide +kernel
theorem dX0_balance_20 : decode cX0_balance 20 = .ok (.iload_n 2, 1) := by decide +kernel
theorem dX0_balance_21 : decode cX0_balance 21 = .ok (.invokevirtual 71, 3) := by decide +kernel
theorem dX0_balance_24 : decode cX0_balance 24 = .ok (.aload_n 0, 1) := by decide +kernel
theorem dX0_balance_25 : decode cX0_balance 25 = .ok (.getfield 85, 3) := by decide +kernel
theorem dX0_balance_28 : decode cX0_balance 28 = .ok (.ireturn, 1) := by decide +kernel
abbrev cX0_lowest : ByteArray := prog_1_method_14_code
def yX0_lowest : MethodName := ⟨RX0, "lowest", "(III)I"⟩
theorem dX0_lowest_0 : decode cX0_lowest 0 = .ok (.iload_n 1, 1) := by decide +kernel
theorem dX0_lowest_1 : decode cX0_lowest 1 = .ok (.invokestatic 42, 3) := by decide +kernel
theorem dX0_lowest_4 : decode cX0_lowest 4 = .ok (.ifCond .ne 6, 3) := by decide +kernel
theorem dX0_lowest_7 : decode cX0_lowest 7 = .ok (.ldc 84, 2) := by decide +kernel
theorem dX0_lowest_9 : decode cX0_lowest 9 = .ok (.ireturn, 1) := by decide +kernel
theorem dX0_lowest_10 : decode cX0_lowest 10 = .ok (.iload_n 2, 1) := by decide +kernel
theorem dX0_lowest_11 : decode cX0_lowest 11 = .ok (.iload_n 3, 1) := by decide +kernel
theorem dX0_lowest_12 : decode cX0_lowest 12 = .ok (.invokestatic 88, 3) := by decide +kernel
theorem dX0_lowest_15 : decode cX0_lowest 15 = .ok (.ifCond .ne 6, 3) := by decide +kernel
theorem dX0_lowest_18 : decode cX0_lowest 18 = .ok (.ldc 92, 2) := by decide +kernel
theorem dX0_lowest_20 : decode cX0_lowest 20 = .ok (.ireturn, 1) := by decide +kernel
theorem dX0_lowest_21 : decode cX0_lowest 21 = .ok (.aload_n 0, 1) := by decide +kernel
theorem dX0_lowest_22 : decode cX0_lowest 22 = .ok (.iload_n 1, 1) := by decide +kernel
theorem dX0_lowest_23 : decode cX0_lowest 23 = .ok (.iload_n 2, 1) := by decide +kernel
theorem dX0_lowest_24 : decode cX0_lowest 24 = .ok (.iload_n 3, 1) := by decide +kernel
theorem dX0_lowest_25 : decode cX0_lowest 25 = .ok (.invokevirtual 93, 3) := by decide +kernel
theorem dX0_lowest_28 : decode cX0_lowest 28 = .ok (.ireturn, 1) := by decide +kernel
abbrev cX0_isStretch : ByteArray := prog_1_method_23_code
def yX0_isStretch : MethodName := ⟨RX0, "isStretch", "(II)Z"⟩
theorem dX0_isStretch_0 : decode cX0_isStretch 0 = .ok (.iload_n 0, 1) := by decide +kernel
theorem dX0_isStretch_1 : decode cX0_isStretch 1 = .ok (.ifCond .lt 18, 3) := by decide +kernel
theorem dX0_isStretch_4 : decode cX0_isStretch 4 = .ok (.iload_n 0, 1) := by decide +kernel
theorem dX0_isStretch_5 : decode cX0_isStretch 5 = .ok (.iload_n 1, 1) := by decide +kernel
theorem dX0_isStretch_6 : decode cX0_isStretch 6 = .ok (.if_icmp .gt 13, 3) := by decide +kernel
theorem dX0_isStretch_9 : decode cX0_isStretch 9 = .ok (.iload_n 1, 1) := by decide +kernel
theorem dX0_isStretch_10 : decode cX0_isStretch 10 = .ok (.bipush 48, 2) := by decide +kernel
theorem dX0_isStretch_12 : decode cX0_isStretch 12 = .ok (.if_icmp .ge 7, 3) := by decide +kernel
theorem dX0_isStretch_15 : decode cX0_isStretch 15 = .ok (.iconst 1, 1) := by decide +kernel
theorem dX0_isStretch_16 : decode cX0_isStretch 16 = .ok (.goto 4, 3) := by decide +kernel
theorem dX0_isStretch_19 : decode cX0_isStretch 19 = .ok (.iconst 0, 1) := by decide +kernel
theorem dX0_isStretch_20 : decode cX0_isStretch 20 = .ok (.ireturn, 1) := by decide +kernel
abbrev cX0_total : ByteArray := prog_1_method_15_code
def yX0_total : MethodName := ⟨RX0, "total", "(III)I"⟩
theorem dX0_total_0 : decode cX0_total 0 = .ok (.iload_n 1, 1) := by decide +kernel
theorem dX0_total_1 : decode cX0_total 1 = .ok (.invokestatic 42, 3) := by decide +kernel
theorem dX0_total_4 : decode cX0_total 4 = .ok (.ifCond .eq 11, 3) := by decide +kernel
theorem dX0_total_7 : decode cX0_total 7 = .ok (.iload_n 2, 1) := by decide +kernel
theorem dX0_total_8 : decode cX0_total 8 = .ok (.iload_n 3, 1) := by decide +kernel
theorem dX0_total_9 : decode cX0_total 9 = .ok (.invokestatic 88, 3) := by decide +kernel
theorem dX0_total_12 : decode cX0_total 12 = .ok (.ifCond .ne 6, 3) := by decide +kernel
theorem dX0_total_15 : decode cX0_total 15 = .ok (.ldc 96, 2) := by decide +kernel
theorem dX0_total_17 : decode cX0_total 17 = .ok (.ireturn, 1) := by decide +kernel
theorem dX0_total_18 : decode cX0_total 18 = .ok (.aload_n 0, 1) := by decide +kernel
theorem dX0_total_19 : decode cX0_total 19 = .ok (.iload_n 1, 1) := by decide +kernel
theorem dX0_total_20 : decode cX0_total 20 = .ok (.iconst 0, 1) := by decide +kernel
theorem dX0_total_21 : decode cX0_total 21 = .ok (.iload_n 2, 1) := by decide +kernel
theorem dX0_total_22 : decode cX0_total 22 = .ok (.iconst 1, 1) := by decide +kernel
theorem dX0_total_23 : decode cX0_total 23 = .ok (.isub, 1) := by decide +kernel
theorem dX0_total_24 : decode cX0_total 24 = .ok (.invokevirtual 71, 3) := by decide +kernel
theorem dX0_total_27 : decode cX0_total 27 = .ok (.aload_n 0, 1) := by decide +kernel
theorem dX0_total_28 : decode cX0_total 28 = .ok (.getfield 85, 3) := by decide +kernel
theorem dX0_total_31 : decode cX0_total 31 = .ok (.istore 4, 2) := by decide +kernel
theorem dX0_total_33 : decode cX0_total 33 = .ok (.aload_n 0, 1) := by decide +kernel
theorem dX0_total_34 : decode cX0_total 34 = .ok (.iload_n 1, 1) := by decide +kernel
theorem dX0_total_35 : decode cX0_total 35 = .ok (.iload_n 2, 1) := by decide +kernel
theorem dX0_total_36 : decode cX0_total 36 = .ok (.iload_n 3, 1) := by decide +kernel
theorem dX0_total_37 : decode cX0_total 37 = .ok (.invokevirtual 71, 3) := by decide +kernel
theorem dX0_total_40 : decode cX0_total 40 = .ok (.aload_n 0, 1) := by decide +kernel
theorem dX0_total_41 : decode cX0_total 41 = .ok (.getfield 97, 3) := by decide +kernel
theorem dX0_total_44 : decode cX0_total 44 = .ok (.iload 4, 2) := by decide +kernel
theorem dX0_total_46 : decode cX0_total 46 = .ok (.iload_n 3, 1) := by decide +kernel
theorem dX0_total_47 : decode cX0_total 47 = .ok (.iload_n 2, 1) := by decide +kernel
theorem dX0_total_48 : decode cX0_total 48 = .ok (.isub, 1) := by decide +kernel
theorem dX0_total_49 : decode cX0_total 49 = .ok (.iconst 1, 1) := by decide +kernel
theorem dX0_total_50 : decode cX0_total 50 = .ok (.iadd, 1) := by decide +kernel
theorem dX0_total_51 : decode cX0_total 51 = .ok (.imul, 1) := by decide +kernel
theorem dX0_total_52 : decode cX0_total 52 = .ok (.iadd, 1) := by decide +kernel
theorem dX0_total_53 : decode cX0_total 53 = .ok (.ireturn, 1) := by decide +kernel
abbrev cX0_firstBelow : ByteArray := prog_1_method_16_code
def yX0_firstBelow : MethodName := ⟨RX0, "firstBelow", "(III)I"⟩
theorem dX0_firstBelow_0 : decode cX0_firstBelow 0 = .ok (.iload_n 1, 1) := by decide +kernel
theorem dX0_firstBelow_1 : decode cX0_firstBelow 1 = .ok (.invokestatic 42, 3) := by decide +kernel
theorem dX0_firstBelow_4 : decode cX0_firstBelow 4 = .ok (.ifCond .ne 5, 3) := by decide +kernel
theorem dX0_firstBelow_7 : decode cX0_firstBelow 7 = .ok (.iconst (-1), 1) := by decide +kernel
theorem dX0_firstBelow_8 : decode cX0_firstBelow 8 = .ok (.ireturn, 1) := by decide +kernel
theorem dX0_firstBelow_9 : decode cX0_firstBelow 9 = .ok (.iload_n 2, 1) := by decide +kernel
theorem dX0_firstBelow_10 : decode cX0_firstBelow 10 = .ok (.invokestatic 46, 3) := by decide +kernel
theorem dX0_firstBelow_13 : decode cX0_firstBelow 13 = .ok (.ifCond .ne 6, 3) := by decide +kernel
theorem dX0_firstBelow_16 : decode cX0_firstBelow 16 = .ok (.bipush (-2), 2) := by decide +kernel
theorem dX0_firstBelow_18 : decode cX0_firstBelow 18 = .ok (.ireturn, 1) := by decide +kernel
theorem dX0_firstBelow_19 : decode cX0_firstBelow 19 = .ok (.aload_n 0, 1) := by decide +kernel
theorem dX0_firstBelow_20 : decode cX0_firstBelow 20 = .ok (.iload_n 1, 1) := by decide +kernel
theorem dX0_firstBelow_21 : decode cX0_firstBelow 21 = .ok (.iload_n 2, 1) := by decide +kernel
theorem dX0_firstBelow_22 : decode cX0_firstBelow 22 = .ok (.iload_n 3, 1) := by decide +kernel
theorem dX0_firstBelow_23 : decode cX0_firstBelow 23 = .ok (.invokevirtual 100, 3) := by decide +kernel
theorem dX0_firstBelow_26 : decode cX0_firstBelow 26 = .ok (.istore 4, 2) := by decide +kernel
theorem dX0_firstBelow_28 : decode cX0_firstBelow 28 = .ok (.iload 4, 2) := by decide +kernel
theorem dX0_firstBelow_30 : decode cX0_firstBelow 30 = .ok (.ifCond .ge 8, 3) := by decide +kernel
theorem dX0_firstBelow_33 : decode cX0_firstBelow 33 = .ok (.bipush (-3), 2) := by decide +kernel
theorem dX0_firstBelow_35 : decode cX0_firstBelow 35 = .ok (.goto 5, 3) := by decide +kernel
theorem dX0_firstBelow_38 : decode cX0_firstBelow 38 = .ok (.iload 4, 2) := by decide +kernel
theorem dX0_firstBelow_40 : decode cX0_firstBelow 40 = .ok (.ireturn, 1) := by decide +kernel
abbrev cX0_search : ByteArray := prog_1_method_31_code
def yX0_search : MethodName := ⟨RX0, "search", "(III)I"⟩
theorem dX0_search_0 : decode cX0_search 0 = .ok (.sipush 128, 3) := by decide +kernel
theorem dX0_search_3 : decode cX0_search 3 = .ok (.iload_n 1, 1) := by decide +kernel
theorem dX0_search_4 : decode cX0_search 4 = .ok (.imul, 1) := by decide +kernel
theorem dX0_search_5 : decode cX0_search 5 = .ok (.istore 4, 2) := by decide +kernel
theorem dX0_search_7 : decode cX0_search 7 = .ok (.aload_n 0, 1) := by decide +kernel
theorem dX0_search_8 : decode cX0_search 8 = .ok (.iload_n 1, 1) := by decide +kernel
theorem dX0_search_9 : decode cX0_search 9 = .ok (.iconst 0, 1) := by decide +kernel
theorem dX0_search_10 : decode cX0_search 10 = .ok (.iload_n 2, 1) := by decide +kernel
theorem dX0_search_11 : decode cX0_search 11 = .ok (.iconst 1, 1) := by decide +kernel
theorem dX0_search_12 : decode cX0_search 12 = .ok (.isub, 1) := by decide +kernel
theorem dX0_search_13 : decode cX0_search 13 = .ok (.invokevirtual 71, 3) := by decide +kernel
theorem dX0_search_16 : decode cX0_search 16 = .ok (.aload_n 0, 1) := by decide +kernel
theorem dX0_search_17 : decode cX0_search 17 = .ok (.getfield 85, 3) := by decide +kernel
theorem dX0_search_20 : decode cX0_search 20 = .ok (.istore 5, 2) := by decide +kernel
theorem dX0_search_22 : decode cX0_search 22 = .ok (.iload_n 2, 1) := by decide +kernel
theorem dX0_search_23 : decode cX0_search 23 = .ok (.istore 6, 2) := by decide +kernel
theorem dX0_search_25 : decode cX0_search 25 = .ok (.iconst 0, 1) := by decide +kernel
theorem dX0_search_26 : decode cX0_search 26 = .ok (.istore 7, 2) := by decide +kernel
theorem dX0_search_28 : decode cX0_search 28 = .ok (.iload 7, 2) := by decide +kernel
theorem dX0_search_30 : decode cX0_search 30 = .ok (.bipush 14, 2) := by decide +kernel
theorem dX0_search_32 : decode cX0_search 32 = .ok (.if_icmp .ge 87, 3) := by decide +kernel
theorem dX0_search_35 : decode cX0_search 35 = .ok (.iload 6, 2) := by decide +kernel
theorem dX0_search_37 : decode cX0_search 37 = .ok (.bipush 48, 2) := by decide +kernel
theorem dX0_search_39 : decode cX0_search 39 = .ok (.if_icmp .ge 80, 3) := by decide +kernel
theorem dX0_search_42 : decode cX0_search 42 = .ok (.iload 6, 2) := by decide +kernel
theorem dX0_search_44 : decode cX0_search 44 = .ok (.bipush 47, 2) := by decide +kernel
theorem dX0_search_46 : decode cX0_search 46 = .ok (.invokestatic 109, 3) := by decide +kernel
theorem dX0_search_49 : decode cX0_search 49 = .ok (.istore 8, 2) := by decide +kernel
theorem dX0_search_51 : decode cX0_search 51 = .ok (.bipush 64, 2) := by decide +kernel
theorem dX0_search_53 : decode cX0_search 53 = .ok (.iload 6, 2) := by decide +kernel
theorem dX0_search_55 : decode cX0_search 55 = .ok (.iadd, 1) := by decide +kernel
theorem dX0_search_56 : decode cX0_search 56 = .ok (.iload 8, 2) := by decide +kernel
theorem dX0_search_58 : decode cX0_search 58 = .ok (.ishr, 1) := by decide +kernel
theorem dX0_search_59 : decode cX0_search 59 = .ok (.istore 9, 2) := by decide +kernel
theorem dX0_search_61 : decode cX0_search 61 = .ok (.iload 5, 2) := by decide +kernel
theorem dX0_search_63 : decode cX0_search 63 = .ok (.aload_n 0, 1) := by decide +kernel
theorem dX0_search_64 : decode cX0_search 64 = .ok (.getfield 29, 3) := by decide +kernel
theorem dX0_search_67 : decode cX0_search 67 = .ok (.iload 4, 2) := by decide +kernel
theorem dX0_search_69 : decode cX0_search 69 = .ok (.iload 9, 2) := by decide +kernel
theorem dX0_search_71 : decode cX0_search 71 = .ok (.iadd, 1) := by decide +kernel
theorem dX0_search_72 : decode cX0_search 72 = .ok (.iaload, 1) := by decide +kernel
theorem dX0_search_73 : decode cX0_search 73 = .ok (.iadd, 1) := by decide +kernel
theorem dX0_search_74 : decode cX0_search 74 = .ok (.iload_n 3, 1) := by decide +kernel
theorem dX0_search_75 : decode cX0_search 75 = .ok (.if_icmp .ge 14, 3) := by decide +kernel
theorem dX0_search_78 : decode cX0_search 78 = .ok (.aload_n 0, 1) := by decide +kernel
theorem dX0_search_79 : decode cX0_search 79 = .ok (.iload_n 1, 1) := by decide +kernel
theorem dX0_search_80 : decode cX0_search 80 = .ok (.iload 9, 2) := by decide +kernel
theorem dX0_search_82 : decode cX0_search 82 = .ok (.iload 5, 2) := by decide +kernel
theorem dX0_search_84 : decode cX0_search 84 = .ok (.iload_n 3, 1) := by decide +kernel
theorem dX0_search_85 : decode cX0_search 85 = .ok (.invokevirtual 112, 3) := by decide +kernel
theorem dX0_search_88 : decode cX0_search 88 = .ok (.ireturn, 1) := by decide +kernel
theorem dX0_search_89 : decode cX0_search 89 = .ok (.iload 5, 2) := by decide +kernel
theorem dX0_search_91 : decode cX0_search 91 = .ok (.aload_n 0, 1) := by decide +kernel
theorem dX0_search_92 : decode cX0_search 92 = .ok (.getfield 26, 3) := by decide +kernel
theorem dX0_search_95 : decode cX0_search 95 = .ok (.iload 4, 2) := by decide +kernel
theorem dX0_search_97 : decode cX0_search 97 = .ok (.iload 9, 2) := by decide +kernel
theorem dX0_search_99 : decode cX0_search 99 = .ok (.iadd, 1) := by decide +kernel
theorem dX0_search_100 : decode cX0_search 100 = .ok (.iaload, 1) := by decide +kernel
theorem dX0_search_101 : decode cX0_search 101 = .ok (.iadd, 1) := by decide +kernel
theorem dX0_search_102 : decode cX0_search 102 = .ok (.istore 5, 2) := by decide +kernel
theorem dX0_search_104 : decode cX0_search 104 = .ok (.iload 6, 2) := by decide +kernel
theorem dX0_search_106 : decode cX0_search 106 = .ok (.iconst 1, 1) := by decide +kernel
theorem dX0_search_107 : decode cX0_search 107 = .ok (.iload 8, 2) := by decide +kernel
theorem dX0_search_109 : decode cX0_search 109 = .ok (.ishl, 1) := by decide +kernel
theorem dX0_search_110 : decode cX0_search 110 = .ok (.iadd, 1) := by decide +kernel
theorem dX0_search_111 : decode cX0_search 111 = .ok (.istore 6, 2) := by decide +kernel
theorem dX0_search_113 : decode cX0_search 113 = .ok (.iinc 7 1, 3) := by decide +kernel
theorem dX0_search_116 : decode cX0_search 116 = .ok (.goto (-88), 3) := by decide +kernel
theorem dX0_search_119 : decode cX0_search 119 = .ok (.iconst (-1), 1) := by decide +kernel
theorem dX0_search_120 : decode cX0_search 120 = .ok (.ireturn, 1) := by decide +kernel
abbrev cX0_descend : ByteArray := prog_1_method_32_code
def yX0_descend : MethodName := ⟨RX0, "descend", "(IIII)I"⟩
theorem dX0_descend_0 : decode cX0_descend 0 = .ok (.sipush 128, 3) := by decide +kernel
theorem dX0_descend_3 : decode cX0_descend 3 = .ok (.iload_n 1, 1) := by decide +kernel
theorem dX0_descend_4 : decode cX0_descend 4 = .ok (.imul, 1) := by decide +kernel
theorem dX0_descend_5 : decode cX0_descend 5 = .ok (.istore 5, 2) := by decide +kernel
theorem dX0_descend_7 : decode cX0_descend 7 = .ok (.iload_n 2, 1) := by decide +kernel
theorem dX0_descend_8 : decode cX0_descend 8 = .ok (.istore 6, 2) := by decide +kernel
theorem dX0_descend_10 : decode cX0_descend 10 = .ok (.iload_n 3, 1) := by decide +kernel
theorem dX0_descend_11 : decode cX0_descend 11 = .ok (.istore 7, 2) := by decide +kernel
theorem dX0_descend_13 : decode cX0_descend 13 = .ok (.iconst 0, 1) := by decide +kernel
theorem dX0_descend_14 : decode cX0_descend 14 = .ok (.istore 8, 2) := by decide +kernel
theorem dX0_descend_16 : decode cX0_descend 16 = .ok (.iload 8, 2) := by decide +kernel
theorem dX0_descend_18 : decode cX0_descend 18 = .ok (.bipush 6, 2) := by decide +kernel
theorem dX0_descend_20 : decode cX0_descend 20 = .ok (.if_icmp .ge 58, 3) := by decide +kernel
theorem dX0_descend_23 : decode cX0_descend 23 = .ok (.iload 6, 2) := by decide +kernel
theorem dX0_descend_25 : decode cX0_descend 25 = .ok (.bipush 64, 2) := by decide +kernel
theorem dX0_descend_27 : decode cX0_descend 27 = .ok (.if_icmp .ge 51, 3) := by decide +kernel
theorem dX0_descend_30 : decode cX0_descend 30 = .ok (.iconst 2, 1) := by decide +kernel
theorem dX0_descend_31 : decode cX0_descend 31 = .ok (.iload 6, 2) := by decide +kernel
theorem dX0_descend_33 : decode cX0_descend 33 = .ok (.imul, 1) := by decide +kernel
theorem dX0_descend_34 : decode cX0_descend 34 = .ok (.istore 6, 2) := by decide +kernel
theorem dX0_descend_36 : decode cX0_descend 36 = .ok (.iload 7, 2) := by decide +kernel
theorem dX0_descend_38 : decode cX0_descend 38 = .ok (.aload_n 0, 1) := by decide +kernel
theorem dX0_descend_39 : decode cX0_descend 39 = .ok (.getfield 29, 3) := by decide +kernel
theorem dX0_descend_42 : decode cX0_descend 42 = .ok (.iload 5, 2) := by decide +kernel
theorem dX0_descend_44 : decode cX0_descend 44 = .ok (.iload 6, 2) := by decide +kernel
theorem dX0_descend_46 : decode cX0_descend 46 = .ok (.iadd, 1) := by decide +kernel
theorem dX0_descend_47 : decode cX0_descend 47 = .ok (.iaload, 1) := by decide +kernel
theorem dX0_descend_48 : decode cX0_descend 48 = .ok (.iadd, 1) := by decide +kernel
theorem dX0_descend_49 : decode cX0_descend 49 = .ok (.iload 4, 2) := by decide +kernel
theorem dX0_descend_51 : decode cX0_descend 51 = .ok (.if_icmp .lt 21, 3) := by decide +kernel
theorem dX0_descend_54 : decode cX0_descend 54 = .ok (.iload 7, 2) := by decide +kernel
theorem dX0_descend_56 : decode cX0_descend 56 = .ok (.aload_n 0, 1) := by decide +kernel
theorem dX0_descend_57 : decode cX0_descend 57 = .ok (.getfield 26, 3) := by decide +kernel
theorem dX0_descend_60 : decode cX0_descend 60 = .ok (.iload 5, 2) := by decide +kernel
theorem dX0_descend_62 : decode cX0_descend 62 = .ok (.iload 6, 2) := by decide +kernel
theorem dX0_descend_64 : decode cX0_descend 64 = .ok (.iadd, 1) := by decide +kernel
theorem dX0_descend_65 : decode cX0_descend 65 = .ok (.iaload, 1) := by decide +kernel
theorem dX0_descend_66 : decode cX0_descend 66 = .ok (.iadd, 1) := by decide +kernel
theorem dX0_descend_67 : decode cX0_descend 67 = .ok (.istore 7, 2) := by decide +kernel
theorem dX0_descend_69 : decode cX0_descend 69 = .ok (.iinc 6 1, 3) := by decide +kernel
theorem dX0_descend_72 : decode cX0_descend 72 = .ok (.iinc 8 1, 3) := by decide +kernel
theorem dX0_descend_75 : decode cX0_descend 75 = .ok (.goto (-59), 3) := by decide +kernel
theorem dX0_descend_78 : decode cX0_descend 78 = .ok (.iload 6, 2) := by decide +kernel
theorem dX0_descend_80 : decode cX0_descend 80 = .ok (.bipush 64, 2) := by decide +kernel
theorem dX0_descend_82 : decode cX0_descend 82 = .ok (.isub, 1) := by decide +kernel
theorem dX0_descend_83 : decode cX0_descend 83 = .ok (.ireturn, 1) := by decide +kernel
abbrev cX0_free : ByteArray := prog_1_method_17_code
def yX0_free : MethodName := ⟨RX0, "free", "(II)I"⟩
theorem dX0_free_0 : decode cX0_free 0 = .ok (.iload_n 1, 1) := by decide +kernel
theorem dX0_free_1 : decode cX0_free 1 = .ok (.invokestatic 42, 3) := by decide +kernel
theorem dX0_free_4 : decode cX0_free 4 = .ok (.ifCond .ne 5, 3) := by decide +kernel
theorem dX0_free_7 : decode cX0_free 7 = .ok (.iconst (-1), 1) := by decide +kernel
theorem dX0_free_8 : decode cX0_free 8 = .ok (.ireturn, 1) := by decide +kernel
theorem dX0_free_9 : decode cX0_free 9 = .ok (.iload_n 2, 1) := by decide +kernel
theorem dX0_free_10 : decode cX0_free 10 = .ok (.invokestatic 46, 3) := by decide +kernel
theorem dX0_free_13 : decode cX0_free 13 = .ok (.ifCond .ne 6, 3) := by decide +kernel
theorem dX0_free_16 : decode cX0_free 16 = .ok (.bipush (-2), 2) := by decide +kernel
theorem dX0_free_18 : decode cX0_free 18 = .ok (.ireturn, 1) := by decide +kernel
theorem dX0_free_19 : decode cX0_free 19 = .ok (.aload_n 0, 1) := by decide +kernel
theorem dX0_free_20 : decode cX0_free 20 = .ok (.iload_n 1, 1) := by decide +kernel
theorem dX0_free_21 : decode cX0_free 21 = .ok (.iload_n 2, 1) := by decide +kernel
theorem dX0_free_22 : decode cX0_free 22 = .ok (.bipush 47, 2) := by decide +kernel
theorem dX0_free_24 : decode cX0_free 24 = .ok (.invokevirtual 93, 3) := by decide +kernel
theorem dX0_free_27 : decode cX0_free 27 = .ok (.aload_n 0, 1) := by decide +kernel
theorem dX0_free_28 : decode cX0_free 28 = .ok (.getfield 23, 3) := by decide +kernel
theorem dX0_free_31 : decode cX0_free 31 = .ok (.iload_n 1, 1) := by decide +kernel
theorem dX0_free_32 : decode cX0_free 32 = .ok (.iaload, 1) := by decide +kernel
theorem dX0_free_33 : decode cX0_free 33 = .ok (.isub, 1) := by decide +kernel
theorem dX0_free_34 : decode cX0_free 34 = .ok (.istore_n 3, 1) := by decide +kernel
theorem dX0_free_35 : decode cX0_free 35 = .ok (.iload_n 3, 1) := by decide +kernel
theorem dX0_free_36 : decode cX0_free 36 = .ok (.ifCond .ge 7, 3) := by decide +kernel
theorem dX0_free_39 : decode cX0_free 39 = .ok (.iconst 0, 1) := by decide +kernel
theorem dX0_free_40 : decode cX0_free 40 = .ok (.goto 4, 3) := by decide +kernel
theorem dX0_free_43 : decode cX0_free 43 = .ok (.iload_n 3, 1) := by decide +kernel
theorem dX0_free_44 : decode cX0_free 44 = .ok (.ireturn, 1) := by decide +kernel
end
section
set_option maxRecDepth 100000
abbrev cX0_firstFree : ByteArray := prog_1_method_18_code
def yX0_firstFree : MethodName := ⟨RX0, "firstFree", "(II)I"⟩
theorem dX0_firstFree_0 : decode cX0_firstFree 0 = .ok (.iload_n 1, 1) := by decide +kernel
theorem dX0_firstFree_1 : decode cX0_firstFree 1 = .ok (.invokestatic 42, 3) := by decide +kernel
theorem dX0_firstFree_4 : decode cX0_firstFree 4 = .ok (.ifCond .ne 5, 3) := by decide +kernel
theorem dX0_firstFree_7 : decode cX0_firstFree 7 = .ok (.iconst (-1), 1) := by decide +kernel
theorem dX0_firstFree_8 : decode cX0_firstFree 8 = .ok (.ireturn, 1) := by decide +kernel
theorem dX0_firstFree_9 : decode cX0_firstFree 9 = .ok (.iload_n 2, 1) := by decide +kernel
theorem dX0_firstFree_10 : decode cX0_firstFree 10 = .ok (.iconst 1, 1) := by decide +kernel
theorem dX0_firstFree_11 : decode cX0_firstFree 11 = .ok (.if_icmp .lt 9, 3) := by decide +kernel
theorem dX0_firstFree_14 : decode cX0_firstFree 14 = .ok (.iload_n 2, 1) := by decide +kernel
theorem dX0_firstFree_15 : decode cX0_firstFree 15 = .ok (.ldc 103, 2) := by decide +kernel
theorem dX0_firstFree_17 : decode cX0_firstFree 17 = .ok (.if_icmp .le 6, 3) := by decide +kernel
theorem dX0_firstFree_20 : decode cX0_firstFree 20 = .ok (.bipush (-2), 2) := by decide +kernel
theorem dX0_firstFree_22 : decode cX0_firstFree 22 = .ok (.ireturn, 1) := by decide +kernel
theorem dX0_firstFree_23 : decode cX0_firstFree 23 = .ok (.aload_n 0, 1) := by decide +kernel
theorem dX0_firstFree_24 : decode cX0_firstFree 24 = .ok (.iload_n 1, 1) := by decide +kernel
theorem dX0_firstFree_25 : decode cX0_firstFree 25 = .ok (.aload_n 0, 1) := by decide +kernel
theorem dX0_firstFree_26 : decode cX0_firstFree 26 = .ok (.getfield 23, 3) := by decide +kernel
theorem dX0_firstFree_29 : decode cX0_firstFree 29 = .ok (.iload_n 1, 1) := by decide +kernel
theorem dX0_firstFree_30 : decode cX0_firstFree 30 = .ok (.iaload, 1) := by decide +kernel
theorem dX0_firstFree_31 : decode cX0_firstFree 31 = .ok (.iload_n 2, 1) := by decide +kernel
theorem dX0_firstFree_32 : decode cX0_firstFree 32 = .ok (.iadd, 1) := by decide +kernel
theorem dX0_firstFree_33 : decode cX0_firstFree 33 = .ok (.invokevirtual 104, 3) := by decide +kernel
theorem dX0_firstFree_36 : decode cX0_firstFree 36 = .ok (.istore_n 3, 1) := by decide +kernel
theorem dX0_firstFree_37 : decode cX0_firstFree 37 = .ok (.iload_n 3, 1) := by decide +kernel
theorem dX0_firstFree_38 : decode cX0_firstFree 38 = .ok (.bipush 47, 2) := by decide +kernel
theorem dX0_firstFree_40 : decode cX0_firstFree 40 = .ok (.if_icmp .ne 8, 3) := by decide +kernel
theorem dX0_firstFree_43 : decode cX0_firstFree 43 = .ok (.bipush (-3), 2) := by decide +kernel
theorem dX0_firstFree_45 : decode cX0_firstFree 45 = .ok (.goto 6, 3) := by decide +kernel
theorem dX0_firstFree_48 : decode cX0_firstFree 48 = .ok (.iload_n 3, 1) := by decide +kernel
theorem dX0_firstFree_49 : decode cX0_firstFree 49 = .ok (.iconst 1, 1) := by decide +kernel
theorem dX0_firstFree_50 : decode cX0_firstFree 50 = .ok (.iadd, 1) := by decide +kernel
theorem dX0_firstFree_51 : decode cX0_firstFree 51 = .ok (.ireturn, 1) := by decide +kernel
abbrev cX0_lastBelow : ByteArray := prog_1_method_33_code
def yX0_lastBelow : MethodName := ⟨RX0, "lastBelow", "(II)I"⟩
theorem dX0_lastBelow_0 : decode cX0_lastBelow 0 = .ok (.sipush 128, 3) := by decide +kernel
theorem dX0_lastBelow_3 : decode cX0_lastBelow 3 = .ok (.iload_n 1, 1) := by decide +kernel
theorem dX0_lastBelow_4 : decode cX0_lastBelow 4 = .ok (.imul, 1) := by decide +kernel
theorem dX0_lastBelow_5 : decode cX0_lastBelow 5 = .ok (.istore_n 3, 1) := by decide +kernel
theorem dX0_lastBelow_6 : decode cX0_lastBelow 6 = .ok (.iconst 1, 1) := by decide +kernel
theorem dX0_lastBelow_7 : decode cX0_lastBelow 7 = .ok (.istore 4, 2) := by decide +kernel
theorem dX0_lastBelow_9 : decode cX0_lastBelow 9 = .ok (.iconst 0, 1) := by decide +kernel
theorem dX0_lastBelow_10 : decode cX0_lastBelow 10 = .ok (.istore 5, 2) := by decide +kernel
theorem dX0_lastBelow_12 : decode cX0_lastBelow 12 = .ok (.aload_n 0, 1) := by decide +kernel
theorem dX0_lastBelow_13 : decode cX0_lastBelow 13 = .ok (.getfield 29, 3) := by decide +kernel
theorem dX0_lastBelow_16 : decode cX0_lastBelow 16 = .ok (.iload_n 3, 1) := by decide +kernel
theorem dX0_lastBelow_17 : decode cX0_lastBelow 17 = .ok (.iconst 1, 1) := by decide +kernel
theorem dX0_lastBelow_18 : decode cX0_lastBelow 18 = .ok (.iadd, 1) := by decide +kernel
theorem dX0_lastBelow_19 : decode cX0_lastBelow 19 = .ok (.iaload, 1) := by decide +kernel
theorem dX0_lastBelow_20 : decode cX0_lastBelow 20 = .ok (.iload_n 2, 1) := by decide +kernel
theorem dX0_lastBelow_21 : decode cX0_lastBelow 21 = .ok (.if_icmp .lt 5, 3) := by decide +kernel
theorem dX0_lastBelow_24 : decode cX0_lastBelow 24 = .ok (.iconst (-1), 1) := by decide +kernel
theorem dX0_lastBelow_25 : decode cX0_lastBelow 25 = .ok (.ireturn, 1) := by decide +kernel
theorem dX0_lastBelow_26 : decode cX0_lastBelow 26 = .ok (.iconst 0, 1) := by decide +kernel
theorem dX0_lastBelow_27 : decode cX0_lastBelow 27 = .ok (.istore 6, 2) := by decide +kernel
theorem dX0_lastBelow_29 : decode cX0_lastBelow 29 = .ok (.iload 6, 2) := by decide +kernel
theorem dX0_lastBelow_31 : decode cX0_lastBelow 31 = .ok (.bipush 6, 2) := by decide +kernel
theorem dX0_lastBelow_33 : decode cX0_lastBelow 33 = .ok (.if_icmp .ge 64, 3) := by decide +kernel
theorem dX0_lastBelow_36 : decode cX0_lastBelow 36 = .ok (.iconst 2, 1) := by decide +kernel
theorem dX0_lastBelow_37 : decode cX0_lastBelow 37 = .ok (.iload 4, 2) := by decide +kernel
theorem dX0_lastBelow_39 : decode cX0_lastBelow 39 = .ok (.imul, 1) := by decide +kernel
theorem dX0_lastBelow_40 : decode cX0_lastBelow 40 = .ok (.istore 7, 2) := by decide +kernel
theorem dX0_lastBelow_42 : decode cX0_lastBelow 42 = .ok (.iload 5, 2) := by decide +kernel
theorem dX0_lastBelow_44 : decode cX0_lastBelow 44 = .ok (.aload_n 0, 1) := by decide +kernel
theorem dX0_lastBelow_45 : decode cX0_lastBelow 45 = .ok (.getfield 26, 3) := by decide +kernel
theorem dX0_lastBelow_48 : decode cX0_lastBelow 48 = .ok (.iload_n 3, 1) := by decide +kernel
theorem dX0_lastBelow_49 : decode cX0_lastBelow 49 = .ok (.iload 7, 2) := by decide +kernel
theorem dX0_lastBelow_51 : decode cX0_lastBelow 51 = .ok (.iadd, 1) := by decide +kernel
theorem dX0_lastBelow_52 : decode cX0_lastBelow 52 = .ok (.iaload, 1) := by decide +kernel
theorem dX0_lastBelow_53 : decode cX0_lastBelow 53 = .ok (.iadd, 1) := by decide +kernel
theorem dX0_lastBelow_54 : decode cX0_lastBelow 54 = .ok (.istore 8, 2) := by decide +kernel
theorem dX0_lastBelow_56 : decode cX0_lastBelow 56 = .ok (.iload 8, 2) := by decide +kernel
theorem dX0_lastBelow_58 : decode cX0_lastBelow 58 = .ok (.aload_n 0, 1) := by decide +kernel
theorem dX0_lastBelow_59 : decode cX0_lastBelow 59 = .ok (.getfield 29, 3) := by decide +kernel
theorem dX0_lastBelow_62 : decode cX0_lastBelow 62 = .ok (.iload_n 3, 1) := by decide +kernel
theorem dX0_lastBelow_63 : decode cX0_lastBelow 63 = .ok (.iload 7, 2) := by decide +kernel
theorem dX0_lastBelow_65 : decode cX0_lastBelow 65 = .ok (.iadd, 1) := by decide +kernel
theorem dX0_lastBelow_66 : decode cX0_lastBelow 66 = .ok (.iconst 1, 1) := by decide +kernel
theorem dX0_lastBelow_67 : decode cX0_lastBelow 67 = .ok (.iadd, 1) := by decide +kernel
theorem dX0_lastBelow_68 : decode cX0_lastBelow 68 = .ok (.iaload, 1) := by decide +kernel
theorem dX0_lastBelow_69 : decode cX0_lastBelow 69 = .ok (.iadd, 1) := by decide +kernel
theorem dX0_lastBelow_70 : decode cX0_lastBelow 70 = .ok (.iload_n 2, 1) := by decide +kernel
theorem dX0_lastBelow_71 : decode cX0_lastBelow 71 = .ok (.if_icmp .ge 16, 3) := by decide +kernel
theorem dX0_lastBelow_74 : decode cX0_lastBelow 74 = .ok (.iload 8, 2) := by decide +kernel
theorem dX0_lastBelow_76 : decode cX0_lastBelow 76 = .ok (.istore 5, 2) := by decide +kernel
theorem dX0_lastBelow_78 : decode cX0_lastBelow 78 = .ok (.iload 7, 2) := by decide +kernel
theorem dX0_lastBelow_80 : decode cX0_lastBelow 80 = .ok (.iconst 1, 1) := by decide +kernel
theorem dX0_lastBelow_81 : decode cX0_lastBelow 81 = .ok (.iadd, 1) := by decide +kernel
theorem dX0_lastBelow_82 : decode cX0_lastBelow 82 = .ok (.istore 4, 2) := by decide +kernel
theorem dX0_lastBelow_84 : decode cX0_lastBelow 84 = .ok (.goto 7, 3) := by decide +kernel
theorem dX0_lastBelow_87 : decode cX0_lastBelow 87 = .ok (.iload 7, 2) := by decide +kernel
theorem dX0_lastBelow_89 : decode cX0_lastBelow 89 = .ok (.istore 4, 2) := by decide +kernel
theorem dX0_lastBelow_91 : decode cX0_lastBelow 91 = .ok (.iinc 6 1, 3) := by decide +kernel
theorem dX0_lastBelow_94 : decode cX0_lastBelow 94 = .ok (.goto (-65), 3) := by decide +kernel
theorem dX0_lastBelow_97 : decode cX0_lastBelow 97 = .ok (.iload 4, 2) := by decide +kernel
theorem dX0_lastBelow_99 : decode cX0_lastBelow 99 = .ok (.bipush 64, 2) := by decide +kernel
theorem dX0_lastBelow_101 : decode cX0_lastBelow 101 = .ok (.isub, 1) := by decide +kernel
theorem dX0_lastBelow_102 : decode cX0_lastBelow 102 = .ok (.istore 6, 2) := by decide +kernel
theorem dX0_lastBelow_104 : decode cX0_lastBelow 104 = .ok (.iload 6, 2) := by decide +kernel
theorem dX0_lastBelow_106 : decode cX0_lastBelow 106 = .ok (.bipush 47, 2) := by decide +kernel
theorem dX0_lastBelow_108 : decode cX0_lastBelow 108 = .ok (.if_icmp .le 8, 3) := by decide +kernel
theorem dX0_lastBelow_111 : decode cX0_lastBelow 111 = .ok (.bipush 47, 2) := by decide +kernel
theorem dX0_lastBelow_113 : decode cX0_lastBelow 113 = .ok (.goto 5, 3) := by decide +kernel
theorem dX0_lastBelow_116 : decode cX0_lastBelow 116 = .ok (.iload 6, 2) := by decide +kernel
theorem dX0_lastBelow_118 : decode cX0_lastBelow 118 = .ok (.ireturn, 1) := by decide +kernel
abbrev cX0_daysBelow : ByteArray := prog_1_method_19_code
def yX0_daysBelow : MethodName := ⟨RX0, "daysBelow", "(II)I"⟩
theorem dX0_daysBelow_0 : decode cX0_daysBelow 0 = .ok (.iload_n 1, 1) := by decide +kernel
theorem dX0_daysBelow_1 : decode cX0_daysBelow 1 = .ok (.invokestatic 42, 3) := by decide +kernel
theorem dX0_daysBelow_4 : decode cX0_daysBelow 4 = .ok (.ifCond .ne 5, 3) := by decide +kernel
theorem dX0_daysBelow_7 : decode cX0_daysBelow 7 = .ok (.iconst (-1), 1) := by decide +kernel
theorem dX0_daysBelow_8 : decode cX0_daysBelow 8 = .ok (.ireturn, 1) := by decide +kernel
theorem dX0_daysBelow_9 : decode cX0_daysBelow 9 = .ok (.iconst 0, 1) := by decide +kernel
theorem dX0_daysBelow_10 : decode cX0_daysBelow 10 = .ok (.istore_n 3, 1) := by decide +kernel
theorem dX0_daysBelow_11 : decode cX0_daysBelow 11 = .ok (.aload_n 0, 1) := by decide +kernel
theorem dX0_daysBelow_12 : decode cX0_daysBelow 12 = .ok (.iload_n 1, 1) := by decide +kernel
theorem dX0_daysBelow_13 : decode cX0_daysBelow 13 = .ok (.iconst 0, 1) := by decide +kernel
theorem dX0_daysBelow_14 : decode cX0_daysBelow 14 = .ok (.iload_n 2, 1) := by decide +kernel
theorem dX0_daysBelow_15 : decode cX0_daysBelow 15 = .ok (.invokevirtual 100, 3) := by decide +kernel
theorem dX0_daysBelow_18 : decode cX0_daysBelow 18 = .ok (.istore 4, 2) := by decide +kernel
theorem dX0_daysBelow_20 : decode cX0_daysBelow 20 = .ok (.iconst 0, 1) := by decide +kernel
theorem dX0_daysBelow_21 : decode cX0_daysBelow 21 = .ok (.istore 5, 2) := by decide +kernel
theorem dX0_daysBelow_23 : decode cX0_daysBelow 23 = .ok (.iload 5, 2) := by decide +kernel
theorem dX0_daysBelow_25 : decode cX0_daysBelow 25 = .ok (.bipush 48, 2) := by decide +kernel
theorem dX0_daysBelow_27 : decode cX0_daysBelow 27 = .ok (.if_icmp .ge 40, 3) := by decide +kernel
theorem dX0_daysBelow_30 : decode cX0_daysBelow 30 = .ok (.iload 4, 2) := by decide +kernel
theorem dX0_daysBelow_32 : decode cX0_daysBelow 32 = .ok (.ifCond .lt 35, 3) := by decide +kernel
theorem dX0_daysBelow_35 : decode cX0_daysBelow 35 = .ok (.iinc 3 1, 3) := by decide +kernel
theorem dX0_daysBelow_38 : decode cX0_daysBelow 38 = .ok (.iload 4, 2) := by decide +kernel
theorem dX0_daysBelow_40 : decode cX0_daysBelow 40 = .ok (.bipush 47, 2) := by decide +kernel
theorem dX0_daysBelow_42 : decode cX0_daysBelow 42 = .ok (.if_icmp .ne 7, 3) := by decide +kernel
theorem dX0_daysBelow_45 : decode cX0_daysBelow 45 = .ok (.iconst (-1), 1) := by decide +kernel
theorem dX0_daysBelow_46 : decode cX0_daysBelow 46 = .ok (.goto 13, 3) := by decide +kernel
theorem dX0_daysBelow_49 : decode cX0_daysBelow 49 = .ok (.aload_n 0, 1) := by decide +kernel
theorem dX0_daysBelow_50 : decode cX0_daysBelow 50 = .ok (.iload_n 1, 1) := by decide +kernel
theorem dX0_daysBelow_51 : decode cX0_daysBelow 51 = .ok (.iload 4, 2) := by decide +kernel
theorem dX0_daysBelow_53 : decode cX0_daysBelow 53 = .ok (.iconst 1, 1) := by decide +kernel
theorem dX0_daysBelow_54 : decode cX0_daysBelow 54 = .ok (.iadd, 1) := by decide +kernel
theorem dX0_daysBelow_55 : decode cX0_daysBelow 55 = .ok (.iload_n 2, 1) := by decide +kernel
theorem dX0_daysBelow_56 : decode cX0_daysBelow 56 = .ok (.invokevirtual 100, 3) := by decide +kernel
theorem dX0_daysBelow_59 : decode cX0_daysBelow 59 = .ok (.istore 4, 2) := by decide +kernel
theorem dX0_daysBelow_61 : decode cX0_daysBelow 61 = .ok (.iinc 5 1, 3) := by decide +kernel
theorem dX0_daysBelow_64 : decode cX0_daysBelow 64 = .ok (.goto (-41), 3) := by decide +kernel
theorem dX0_daysBelow_67 : decode cX0_daysBelow 67 = .ok (.iload_n 3, 1) := by decide +kernel
theorem dX0_daysBelow_68 : decode cX0_daysBelow 68 = .ok (.ireturn, 1) := by decide +kernel
theorem q20 : (Jvm.Cond.initialized "BackdatedBook") ∈ lw_all := lw_g (lw_at lw_m1 1 rfl) rfl
theorem q23 : (Jvm.Cond.instantiable "BackdatedBook" (16 : Nat)) ∈ lw_all := lw_g (lw_at lw_m1 4 rfl) rfl
theorem q25 : (Jvm.Cond.instanceMethod ({ cls := "BackdatedBook", name := "<init>", desc := "()V" } : Jvm.MethodName)) ∈ lw_all := lw_g (lw_at lw_m1 6 rfl) rfl
theorem q26 : (Jvm.Cond.code ({ cls := "BackdatedBook", name := "<init>", desc := "()V" } : Jvm.MethodName) prog_1_method_1_code (1 : Nat) (Option.none : Option Jvm.ClassFile.FieldType)) ∈ lw_all := lw_g (lw_at lw_m1 7 rfl) rfl
theorem q27 : (Jvm.Cond.methodLink "BackdatedBook" (1 : Nat) ({ cls := "java/lang/Object", name := "<init>", desc := "()V" } : Jvm.MethodName)) ∈ lw_all := lw_g (lw_at lw_m1 8 rfl) rfl
theorem q30 : (Jvm.Cond.fieldLink "BackdatedBook" (7 : Nat) "BackdatedBook" "accountOf" "[I") ∈ lw_all := lw_g (lw_at lw_m1 11 rfl) rfl
theorem q31 : (Jvm.Cond.fieldLink "BackdatedBook" (13 : Nat) "BackdatedBook" "dayOf" "[I") ∈ lw_all := lw_g (lw_at lw_m1 12 rfl) rfl
theorem q32 : (Jvm.Cond.fieldLink "BackdatedBook" (16 : Nat) "BackdatedBook" "amounts" "[I") ∈ lw_all := lw_g (lw_at lw_m1 13 rfl) rfl
theorem q33 : (Jvm.Cond.fieldLink "BackdatedBook" (19 : Nat) "BackdatedBook" "gone" "[Z") ∈ lw_all := lw_g (lw_at lw_m1 14 rfl) rfl
theorem q34 : (Jvm.Cond.fieldLink "BackdatedBook" (23 : Nat) "BackdatedBook" "floors" "[I") ∈ lw_all := lw_g (lw_at lw_m1 15 rfl) rfl
theorem q35 : (Jvm.Cond.fieldLink "BackdatedBook" (26 : Nat) "BackdatedBook" "change" "[I") ∈ lw_all := lw_g (lw_at lw_m1 16 rfl) rfl
theorem q36 : (Jvm.Cond.fieldLink "BackdatedBook" (29 : Nat) "BackdatedBook" "least" "[I") ∈ lw_all := lw_g (lw_at lw_m1 17 rfl) rfl
theorem q37 : (Jvm.Cond.fieldLink "BackdatedBook" (32 : Nat) "BackdatedBook" "area" "[I") ∈ lw_all := lw_g (lw_at lw_m1 18 rfl) rfl
theorem q38 : (Jvm.Cond.fieldLink "BackdatedBook" (35 : Nat) "BackdatedBook" "log" "[I") ∈ lw_all := lw_g (lw_at lw_m1 19 rfl) rfl
theorem q39 : (Jvm.Cond.fieldLink "BackdatedBook" (38 : Nat) "BackdatedBook" "count" "I") ∈ lw_all := lw_g (lw_at lw_m1 20 rfl) rfl
theorem q40 : (Jvm.Cond.fieldLink "BackdatedBook" (68 : Nat) "BackdatedBook" "logged" "I") ∈ lw_all := lw_g (lw_at lw_m1 21 rfl) rfl
theorem q41 : (Jvm.Cond.fieldLink "BackdatedBook" (77 : Nat) "BackdatedBook" "mark" "I") ∈ lw_all := lw_g (lw_at lw_m1 22 rfl) rfl
theorem q42 : (Jvm.Cond.fieldLink "BackdatedBook" (49 : Nat) "BackdatedBook" "batch" "Z") ∈ lw_all := lw_g (lw_at lw_m1 23 rfl) rfl
theorem q43 : (Jvm.Cond.fieldLink "BackdatedBook" (85 : Nat) "BackdatedBook" "walkChange" "I") ∈ lw_all := lw_g (lw_at lw_m1 24 rfl) rfl
theorem q44 : (Jvm.Cond.fieldLink "BackdatedBook" (74 : Nat) "BackdatedBook" "walkLeast" "I") ∈ lw_all := lw_g (lw_at lw_m1 25 rfl) rfl
theorem q45 : (Jvm.Cond.fieldLink "BackdatedBook" (97 : Nat) "BackdatedBook" "walkArea" "I") ∈ lw_all := lw_g (lw_at lw_m1 26 rfl) rfl
theorem q46 : (Jvm.Cond.laysFinal "BackdatedBook" "BackdatedBook" "accountOf" "[I") ∈ lw_all := lw_g (lw_at lw_m1 27 rfl) rfl
theorem q47 : (Jvm.Cond.soleField "BackdatedBook" "accountOf") ∈ lw_all := lw_g (lw_at lw_m1 28 rfl) rfl
theorem q48 : (Jvm.Cond.laysFinal "BackdatedBook" "BackdatedBook" "dayOf" "[I") ∈ lw_all := lw_g (lw_at lw_m1 29 rfl) rfl
theorem q49 : (Jvm.Cond.soleField "BackdatedBook" "dayOf") ∈ lw_all := lw_g (lw_at lw_m1 30 rfl) rfl
theorem q50 : (Jvm.Cond.laysFinal "BackdatedBook" "BackdatedBook" "amounts" "[I") ∈ lw_all := lw_g (lw_at lw_m1 31 rfl) rfl
theorem q51 : (Jvm.Cond.soleField "BackdatedBook" "amounts") ∈ lw_all := lw_g (lw_at lw_m1 32 rfl) rfl
theorem q52 : (Jvm.Cond.laysFinal "BackdatedBook" "BackdatedBook" "gone" "[Z") ∈ lw_all := lw_g (lw_at lw_m1 33 rfl) rfl
theorem q53 : (Jvm.Cond.soleField "BackdatedBook" "gone") ∈ lw_all := lw_g (lw_at lw_m1 34 rfl) rfl
theorem q54 : (Jvm.Cond.laysFinal "BackdatedBook" "BackdatedBook" "floors" "[I") ∈ lw_all := lw_g (lw_at lw_m1 35 rfl) rfl
theorem q55 : (Jvm.Cond.soleField "BackdatedBook" "floors") ∈ lw_all := lw_g (lw_at lw_m1 36 rfl) rfl
theorem q56 : (Jvm.Cond.laysFinal "BackdatedBook" "BackdatedBook" "change" "[I") ∈ lw_all := lw_g (lw_at lw_m1 37 rfl) rfl
theorem q57 : (Jvm.Cond.soleField "BackdatedBook" "change") ∈ lw_all := lw_g (lw_at lw_m1 38 rfl) rfl
theorem q58 : (Jvm.Cond.laysFinal "BackdatedBook" "BackdatedBook" "least" "[I") ∈ lw_all := lw_g (lw_at lw_m1 39 rfl) rfl
theorem q59 : (Jvm.Cond.soleField "BackdatedBook" "least") ∈ lw_all := lw_g (lw_at lw_m1 40 rfl) rfl
theorem q60 : (Jvm.Cond.laysFinal "BackdatedBook" "BackdatedBook" "area" "[I") ∈ lw_all := lw_g (lw_at lw_m1 41 rfl) rfl
theorem q61 : (Jvm.Cond.soleField "BackdatedBook" "area") ∈ lw_all := lw_g (lw_at lw_m1 42 rfl) rfl
theorem q62 : (Jvm.Cond.laysFinal "BackdatedBook" "BackdatedBook" "log" "[I") ∈ lw_all := lw_g (lw_at lw_m1 43 rfl) rfl
theorem q63 : (Jvm.Cond.soleField "BackdatedBook" "log") ∈ lw_all := lw_g (lw_at lw_m1 44 rfl) rfl
theorem q64 : (Jvm.Cond.lays "BackdatedBook" "BackdatedBook" "count" "I") ∈ lw_all := lw_g (lw_at lw_m1 45 rfl) rfl
theorem q65 : (Jvm.Cond.soleField "BackdatedBook" "count") ∈ lw_all := lw_g (lw_at lw_m1 46 rfl) rfl
theorem q66 : (Jvm.Cond.lays "BackdatedBook" "BackdatedBook" "logged" "I") ∈ lw_all := lw_g (lw_at lw_m1 47 rfl) rfl
theorem q67 : (Jvm.Cond.soleField "BackdatedBook" "logged") ∈ lw_all := lw_g (lw_at lw_m1 48 rfl) rfl
theorem q68 : (Jvm.Cond.lays "BackdatedBook" "BackdatedBook" "mark" "I") ∈ lw_all := lw_g (lw_at lw_m1 49 rfl) rfl
theorem q69 : (Jvm.Cond.soleField "BackdatedBook" "mark") ∈ lw_all := lw_g (lw_at lw_m1 50 rfl) rfl
theorem q70 : (Jvm.Cond.lays "BackdatedBook" "BackdatedBook" "batch" "Z") ∈ lw_all := lw_g (lw_at lw_m1 51 rfl) rfl
theorem q71 : (Jvm.Cond.soleField "BackdatedBook" "batch") ∈ lw_all := lw_g (lw_at lw_m1 52 rfl) rfl
theorem q72 : (Jvm.Cond.lays "BackdatedBook" "BackdatedBook" "walkChange" "I") ∈ lw_all := lw_g (lw_at lw_m1 53 rfl) rfl
theorem q73 : (Jvm.Cond.soleField "BackdatedBook" "walkChange") ∈ lw_all := lw_g (lw_at lw_m1 54 rfl) rfl
theorem q74 : (Jvm.Cond.lays "BackdatedBook" "BackdatedBook" "walkLeast" "I") ∈ lw_all := lw_g (lw_at lw_m1 55 rfl) rfl
theorem q75 : (Jvm.Cond.soleField "BackdatedBook" "walkLeast") ∈ lw_all := lw_g (lw_at lw_m1 56 rfl) rfl
theorem q76 : (Jvm.Cond.lays "BackdatedBook" "BackdatedBook" "walkArea" "I") ∈ lw_all := lw_g (lw_at lw_m1 57 rfl) rfl
theorem q77 : (Jvm.Cond.soleField "BackdatedBook" "walkArea") ∈ lw_all := lw_g (lw_at lw_m1 58 rfl) rfl
theorem q78 : (Jvm.Cond.superclass "BackdatedBook" "java/lang/Object") ∈ lw_all := lw_g (lw_at lw_m1 59 rfl) rfl
theorem q82 : (Jvm.Cond.instanceMethod ({ cls := "BackdatedBook", name := "post", desc := "(III)I" } : Jvm.MethodName)) ∈ lw_all := lw_g (lw_at lw_m1 63 rfl) rfl
theorem q83 : (Jvm.Cond.selects "BackdatedBook" ({ cls := "BackdatedBook", name := "post", desc := "(III)I" } : Jvm.MethodName) ({ cls := "BackdatedBook", name := "post", desc := "(III)I" } : Jvm.MethodName)) ∈ lw_all := lw_g (lw_at lw_m1 64 rfl) rfl
theorem q84 : (Jvm.Cond.code ({ cls := "BackdatedBook", name := "post", desc := "(III)I" } : Jvm.MethodName) prog_1_method_2_code (4 : Nat) (Option.some Jvm.ClassFile.FieldType.int)) ∈ lw_all := lw_g (lw_at lw_m1 65 rfl) rfl
theorem q85 : (Jvm.Cond.methodLink "BackdatedBook" (42 : Nat) ({ cls := "BackdatedBook", name := "isAccount", desc := "(I)Z" } : Jvm.MethodName)) ∈ lw_all := lw_g (lw_at lw_m1 66 rfl) rfl
theorem q86 : (Jvm.Cond.static ({ cls := "BackdatedBook", name := "isAccount", desc := "(I)Z" } : Jvm.MethodName)) ∈ lw_all := lw_g (lw_at lw_m1 67 rfl) rfl
theorem q87 : (Jvm.Cond.code ({ cls := "BackdatedBook", name := "isAccount", desc := "(I)Z" } : Jvm.MethodName) prog_1_method_20_code (1 : Nat) (Option.some Jvm.ClassFile.FieldType.boolean)) ∈ lw_all := lw_g (lw_at lw_m1 68 rfl) rfl
theorem q88 : (Jvm.Cond.methodLink "BackdatedBook" (46 : Nat) ({ cls := "BackdatedBook", name := "isDay", desc := "(I)Z" } : Jvm.MethodName)) ∈ lw_all := lw_g (lw_at lw_m1 69 rfl) rfl
theorem q89 : (Jvm.Cond.static ({ cls := "BackdatedBook", name := "isDay", desc := "(I)Z" } : Jvm.MethodName)) ∈ lw_all := lw_g (lw_at lw_m1 70 rfl) rfl
theorem q90 : (Jvm.Cond.code ({ cls := "BackdatedBook", name := "isDay", desc := "(I)Z" } : Jvm.MethodName) prog_1_method_21_code (1 : Nat) (Option.some Jvm.ClassFile.FieldType.boolean)) ∈ lw_all := lw_g (lw_at lw_m1 71 rfl) rfl
theorem q91 : (Jvm.Cond.methodLink "BackdatedBook" (53 : Nat) ({ cls := "BackdatedBook", name := "bears", desc := "(III)Z" } : Jvm.MethodName)) ∈ lw_all := lw_g (lw_at lw_m1 72 rfl) rfl
theorem q92 : (Jvm.Cond.privateMethod ({ cls := "BackdatedBook", name := "bears", desc := "(III)Z" } : Jvm.MethodName)) ∈ lw_tbl := lw_at lw_m1 73 rfl
theorem q93 : (Jvm.Cond.instanceMethod ({ cls := "BackdatedBook", name := "bears", desc := "(III)Z" } : Jvm.MethodName)) ∈ lw_all := lw_g (lw_at lw_m1 74 rfl) rfl
theorem q94 : (Jvm.Cond.code ({ cls := "BackdatedBook", name := "bears", desc := "(III)Z" } : Jvm.MethodName) prog_1_method_25_code (4 : Nat) (Option.some Jvm.ClassFile.FieldType.boolean)) ∈ lw_all := lw_g (lw_at lw_m1 75 rfl) rfl
theorem q95 : (Jvm.Cond.methodLink "BackdatedBook" (93 : Nat) ({ cls := "BackdatedBook", name := "lowestIn", desc := "(III)I" } : Jvm.MethodName)) ∈ lw_all := lw_g (lw_at lw_m1 76 rfl) rfl
theorem q96 : (Jvm.Cond.privateMethod ({ cls := "BackdatedBook", name := "lowestIn", desc := "(III)I" } : Jvm.MethodName)) ∈ lw_tbl := lw_at lw_m1 77 rfl
theorem q97 : (Jvm.Cond.instanceMethod ({ cls := "BackdatedBook", name := "lowestIn", desc := "(III)I" } : Jvm.MethodName)) ∈ lw_all := lw_g (lw_at lw_m1 78 rfl) rfl
theorem q98 : (Jvm.Cond.code ({ cls := "BackdatedBook", name := "lowestIn", desc := "(III)I" } : Jvm.MethodName) prog_1_method_30_code (5 : Nat) (Option.some Jvm.ClassFile.FieldType.int)) ∈ lw_all := lw_g (lw_at lw_m1 79 rfl) rfl
theorem q99 : (Jvm.Cond.methodLink "BackdatedBook" (71 : Nat) ({ cls := "BackdatedBook", name := "walk", desc := "(III)V" } : Jvm.MethodName)) ∈ lw_all := lw_g (lw_at lw_m1 80 rfl) rfl
theorem q100 : (Jvm.Cond.privateMethod ({ cls := "BackdatedBook", name := "walk", desc := "(III)V" } : Jvm.MethodName)) ∈ lw_tbl := lw_at lw_m1 81 rfl
theorem q101 : (Jvm.Cond.instanceMethod ({ cls := "BackdatedBook", name := "walk", desc := "(III)V" } : Jvm.MethodName)) ∈ lw_all := lw_g (lw_at lw_m1 82 rfl) rfl
theorem q102 : (Jvm.Cond.code ({ cls := "BackdatedBook", name := "walk", desc := "(III)V" } : Jvm.MethodName) prog_1_method_28_code (10 : Nat) (Option.none : Option Jvm.ClassFile.FieldType)) ∈ lw_all := lw_g (lw_at lw_m1 83 rfl) rfl
theorem q103 : (Jvm.Cond.constant "BackdatedBook" (108 : Nat) (2147483647 : Int32)) ∈ lw_all := lw_g (lw_at lw_m1 84 rfl) rfl
theorem q104 : (Jvm.Cond.methodLink "BackdatedBook" (109 : Nat) ({ cls := "BackdatedBook", name := "widest", desc := "(II)I" } : Jvm.MethodName)) ∈ lw_all := lw_g (lw_at lw_m1 85 rfl) rfl
theorem q105 : (Jvm.Cond.static ({ cls := "BackdatedBook", name := "widest", desc := "(II)I" } : Jvm.MethodName)) ∈ lw_all := lw_g (lw_at lw_m1 86 rfl) rfl
theorem q106 : (Jvm.Cond.code ({ cls := "BackdatedBook", name := "widest", desc := "(II)I" } : Jvm.MethodName) prog_1_method_29_code (3 : Nat) (Option.some Jvm.ClassFile.FieldType.int)) ∈ lw_all := lw_g (lw_at lw_m1 87 rfl) rfl
theorem q107 : (Jvm.Cond.methodLink "BackdatedBook" (57 : Nat) ({ cls := "BackdatedBook", name := "enter", desc := "(III)I" } : Jvm.MethodName)) ∈ lw_all := lw_g (lw_at lw_m1 88 rfl) rfl
theorem q108 : (Jvm.Cond.privateMethod ({ cls := "BackdatedBook", name := "enter", desc := "(III)I" } : Jvm.MethodName)) ∈ lw_tbl := lw_at lw_m1 89 rfl
theorem q109 : (Jvm.Cond.instanceMethod ({ cls := "BackdatedBook", name := "enter", desc := "(III)I" } : Jvm.MethodName)) ∈ lw_all := lw_g (lw_at lw_m1 90 rfl) rfl
theorem q110 : (Jvm.Cond.code ({ cls := "BackdatedBook", name := "enter", desc := "(III)I" } : Jvm.MethodName) prog_1_method_26_code (4 : Nat) (Option.some Jvm.ClassFile.FieldType.int)) ∈ lw_all := lw_g (lw_at lw_m1 91 rfl) rfl
theorem q111 : (Jvm.Cond.methodLink "BackdatedBook" (64 : Nat) ({ cls := "BackdatedBook", name := "add", desc := "(III)V" } : Jvm.MethodName)) ∈ lw_all := lw_g (lw_at lw_m1 92 rfl) rfl
theorem q112 : (Jvm.Cond.privateMethod ({ cls := "BackdatedBook", name := "add", desc := "(III)V" } : Jvm.MethodName)) ∈ lw_tbl := lw_at lw_m1 93 rfl
theorem q113 : (Jvm.Cond.instanceMethod ({ cls := "BackdatedBook", name := "add", desc := "(III)V" } : Jvm.MethodName)) ∈ lw_all := lw_g (lw_at lw_m1 94 rfl) rfl
theorem q114 : (Jvm.Cond.code ({ cls := "BackdatedBook", name := "add", desc := "(III)V" } : Jvm.MethodName) prog_1_method_27_code (10 : Nat) (Option.none : Option Jvm.ClassFile.FieldType)) ∈ lw_all := lw_g (lw_at lw_m1 95 rfl) rfl
theorem q116 : (Jvm.Cond.instanceMethod ({ cls := "BackdatedBook", name := "transfer", desc := "(III)I" } : Jvm.MethodName)) ∈ lw_all := lw_g (lw_at lw_m1 97 rfl) rfl
theorem q117 : (Jvm.Cond.selects "BackdatedBook" ({ cls := "BackdatedBook", name := "transfer", desc := "(III)I" } : Jvm.MethodName) ({ cls := "BackdatedBook", name := "transfer", desc := "(III)I" } : Jvm.MethodName)) ∈ lw_all := lw_g (lw_at lw_m1 98 rfl) rfl
theorem q118 : (Jvm.Cond.code ({ cls := "BackdatedBook", name := "transfer", desc := "(III)I" } : Jvm.MethodName) prog_1_method_3_code (7 : Nat) (Option.some Jvm.ClassFile.FieldType.int)) ∈ lw_all := lw_g (lw_at lw_m1 99 rfl) rfl
theorem q120 : (Jvm.Cond.instanceMethod ({ cls := "BackdatedBook", name := "cancel", desc := "(I)I" } : Jvm.MethodName)) ∈ lw_all := lw_g (lw_at lw_m1 101 rfl) rfl
theorem q121 : (Jvm.Cond.selects "BackdatedBook" ({ cls := "BackdatedBook", name := "cancel", desc := "(I)I" } : Jvm.MethodName) ({ cls := "BackdatedBook", name := "cancel", desc := "(I)I" } : Jvm.MethodName)) ∈ lw_all := lw_g (lw_at lw_m1 102 rfl) rfl
theorem q122 : (Jvm.Cond.code ({ cls := "BackdatedBook", name := "cancel", desc := "(I)I" } : Jvm.MethodName) prog_1_method_4_code (3 : Nat) (Option.some Jvm.ClassFile.FieldType.int)) ∈ lw_all := lw_g (lw_at lw_m1 103 rfl) rfl
theorem q123 : (Jvm.Cond.methodLink "BackdatedBook" (61 : Nat) ({ cls := "BackdatedBook", name := "isEntry", desc := "(I)Z" } : Jvm.MethodName)) ∈ lw_all := lw_g (lw_at lw_m1 104 rfl) rfl
theorem q124 : (Jvm.Cond.privateMethod ({ cls := "BackdatedBook", name := "isEntry", desc := "(I)Z" } : Jvm.MethodName)) ∈ lw_tbl := lw_at lw_m1 105 rfl
theorem q125 : (Jvm.Cond.instanceMethod ({ cls := "BackdatedBook", name := "isEntry", desc := "(I)Z" } : Jvm.MethodName)) ∈ lw_all := lw_g (lw_at lw_m1 106 rfl) rfl
theorem q126 : (Jvm.Cond.code ({ cls := "BackdatedBook", name := "isEntry", desc := "(I)Z" } : Jvm.MethodName) prog_1_method_22_code (2 : Nat) (Option.some Jvm.ClassFile.FieldType.boolean)) ∈ lw_all := lw_g (lw_at lw_m1 107 rfl) rfl
theorem q128 : (Jvm.Cond.instanceMethod ({ cls := "BackdatedBook", name := "floor", desc := "(II)I" } : Jvm.MethodName)) ∈ lw_all := lw_g (lw_at lw_m1 109 rfl) rfl
theorem q129 : (Jvm.Cond.selects "BackdatedBook" ({ cls := "BackdatedBook", name := "floor", desc := "(II)I" } : Jvm.MethodName) ({ cls := "BackdatedBook", name := "floor", desc := "(II)I" } : Jvm.MethodName)) ∈ lw_all := lw_g (lw_at lw_m1 110 rfl) rfl
theorem q130 : (Jvm.Cond.code ({ cls := "BackdatedBook", name := "floor", desc := "(II)I" } : Jvm.MethodName) prog_1_method_5_code (4 : Nat) (Option.some Jvm.ClassFile.FieldType.int)) ∈ lw_all := lw_g (lw_at lw_m1 111 rfl) rfl
theorem q132 : (Jvm.Cond.instanceMethod ({ cls := "BackdatedBook", name := "open", desc := "()I" } : Jvm.MethodName)) ∈ lw_all := lw_g (lw_at lw_m1 113 rfl) rfl
theorem q133 : (Jvm.Cond.selects "BackdatedBook" ({ cls := "BackdatedBook", name := "open", desc := "()I" } : Jvm.MethodName) ({ cls := "BackdatedBook", name := "open", desc := "()I" } : Jvm.MethodName)) ∈ lw_all := lw_g (lw_at lw_m1 114 rfl) rfl
theorem q134 : (Jvm.Cond.code ({ cls := "BackdatedBook", name := "open", desc := "()I" } : Jvm.MethodName) prog_1_method_6_code (1 : Nat) (Option.some Jvm.ClassFile.FieldType.int)) ∈ lw_all := lw_g (lw_at lw_m1 115 rfl) rfl
theorem q136 : (Jvm.Cond.instanceMethod ({ cls := "BackdatedBook", name := "close", desc := "()I" } : Jvm.MethodName)) ∈ lw_all := lw_g (lw_at lw_m1 117 rfl) rfl
theorem q137 : (Jvm.Cond.selects "BackdatedBook" ({ cls := "BackdatedBook", name := "close", desc := "()I" } : Jvm.MethodName) ({ cls := "BackdatedBook", name := "close", desc := "()I" } : Jvm.MethodName)) ∈ lw_all := lw_g (lw_at lw_m1 118 rfl) rfl
theorem q138 : (Jvm.Cond.code ({ cls := "BackdatedBook", name := "close", desc := "()I" } : Jvm.MethodName) prog_1_method_7_code (3 : Nat) (Option.some Jvm.ClassFile.FieldType.int)) ∈ lw_all := lw_g (lw_at lw_m1 119 rfl) rfl
theorem q139 : (Jvm.Cond.methodLink "BackdatedBook" (80 : Nat) ({ cls := "BackdatedBook", name := "isSound", desc := "()Z" } : Jvm.MethodName)) ∈ lw_all := lw_g (lw_at lw_m1 120 rfl) rfl
theorem q140 : (Jvm.Cond.privateMethod ({ cls := "BackdatedBook", name := "isSound", desc := "()Z" } : Jvm.MethodName)) ∈ lw_tbl := lw_at lw_m1 121 rfl
theorem q141 : (Jvm.Cond.instanceMethod ({ cls := "BackdatedBook", name := "isSound", desc := "()Z" } : Jvm.MethodName)) ∈ lw_all := lw_g (lw_at lw_m1 122 rfl) rfl
theorem q142 : (Jvm.Cond.code ({ cls := "BackdatedBook", name := "isSound", desc := "()Z" } : Jvm.MethodName) prog_1_method_24_code (2 : Nat) (Option.some Jvm.ClassFile.FieldType.boolean)) ∈ lw_all := lw_g (lw_at lw_m1 123 rfl) rfl
theorem q144 : (Jvm.Cond.instanceMethod ({ cls := "BackdatedBook", name := "isOpen", desc := "()I" } : Jvm.MethodName)) ∈ lw_all := lw_g (lw_at lw_m1 125 rfl) rfl
theorem q145 : (Jvm.Cond.selects "BackdatedBook" ({ cls := "BackdatedBook", name := "isOpen", desc := "()I" } : Jvm.MethodName) ({ cls := "BackdatedBook", name := "isOpen", desc := "()I" } : Jvm.MethodName)) ∈ lw_all := lw_g (lw_at lw_m1 126 rfl) rfl
theorem q146 : (Jvm.Cond.code ({ cls := "BackdatedBook", name := "isOpen", desc := "()I" } : Jvm.MethodName) prog_1_method_8_code (1 : Nat) (Option.some Jvm.ClassFile.FieldType.int)) ∈ lw_all := lw_g (lw_at lw_m1 127 rfl) rfl
theorem q148 : (Jvm.Cond.instanceMethod ({ cls := "BackdatedBook", name := "entries", desc := "()I" } : Jvm.MethodName)) ∈ lw_all := lw_g (lw_at lw_m1 129 rfl) rfl
theorem q149 : (Jvm.Cond.selects "BackdatedBook" ({ cls := "BackdatedBook", name := "entries", desc := "()I" } : Jvm.MethodName) ({ cls := "BackdatedBook", name := "entries", desc := "()I" } : Jvm.MethodName)) ∈ lw_all := lw_g (lw_at lw_m1 130 rfl) rfl
theorem q150 : (Jvm.Cond.code ({ cls := "BackdatedBook", name := "entries", desc := "()I" } : Jvm.MethodName) prog_1_method_9_code (1 : Nat) (Option.some Jvm.ClassFile.FieldType.int)) ∈ lw_all := lw_g (lw_at lw_m1 131 rfl) rfl
theorem q152 : (Jvm.Cond.instanceMethod ({ cls := "BackdatedBook", name := "cancelled", desc := "(I)I" } : Jvm.MethodName)) ∈ lw_all := lw_g (lw_at lw_m1 133 rfl) rfl
theorem q153 : (Jvm.Cond.selects "BackdatedBook" ({ cls := "BackdatedBook", name := "cancelled", desc := "(I)I" } : Jvm.MethodName) ({ cls := "BackdatedBook", name := "cancelled", desc := "(I)I" } : Jvm.MethodName)) ∈ lw_all := lw_g (lw_at lw_m1 134 rfl) rfl
theorem q154 : (Jvm.Cond.code ({ cls := "BackdatedBook", name := "cancelled", desc := "(I)I" } : Jvm.MethodName) prog_1_method_10_code (2 : Nat) (Option.some Jvm.ClassFile.FieldType.int)) ∈ lw_all := lw_g (lw_at lw_m1 135 rfl) rfl
theorem q156 : (Jvm.Cond.instanceMethod ({ cls := "BackdatedBook", name := "amountOf", desc := "(I)I" } : Jvm.MethodName)) ∈ lw_all := lw_g (lw_at lw_m1 137 rfl) rfl
theorem q157 : (Jvm.Cond.selects "BackdatedBook" ({ cls := "BackdatedBook", name := "amountOf", desc := "(I)I" } : Jvm.MethodName) ({ cls := "BackdatedBook", name := "amountOf", desc := "(I)I" } : Jvm.MethodName)) ∈ lw_all := lw_g (lw_at lw_m1 138 rfl) rfl
theorem q158 : (Jvm.Cond.code ({ cls := "BackdatedBook", name := "amountOf", desc := "(I)I" } : Jvm.MethodName) prog_1_method_11_code (2 : Nat) (Option.some Jvm.ClassFile.FieldType.int)) ∈ lw_all := lw_g (lw_at lw_m1 139 rfl) rfl
theorem q160 : (Jvm.Cond.instanceMethod ({ cls := "BackdatedBook", name := "sound", desc := "()I" } : Jvm.MethodName)) ∈ lw_all := lw_g (lw_at lw_m1 141 rfl) rfl
theorem q161 : (Jvm.Cond.selects "BackdatedBook" ({ cls := "BackdatedBook", name := "sound", desc := "()I" } : Jvm.MethodName) ({ cls := "BackdatedBook", name := "sound", desc := "()I" } : Jvm.MethodName)) ∈ lw_all := lw_g (lw_at lw_m1 142 rfl) rfl
theorem q162 : (Jvm.Cond.code ({ cls := "BackdatedBook", name := "sound", desc := "()I" } : Jvm.MethodName) prog_1_method_12_code (1 : Nat) (Option.some Jvm.ClassFile.FieldType.int)) ∈ lw_all := lw_g (lw_at lw_m1 143 rfl) rfl
theorem q164 : (Jvm.Cond.instanceMethod ({ cls := "BackdatedBook", name := "balance", desc := "(II)I" } : Jvm.MethodName)) ∈ lw_all := lw_g (lw_at lw_m1 145 rfl) rfl
theorem q165 : (Jvm.Cond.selects "BackdatedBook" ({ cls := "BackdatedBook", name := "balance", desc := "(II)I" } : Jvm.MethodName) ({ cls := "BackdatedBook", name := "balance", desc := "(II)I" } : Jvm.MethodName)) ∈ lw_all := lw_g (lw_at lw_m1 146 rfl) rfl
theorem q166 : (Jvm.Cond.code ({ cls := "BackdatedBook", name := "balance", desc := "(II)I" } : Jvm.MethodName) prog_1_method_13_code (3 : Nat) (Option.some Jvm.ClassFile.FieldType.int)) ∈ lw_all := lw_g (lw_at lw_m1 147 rfl) rfl
theorem q167 : (Jvm.Cond.constant "BackdatedBook" (84 : Nat) (-1000000 : Int32)) ∈ lw_all := lw_g (lw_at lw_m1 148 rfl) rfl
theorem q169 : (Jvm.Cond.instanceMethod ({ cls := "BackdatedBook", name := "lowest", desc := "(III)I" } : Jvm.MethodName)) ∈ lw_all := lw_g (lw_at lw_m1 150 rfl) rfl
theorem q170 : (Jvm.Cond.selects "BackdatedBook" ({ cls := "BackdatedBook", name := "lowest", desc := "(III)I" } : Jvm.MethodName) ({ cls := "BackdatedBook", name := "lowest", desc := "(III)I" } : Jvm.MethodName)) ∈ lw_all := lw_g (lw_at lw_m1 151 rfl) rfl
theorem q171 : (Jvm.Cond.code ({ cls := "BackdatedBook", name := "lowest", desc := "(III)I" } : Jvm.MethodName) prog_1_method_14_code (4 : Nat) (Option.some Jvm.ClassFile.FieldType.int)) ∈ lw_all := lw_g (lw_at lw_m1 152 rfl) rfl
theorem q172 : (Jvm.Cond.methodLink "BackdatedBook" (88 : Nat) ({ cls := "BackdatedBook", name := "isStretch", desc := "(II)Z" } : Jvm.MethodName)) ∈ lw_all := lw_g (lw_at lw_m1 153 rfl) rfl
theorem q173 : (Jvm.Cond.static ({ cls := "BackdatedBook", name := "isStretch", desc := "(II)Z" } : Jvm.MethodName)) ∈ lw_all := lw_g (lw_at lw_m1 154 rfl) rfl
theorem q174 : (Jvm.Cond.code ({ cls := "BackdatedBook", name := "isStretch", desc := "(II)Z" } : Jvm.MethodName) prog_1_method_23_code (2 : Nat) (Option.some Jvm.ClassFile.FieldType.boolean)) ∈ lw_all := lw_g (lw_at lw_m1 155 rfl) rfl
theorem q175 : (Jvm.Cond.constant "BackdatedBook" (92 : Nat) (-2000000 : Int32)) ∈ lw_all := lw_g (lw_at lw_m1 156 rfl) rfl
theorem q177 : (Jvm.Cond.instanceMethod ({ cls := "BackdatedBook", name := "total", desc := "(III)I" } : Jvm.MethodName)) ∈ lw_all := lw_g (lw_at lw_m1 158 rfl) rfl
theorem q178 : (Jvm.Cond.selects "BackdatedBook" ({ cls := "BackdatedBook", name := "total", desc := "(III)I" } : Jvm.MethodName) ({ cls := "BackdatedBook", name := "total", desc := "(III)I" } : Jvm.MethodName)) ∈ lw_all := lw_g (lw_at lw_m1 159 rfl) rfl
theorem q179 : (Jvm.Cond.code ({ cls := "BackdatedBook", name := "total", desc := "(III)I" } : Jvm.MethodName) prog_1_method_15_code (5 : Nat) (Option.some Jvm.ClassFile.FieldType.int)) ∈ lw_all := lw_g (lw_at lw_m1 160 rfl) rfl
theorem q180 : (Jvm.Cond.constant "BackdatedBook" (96 : Nat) (-2000000000 : Int32)) ∈ lw_all := lw_g (lw_at lw_m1 161 rfl) rfl
theorem q182 : (Jvm.Cond.instanceMethod ({ cls := "BackdatedBook", name := "firstBelow", desc := "(III)I" } : Jvm.MethodName)) ∈ lw_all := lw_g (lw_at lw_m1 163 rfl) rfl
theorem q183 : (Jvm.Cond.selects "BackdatedBook" ({ cls := "BackdatedBook", name := "firstBelow", desc := "(III)I" } : Jvm.MethodName) ({ cls := "BackdatedBook", name := "firstBelow", desc := "(III)I" } : Jvm.MethodName)) ∈ lw_all := lw_g (lw_at lw_m1 164 rfl) rfl
theorem q184 : (Jvm.Cond.code ({ cls := "BackdatedBook", name := "firstBelow", desc := "(III)I" } : Jvm.MethodName) prog_1_method_16_code (5 : Nat) (Option.some Jvm.ClassFile.FieldType.int)) ∈ lw_all := lw_g (lw_at lw_m1 165 rfl) rfl
theorem q185 : (Jvm.Cond.methodLink "BackdatedBook" (100 : Nat) ({ cls := "BackdatedBook", name := "search", desc := "(III)I" } : Jvm.MethodName)) ∈ lw_all := lw_g (lw_at lw_m1 166 rfl) rfl
theorem q186 : (Jvm.Cond.privateMethod ({ cls := "BackdatedBook", name := "search", desc := "(III)I" } : Jvm.MethodName)) ∈ lw_tbl := lw_at lw_m1 167 rfl
theorem q187 : (Jvm.Cond.instanceMethod ({ cls := "BackdatedBook", name := "search", desc := "(III)I" } : Jvm.MethodName)) ∈ lw_all := lw_g (lw_at lw_m1 168 rfl) rfl
theorem q188 : (Jvm.Cond.code ({ cls := "BackdatedBook", name := "search", desc := "(III)I" } : Jvm.MethodName) prog_1_method_31_code (10 : Nat) (Option.some Jvm.ClassFile.FieldType.int)) ∈ lw_all := lw_g (lw_at lw_m1 169 rfl) rfl
theorem q189 : (Jvm.Cond.methodLink "BackdatedBook" (112 : Nat) ({ cls := "BackdatedBook", name := "descend", desc := "(IIII)I" } : Jvm.MethodName)) ∈ lw_all := lw_g (lw_at lw_m1 170 rfl) rfl
theorem q190 : (Jvm.Cond.privateMethod ({ cls := "BackdatedBook", name := "descend", desc := "(IIII)I" } : Jvm.MethodName)) ∈ lw_tbl := lw_at lw_m1 171 rfl
theorem q191 : (Jvm.Cond.instanceMethod ({ cls := "BackdatedBook", name := "descend", desc := "(IIII)I" } : Jvm.MethodName)) ∈ lw_all := lw_g (lw_at lw_m1 172 rfl) rfl
theorem q192 : (Jvm.Cond.code ({ cls := "BackdatedBook", name := "descend", desc := "(IIII)I" } : Jvm.MethodName) prog_1_method_32_code (9 : Nat) (Option.some Jvm.ClassFile.FieldType.int)) ∈ lw_all := lw_g (lw_at lw_m1 173 rfl) rfl
theorem q194 : (Jvm.Cond.instanceMethod ({ cls := "BackdatedBook", name := "free", desc := "(II)I" } : Jvm.MethodName)) ∈ lw_all := lw_g (lw_at lw_m1 175 rfl) rfl
theorem q195 : (Jvm.Cond.selects "BackdatedBook" ({ cls := "BackdatedBook", name := "free", desc := "(II)I" } : Jvm.MethodName) ({ cls := "BackdatedBook", name := "free", desc := "(II)I" } : Jvm.MethodName)) ∈ lw_all := lw_g (lw_at lw_m1 176 rfl) rfl
theorem q196 : (Jvm.Cond.code ({ cls := "BackdatedBook", name := "free", desc := "(II)I" } : Jvm.MethodName) prog_1_method_17_code (4 : Nat) (Option.some Jvm.ClassFile.FieldType.int)) ∈ lw_all := lw_g (lw_at lw_m1 177 rfl) rfl
theorem q198 : (Jvm.Cond.instanceMethod ({ cls := "BackdatedBook", name := "firstFree", desc := "(II)I" } : Jvm.MethodName)) ∈ lw_all := lw_g (lw_at lw_m1 179 rfl) rfl
theorem q199 : (Jvm.Cond.selects "BackdatedBook" ({ cls := "BackdatedBook", name := "firstFree", desc := "(II)I" } : Jvm.MethodName) ({ cls := "BackdatedBook", name := "firstFree", desc := "(II)I" } : Jvm.MethodName)) ∈ lw_all := lw_g (lw_at lw_m1 180 rfl) rfl
theorem q200 : (Jvm.Cond.code ({ cls := "BackdatedBook", name := "firstFree", desc := "(II)I" } : Jvm.MethodName) prog_1_method_18_code (4 : Nat) (Option.some Jvm.ClassFile.FieldType.int)) ∈ lw_all := lw_g (lw_at lw_m1 181 rfl) rfl
theorem q201 : (Jvm.Cond.constant "BackdatedBook" (103 : Nat) (1000000 : Int32)) ∈ lw_all := lw_g (lw_at lw_m1 182 rfl) rfl
theorem q202 : (Jvm.Cond.methodLink "BackdatedBook" (104 : Nat) ({ cls := "BackdatedBook", name := "lastBelow", desc := "(II)I" } : Jvm.MethodName)) ∈ lw_all := lw_g (lw_at lw_m1 183 rfl) rfl
theorem q203 : (Jvm.Cond.privateMethod ({ cls := "BackdatedBook", name := "lastBelow", desc := "(II)I" } : Jvm.MethodName)) ∈ lw_tbl := lw_at lw_m1 184 rfl
theorem q204 : (Jvm.Cond.instanceMethod ({ cls := "BackdatedBook", name := "lastBelow", desc := "(II)I" } : Jvm.MethodName)) ∈ lw_all := lw_g (lw_at lw_m1 185 rfl) rfl
theorem q205 : (Jvm.Cond.code ({ cls := "BackdatedBook", name := "lastBelow", desc := "(II)I" } : Jvm.MethodName) prog_1_method_33_code (9 : Nat) (Option.some Jvm.ClassFile.FieldType.int)) ∈ lw_all := lw_g (lw_at lw_m1 186 rfl) rfl
theorem q207 : (Jvm.Cond.instanceMethod ({ cls := "BackdatedBook", name := "daysBelow", desc := "(II)I" } : Jvm.MethodName)) ∈ lw_all := lw_g (lw_at lw_m1 188 rfl) rfl
theorem q208 : (Jvm.Cond.selects "BackdatedBook" ({ cls := "BackdatedBook", name := "daysBelow", desc := "(II)I" } : Jvm.MethodName) ({ cls := "BackdatedBook", name := "daysBelow", desc := "(II)I" } : Jvm.MethodName)) ∈ lw_all := lw_g (lw_at lw_m1 189 rfl) rfl
theorem q209 : (Jvm.Cond.code ({ cls := "BackdatedBook", name := "daysBelow", desc := "(II)I" } : Jvm.MethodName) prog_1_method_19_code (6 : Nat) (Option.some Jvm.ClassFile.FieldType.int)) ∈ lw_all := lw_g (lw_at lw_m1 190 rfl) rfl
theorem in_X0 : ∀ w ∈ wsX00, w ∈ lw_all := lw_in wsX00 [46, 48, 50, 52, 54, 56, 58, 60, 62, 64, 66, 68, 70, 72, 74, 76] (by decide +kernel) (by decide +kernel)
end
section
/-! BackdatedBookModel -/
set_option maxRecDepth 100000
def RX1 : String := "BackdatedBookModel"
def TX1 : u_T := fun k => match k with
  | 0 => ("BackdatedBookModel", "count", "I", false)
  | 1 => ("BackdatedBookModel", "account", "[I", false)
  | 2 => ("BackdatedBookModel", "day", "[I", false)
  | 3 => ("BackdatedBookModel", "amount", "[I", false)
  | 4 => ("BackdatedBookModel", "off", "[Z", false)
  | 5 => ("BackdatedBookModel", "floors", "[I", false)
  | 6 => ("BackdatedBookModel", "batch", "Z", false)
  | 7 => ("BackdatedBookModel", "countBefore", "I", false)
  | _ => ("BackdatedBookModel", "offBefore", "[Z", false)
def tyX1 : Nat → FieldType := fun k => match k with
  | 0 => .int
  | 1 => .array .int
  | 2 => .array .int
  | 3 => .array .int
  | 4 => .array .boolean
  | 5 => .array .int
  | 6 => .boolean
  | 7 => .int
  | _ => .array .boolean
abbrev wsX10 : List Cond := u_ws RX1 TX1 9
theorem nmX1 : ∀ a, a < 9 → ∀ b, b < 9 → a ≠ b → (TX1 a).2.1 ≠ (TX1 b).2.1 := by decide +kernel
theorem tyX1_ok : ∀ k, k < 9 → parseFieldDescriptor (TX1 k).2.2.1 = some (tyX1 k) := by decide +kernel
abbrev cX1_init : ByteArray := prog_3_method_1_code
def yX1_init : MethodName := ⟨RX1, "<init>", "()V"⟩
theorem dX1_init_0 : decode cX1_init 0 = .ok (.aload_n 0, 1) := by decide +kernel
theorem dX1_init_1 : decode cX1_init 1 = .ok (.invokespecial 1, 3) := by decide +kernel
theorem dX1_init_4 : decode cX1_init 4 = .ok (.aload_n 0, 1) := by decide +kernel
theorem dX1_init_5 : decode cX1_init 5 = .ok (.bipush 60, 2) := by decide +kernel
theorem dX1_init_7 : decode cX1_init 7 = .ok (.newarray .int, 2) := by decide +kernel
theorem dX1_init_9 : decode cX1_init 9 = .ok (.putfield 7, 3) := by decide +kernel
theorem dX1_init_12 : decode cX1_init 12 = .ok (.aload_n 0, 1) := by decide +kernel
theorem dX1_init_13 : decode cX1_init 13 = .ok (.bipush 60, 2) := by decide +kernel
theorem dX1_init_15 : decode cX1_init 15 = .ok (.newarray .int, 2) := by decide +kernel
theorem dX1_init_17 : decode cX1_init 17 = .ok (.putfield 13, 3) := by decide +kernel
theorem dX1_init_20 : decode cX1_init 20 = .ok (.aload_n 0, 1) := by decide +kernel
theorem dX1_init_21 : decode cX1_init 21 = .ok (.bipush 60, 2) := by decide +kernel
theorem dX1_init_23 : decode cX1_init 23 = .ok (.newarray .int, 2) := by decide +kernel
theorem dX1_init_25 : decode cX1_init 25 = .ok (.putfield 16, 3) := by decide +kernel
theorem dX1_init_28 : decode cX1_init 28 = .ok (.aload_n 0, 1) := by decide +kernel
theorem dX1_init_29 : decode cX1_init 29 = .ok (.bipush 60, 2) := by decide +kernel
theorem dX1_init_31 : decode cX1_init 31 = .ok (.newarray .boolean, 2) := by decide +kernel
theorem dX1_init_33 : decode cX1_init 33 = .ok (.putfield 19, 3) := by decide +kernel
theorem dX1_init_36 : decode cX1_init 36 = .ok (.aload_n 0, 1) := by decide +kernel
theorem dX1_init_37 : decode cX1_init 37 = .ok (.iconst 4, 1) := by decide +kernel
theorem dX1_init_38 : decode cX1_init 38 = .ok (.newarray .int, 2) := by decide +kernel
theorem dX1_init_40 : decode cX1_init 40 = .ok (.putfield 23, 3) := by decide +kernel
theorem dX1_init_43 : decode cX1_init 43 = .ok (.aload_n 0, 1) := by decide +kernel
theorem dX1_init_44 : decode cX1_init 44 = .ok (.bipush 60, 2) := by decide +kernel
theorem dX1_init_46 : decode cX1_init 46 = .ok (.newarray .boolean, 2) := by decide +kernel
theorem dX1_init_48 : decode cX1_init 48 = .ok (.putfield 26, 3) := by decide +kernel
theorem dX1_init_51 : decode cX1_init 51 = .ok (.return_, 1) := by decide +kernel
abbrev cX1_post : ByteArray := prog_3_method_9_code
def yX1_post : MethodName := ⟨RX1, "post", "(III)I"⟩
theorem dX1_post_0 : decode cX1_post 0 = .ok (.aload_n 0, 1) := by decide +kernel
theorem dX1_post_1 : decode cX1_post 1 = .ok (.iload_n 1, 1) := by decide +kernel
theorem dX1_post_2 : decode cX1_post 2 = .ok (.invokevirtual 41, 3) := by decide +kernel
theorem dX1_post_5 : decode cX1_post 5 = .ok (.ifCond .eq 5, 3) := by decide +kernel
theorem dX1_post_8 : decode cX1_post 8 = .ok (.iconst (-1), 1) := by decide +kernel
theorem dX1_post_9 : decode cX1_post 9 = .ok (.ireturn, 1) := by decide +kernel
theorem dX1_post_10 : decode cX1_post 10 = .ok (.aload_n 0, 1) := by decide +kernel
theorem dX1_post_11 : decode cX1_post 11 = .ok (.iload_n 2, 1) := by decide +kernel
theorem dX1_post_12 : decode cX1_post 12 = .ok (.invokevirtual 44, 3) := by decide +kernel
theorem dX1_post_15 : decode cX1_post 15 = .ok (.ifCond .eq 6, 3) := by decide +kernel
theorem dX1_post_18 : decode cX1_post 18 = .ok (.bipush (-2), 2) := by decide +kernel
theorem dX1_post_20 : decode cX1_post 20 = .ok (.ireturn, 1) := by decide +kernel
theorem dX1_post_21 : decode cX1_post 21 = .ok (.iload_n 3, 1) := by decide +kernel
theorem dX1_post_22 : decode cX1_post 22 = .ok (.ifCond .eq 17, 3) := by decide +kernel
theorem dX1_post_25 : decode cX1_post 25 = .ok (.iload_n 3, 1) := by decide +kernel
theorem dX1_post_26 : decode cX1_post 26 = .ok (.sipush (-10000), 3) := by decide +kernel
theorem dX1_post_29 : decode cX1_post 29 = .ok (.if_icmp .lt 10, 3) := by decide +kernel
theorem dX1_post_32 : decode cX1_post 32 = .ok (.iload_n 3, 1) := by decide +kernel
theorem dX1_post_33 : decode cX1_post 33 = .ok (.sipush 10000, 3) := by decide +kernel
theorem dX1_post_36 : decode cX1_post 36 = .ok (.if_icmp .le 6, 3) := by decide +kernel
theorem dX1_post_39 : decode cX1_post 39 = .ok (.bipush (-3), 2) := by decide +kernel
theorem dX1_post_41 : decode cX1_post 41 = .ok (.ireturn, 1) := by decide +kernel
theorem dX1_post_42 : decode cX1_post 42 = .ok (.aload_n 0, 1) := by decide +kernel
theorem dX1_post_43 : decode cX1_post 43 = .ok (.getfield 29, 3) := by decide +kernel
theorem dX1_post_46 : decode cX1_post 46 = .ok (.bipush 60, 2) := by decide +kernel
theorem dX1_post_48 : decode cX1_post 48 = .ok (.if_icmp .lt 6, 3) := by decide +kernel
theorem dX1_post_51 : decode cX1_post 51 = .ok (.bipush (-4), 2) := by decide +kernel
theorem dX1_post_53 : decode cX1_post 53 = .ok (.ireturn, 1) := by decide +kernel
theorem dX1_post_54 : decode cX1_post 54 = .ok (.aload_n 0, 1) := by decide +kernel
theorem dX1_post_55 : decode cX1_post 55 = .ok (.iload_n 1, 1) := by decide +kernel
theorem dX1_post_56 : decode cX1_post 56 = .ok (.iload_n 2, 1) := by decide +kernel
theorem dX1_post_57 : decode cX1_post 57 = .ok (.iload_n 3, 1) := by decide +kernel
theorem dX1_post_58 : decode cX1_post 58 = .ok (.invokevirtual 47, 3) := by decide +kernel
theorem dX1_post_61 : decode cX1_post 61 = .ok (.aload_n 0, 1) := by decide +kernel
theorem dX1_post_62 : decode cX1_post 62 = .ok (.getfield 51, 3) := by decide +kernel
theorem dX1_post_65 : decode cX1_post 65 = .ok (.ifCond .ne 23, 3) := by decide +kernel
theorem dX1_post_68 : decode cX1_post 68 = .ok (.aload_n 0, 1) := by decide +kernel
theorem dX1_post_69 : decode cX1_post 69 = .ok (.invokevirtual 55, 3) := by decide +kernel
theorem dX1_post_72 : decode cX1_post 72 = .ok (.ifCond .ne 16, 3) := by decide +kernel
theorem dX1_post_75 : decode cX1_post 75 = .ok (.aload_n 0, 1) := by decide +kernel
theorem dX1_post_76 : decode cX1_post 76 = .ok (.dup, 1) := by decide +kernel
theorem dX1_post_77 : decode cX1_post 77 = .ok (.getfield 29, 3) := by decide +kernel
theorem dX1_post_80 : decode cX1_post 80 = .ok (.iconst 1, 1) := by decide +kernel
theorem dX1_post_81 : decode cX1_post 81 = .ok (.isub, 1) := by decide +kernel
theorem dX1_post_82 : decode cX1_post 82 = .ok (.putfield 29, 3) := by decide +kernel
theorem dX1_post_85 : decode cX1_post 85 = .ok (.bipush (-5), 2) := by decide +kernel
theorem dX1_post_87 : decode cX1_post 87 = .ok (.ireturn, 1) := by decide +kernel
theorem dX1_post_88 : decode cX1_post 88 = .ok (.aload_n 0, 1) := by decide +kernel
theorem dX1_post_89 : decode cX1_post 89 = .ok (.getfield 29, 3) := by decide +kernel
theorem dX1_post_92 : decode cX1_post 92 = .ok (.iconst 1, 1) := by decide +kernel
theorem dX1_post_93 : decode cX1_post 93 = .ok (.isub, 1) := by decide +kernel
theorem dX1_post_94 : decode cX1_post 94 = .ok (.ireturn, 1) := by decide +kernel
abbrev cX1_bad : ByteArray := prog_3_method_2_code
def yX1_bad : MethodName := ⟨RX1, "bad", "(I)Z"⟩
theorem dX1_bad_0 : decode cX1_bad 0 = .ok (.iload_n 1, 1) := by decide +kernel
theorem dX1_bad_1 : decode cX1_bad 1 = .ok (.ifCond .lt 8, 3) := by decide +kernel
theorem dX1_bad_4 : decode cX1_bad 4 = .ok (.iload_n 1, 1) := by decide +kernel
theorem dX1_bad_5 : decode cX1_bad 5 = .ok (.iconst 3, 1) := by decide +kernel
theorem dX1_bad_6 : decode cX1_bad 6 = .ok (.if_icmp .le 7, 3) := by decide +kernel
theorem dX1_bad_9 : decode cX1_bad 9 = .ok (.iconst 1, 1) := by decide +kernel
theorem dX1_bad_10 : decode cX1_bad 10 = .ok (.goto 4, 3) := by decide +kernel
theorem dX1_bad_13 : decode cX1_bad 13 = .ok (.iconst 0, 1) := by decide +kernel
theorem dX1_bad_14 : decode cX1_bad 14 = .ok (.ireturn, 1) := by decide +kernel
abbrev cX1_badDay : ByteArray := prog_3_method_3_code
def yX1_badDay : MethodName := ⟨RX1, "badDay", "(I)Z"⟩
theorem dX1_badDay_0 : decode cX1_badDay 0 = .ok (.iload_n 1, 1) := by decide +kernel
theorem dX1_badDay_1 : decode cX1_badDay 1 = .ok (.ifCond .lt 9, 3) := by decide +kernel
theorem dX1_badDay_4 : decode cX1_badDay 4 = .ok (.iload_n 1, 1) := by decide +kernel
theorem dX1_badDay_5 : decode cX1_badDay 5 = .ok (.bipush 47, 2) := by decide +kernel
theorem dX1_badDay_7 : decode cX1_badDay 7 = .ok (.if_icmp .le 7, 3) := by decide +kernel
theorem dX1_badDay_10 : decode cX1_badDay 10 = .ok (.iconst 1, 1) := by decide +kernel
theorem dX1_badDay_11 : decode cX1_badDay 11 = .ok (.goto 4, 3) := by decide +kernel
theorem dX1_badDay_14 : decode cX1_badDay 14 = .ok (.iconst 0, 1) := by decide +kernel
theorem dX1_badDay_15 : decode cX1_badDay 15 = .ok (.ireturn, 1) := by decide +kernel
abbrev cX1_put : ByteArray := prog_3_method_8_code
def yX1_put : MethodName := ⟨RX1, "put", "(III)V"⟩
theorem dX1_put_0 : decode cX1_put 0 = .ok (.aload_n 0, 1) := by decide +kernel
theorem dX1_put_1 : decode cX1_put 1 = .ok (.getfield 29, 3) := by decide +kernel
theorem dX1_put_4 : decode cX1_put 4 = .ok (.istore 4, 2) := by decide +kernel
theorem dX1_put_6 : decode cX1_put 6 = .ok (.iload 4, 2) := by decide +kernel
theorem dX1_put_8 : decode cX1_put 8 = .ok (.bipush 60, 2) := by decide +kernel
theorem dX1_put_10 : decode cX1_put 10 = .ok (.if_icmp .lt 4, 3) := by decide +kernel
theorem dX1_put_13 : decode cX1_put 13 = .ok (.return_, 1) := by decide +kernel
theorem dX1_put_14 : decode cX1_put 14 = .ok (.aload_n 0, 1) := by decide +kernel
theorem dX1_put_15 : decode cX1_put 15 = .ok (.getfield 7, 3) := by decide +kernel
theorem dX1_put_18 : decode cX1_put 18 = .ok (.iload 4, 2) := by decide +kernel
theorem dX1_put_20 : decode cX1_put 20 = .ok (.iload_n 1, 1) := by decide +kernel
theorem dX1_put_21 : decode cX1_put 21 = .ok (.iastore, 1) := by decide +kernel
theorem dX1_put_22 : decode cX1_put 22 = .ok (.aload_n 0, 1) := by decide +kernel
theorem dX1_put_23 : decode cX1_put 23 = .ok (.getfield 13, 3) := by decide +kernel
theorem dX1_put_26 : decode cX1_put 26 = .ok (.iload 4, 2) := by decide +kernel
theorem dX1_put_28 : decode cX1_put 28 = .ok (.iload_n 2, 1) := by decide +kernel
theorem dX1_put_29 : decode cX1_put 29 = .ok (.iastore, 1) := by decide +kernel
theorem dX1_put_30 : decode cX1_put 30 = .ok (.aload_n 0, 1) := by decide +kernel
theorem dX1_put_31 : decode cX1_put 31 = .ok (.getfield 16, 3) := by decide +kernel
theorem dX1_put_34 : decode cX1_put 34 = .ok (.iload 4, 2) := by decide +kernel
theorem dX1_put_36 : decode cX1_put 36 = .ok (.iload_n 3, 1) := by decide +kernel
theorem dX1_put_37 : decode cX1_put 37 = .ok (.iastore, 1) := by decide +kernel
theorem dX1_put_38 : decode cX1_put 38 = .ok (.aload_n 0, 1) := by decide +kernel
theorem dX1_put_39 : decode cX1_put 39 = .ok (.getfield 19, 3) := by decide +kernel
theorem dX1_put_42 : decode cX1_put 42 = .ok (.iload 4, 2) := by decide +kernel
theorem dX1_put_44 : decode cX1_put 44 = .ok (.iconst 0, 1) := by decide +kernel
theorem dX1_put_45 : decode cX1_put 45 = .ok (.bastore, 1) := by decide +kernel
theorem dX1_put_46 : decode cX1_put 46 = .ok (.aload_n 0, 1) := by decide +kernel
theorem dX1_put_47 : decode cX1_put 47 = .ok (.iload 4, 2) := by decide +kernel
theorem dX1_put_49 : decode cX1_put 49 = .ok (.iconst 1, 1) := by decide +kernel
theorem dX1_put_50 : decode cX1_put 50 = .ok (.iadd, 1) := by decide +kernel
theorem dX1_put_51 : decode cX1_put 51 = .ok (.putfield 29, 3) := by decide +kernel
theorem dX1_put_54 : decode cX1_put 54 = .ok (.return_, 1) := by decide +kernel
abbrev cX1_allSound : ByteArray := prog_3_method_7_code
def yX1_allSound : MethodName := ⟨RX1, "allSound", "()Z"⟩
theorem dX1_allSound_0 : decode cX1_allSound 0 = .ok (.aload_n 0, 1) := by decide +kernel
theorem dX1_allSound_1 : decode cX1_allSound 1 = .ok (.iconst 0, 1) := by decide +kernel
theorem dX1_allSound_2 : decode cX1_allSound 2 = .ok (.invokevirtual 37, 3) := by decide +kernel
theorem dX1_allSound_5 : decode cX1_allSound 5 = .ok (.ifCond .eq 31, 3) := by decide +kernel
theorem dX1_allSound_8 : decode cX1_allSound 8 = .ok (.aload_n 0, 1) := by decide +kernel
theorem dX1_allSound_9 : decode cX1_allSound 9 = .ok (.iconst 1, 1) := by decide +kernel
theorem dX1_allSound_10 : decode cX1_allSound 10 = .ok (.invokevirtual 37, 3) := by decide +kernel
theorem dX1_allSound_13 : decode cX1_allSound 13 = .ok (.ifCond .eq 23, 3) := by decide +kernel
theorem dX1_allSound_16 : decode cX1_allSound 16 = .ok (.aload_n 0, 1) := by decide +kernel
theorem dX1_allSound_17 : decode cX1_allSound 17 = .ok (.iconst 2, 1) := by decide +kernel
theorem dX1_allSound_18 : decode cX1_allSound 18 = .ok (.invokevirtual 37, 3) := by decide +kernel
theorem dX1_allSound_21 : decode cX1_allSound 21 = .ok (.ifCond .eq 15, 3) := by decide +kernel
theorem dX1_allSound_24 : decode cX1_allSound 24 = .ok (.aload_n 0, 1) := by decide +kernel
theorem dX1_allSound_25 : decode cX1_allSound 25 = .ok (.iconst 3, 1) := by decide +kernel
theorem dX1_allSound_26 : decode cX1_allSound 26 = .ok (.invokevirtual 37, 3) := by decide +kernel
theorem dX1_allSound_29 : decode cX1_allSound 29 = .ok (.ifCond .eq 7, 3) := by decide +kernel
theorem dX1_allSound_32 : decode cX1_allSound 32 = .ok (.iconst 1, 1) := by decide +kernel
theorem dX1_allSound_33 : decode cX1_allSound 33 = .ok (.goto 4, 3) := by decide +kernel
theorem dX1_allSound_36 : decode cX1_allSound 36 = .ok (.iconst 0, 1) := by decide +kernel
theorem dX1_allSound_37 : decode cX1_allSound 37 = .ok (.ireturn, 1) := by decide +kernel
abbrev cX1_holds : ByteArray := prog_3_method_6_code
def yX1_holds : MethodName := ⟨RX1, "holds", "(I)Z"⟩
theorem dX1_holds_0 : decode cX1_holds 0 = .ok (.iconst 0, 1) := by decide +kernel
theorem dX1_holds_1 : decode cX1_holds 1 = .ok (.istore_n 2, 1) := by decide +kernel
theorem dX1_holds_2 : decode cX1_holds 2 = .ok (.iload_n 2, 1) := by decide +kernel
theorem dX1_holds_3 : decode cX1_holds 3 = .ok (.bipush 48, 2) := by decide +kernel
theorem dX1_holds_5 : decode cX1_holds 5 = .ok (.if_icmp .ge 26, 3) := by decide +kernel
theorem dX1_holds_8 : decode cX1_holds 8 = .ok (.aload_n 0, 1) := by decide +kernel
theorem dX1_holds_9 : decode cX1_holds 9 = .ok (.iload_n 1, 1) := by decide +kernel
theorem dX1_holds_10 : decode cX1_holds 10 = .ok (.iload_n 2, 1) := by decide +kernel
theorem dX1_holds_11 : decode cX1_holds 11 = .ok (.invokevirtual 33, 3) := by decide +kernel
theorem dX1_holds_14 : decode cX1_holds 14 = .ok (.aload_n 0, 1) := by decide +kernel
theorem dX1_holds_15 : decode cX1_holds 15 = .ok (.getfield 23, 3) := by decide +kernel
theorem dX1_holds_18 : decode cX1_holds 18 = .ok (.iload_n 1, 1) := by decide +kernel
theorem dX1_holds_19 : decode cX1_holds 19 = .ok (.iaload, 1) := by decide +kernel
theorem dX1_holds_20 : decode cX1_holds 20 = .ok (.if_icmp .ge 5, 3) := by decide +kernel
theorem dX1_holds_23 : decode cX1_holds 23 = .ok (.iconst 0, 1) := by decide +kernel
theorem dX1_holds_24 : decode cX1_holds 24 = .ok (.ireturn, 1) := by decide +kernel
theorem dX1_holds_25 : decode cX1_holds 25 = .ok (.iinc 2 1, 3) := by decide +kernel
theorem dX1_holds_28 : decode cX1_holds 28 = .ok (.goto (-26), 3) := by decide +kernel
theorem dX1_holds_31 : decode cX1_holds 31 = .ok (.iconst 1, 1) := by decide +kernel
theorem dX1_holds_32 : decode cX1_holds 32 = .ok (.ireturn, 1) := by decide +kernel
abbrev cX1_worth : ByteArray := prog_3_method_5_code
def yX1_worth : MethodName := ⟨RX1, "worth", "(II)I"⟩
theorem dX1_worth_0 : decode cX1_worth 0 = .ok (.iconst 0, 1) := by decide +kernel
theorem dX1_worth_1 : decode cX1_worth 1 = .ok (.istore_n 3, 1) := by decide +kernel
theorem dX1_worth_2 : decode cX1_worth 2 = .ok (.iconst 0, 1) := by decide +kernel
theorem dX1_worth_3 : decode cX1_worth 3 = .ok (.istore 4, 2) := by decide +kernel
theorem dX1_worth_5 : decode cX1_worth 5 = .ok (.iload 4, 2) := by decide +kernel
theorem dX1_worth_7 : decode cX1_worth 7 = .ok (.aload_n 0, 1) := by decide +kernel
theorem dX1_worth_8 : decode cX1_worth 8 = .ok (.getfield 29, 3) := by decide +kernel
theorem dX1_worth_11 : decode cX1_worth 11 = .ok (.if_icmp .ge 58, 3) := by decide +kernel
theorem dX1_worth_14 : decode cX1_worth 14 = .ok (.iload 4, 2) := by decide +kernel
theorem dX1_worth_16 : decode cX1_worth 16 = .ok (.bipush 60, 2) := by decide +kernel
theorem dX1_worth_18 : decode cX1_worth 18 = .ok (.if_icmp .ge 51, 3) := by decide +kernel
theorem dX1_worth_21 : decode cX1_worth 21 = .ok (.aload_n 0, 1) := by decide +kernel
theorem dX1_worth_22 : decode cX1_worth 22 = .ok (.getfield 19, 3) := by decide +kernel
theorem dX1_worth_25 : decode cX1_worth 25 = .ok (.iload 4, 2) := by decide +kernel
theorem dX1_worth_27 : decode cX1_worth 27 = .ok (.baload, 1) := by decide +kernel
theorem dX1_worth_28 : decode cX1_worth 28 = .ok (.ifCond .ne 35, 3) := by decide +kernel
theorem dX1_worth_31 : decode cX1_worth 31 = .ok (.aload_n 0, 1) := by decide +kernel
theorem dX1_worth_32 : decode cX1_worth 32 = .ok (.getfield 7, 3) := by decide +kernel
theorem dX1_worth_35 : decode cX1_worth 35 = .ok (.iload 4, 2) := by decide +kernel
theorem dX1_worth_37 : decode cX1_worth 37 = .ok (.iaload, 1) := by decide +kernel
theorem dX1_worth_38 : decode cX1_worth 38 = .ok (.iload_n 1, 1) := by decide +kernel
theorem dX1_worth_39 : decode cX1_worth 39 = .ok (.if_icmp .ne 24, 3) := by decide +kernel
theorem dX1_worth_42 : decode cX1_worth 42 = .ok (.aload_n 0, 1) := by decide +kernel
theorem dX1_worth_43 : decode cX1_worth 43 = .ok (.getfield 13, 3) := by decide +kernel
theorem dX1_worth_46 : decode cX1_worth 46 = .ok (.iload 4, 2) := by decide +kernel
theorem dX1_worth_48 : decode cX1_worth 48 = .ok (.iaload, 1) := by decide +kernel
theorem dX1_worth_49 : decode cX1_worth 49 = .ok (.iload_n 2, 1) := by decide +kernel
theorem dX1_worth_50 : decode cX1_worth 50 = .ok (.if_icmp .gt 13, 3) := by decide +kernel
theorem dX1_worth_53 : decode cX1_worth 53 = .ok (.iload_n 3, 1) := by decide +kernel
theorem dX1_worth_54 : decode cX1_worth 54 = .ok (.aload_n 0, 1) := by decide +kernel
theorem dX1_worth_55 : decode cX1_worth 55 = .ok (.getfield 16, 3) := by decide +kernel
theorem dX1_worth_58 : decode cX1_worth 58 = .ok (.iload 4, 2) := by decide +kernel
theorem dX1_worth_60 : decode cX1_worth 60 = .ok (.iaload, 1) := by decide +kernel
theorem dX1_worth_61 : decode cX1_worth 61 = .ok (.iadd, 1) := by decide +kernel
theorem dX1_worth_62 : decode cX1_worth 62 = .ok (.istore_n 3, 1) := by decide +kernel
theorem dX1_worth_63 : decode cX1_worth 63 = .ok (.iinc 4 1, 3) := by decide +kernel
theorem dX1_worth_66 : decode cX1_worth 66 = .ok (.goto (-61), 3) := by decide +kernel
theorem dX1_worth_69 : decode cX1_worth 69 = .ok (.iload_n 3, 1) := by decide +kernel
theorem dX1_worth_70 : decode cX1_worth 70 = .ok (.ireturn, 1) := by decide +kernel
abbrev cX1_transfer : ByteArray := prog_3_method_10_code
def yX1_transfer : MethodName := ⟨RX1, "transfer", "(III)I"⟩
theorem dX1_transfer_0 : decode cX1_transfer 0 = .ok (.iload_n 1, 1) := by decide +kernel
theorem dX1_transfer_1 : decode cX1_transfer 1 = .ok (.ifCond .lt 18, 3) := by decide +kernel
theorem dX1_transfer_4 : decode cX1_transfer 4 = .ok (.iload_n 1, 1) := by decide +kernel
theorem dX1_transfer_5 : decode cX1_transfer 5 = .ok (.bipush 15, 2) := by decide +kernel
theorem dX1_transfer_7 : decode cX1_transfer 7 = .ok (.if_icmp .gt 12, 3) := by decide +kernel
theorem dX1_transfer_10 : decode cX1_transfer 10 = .ok (.iload_n 1, 1) := by decide +kernel
theorem dX1_transfer_11 : decode cX1_transfer 11 = .ok (.iconst 4, 1) := by decide +kernel
theorem dX1_transfer_12 : decode cX1_transfer 12 = .ok (.idiv, 1) := by decide +kernel
theorem dX1_transfer_13 : decode cX1_transfer 13 = .ok (.iload_n 1, 1) := by decide +kernel
theorem dX1_transfer_14 : decode cX1_transfer 14 = .ok (.iconst 4, 1) := by decide +kernel
theorem dX1_transfer_15 : decode cX1_transfer 15 = .ok (.irem, 1) := by decide +kernel
theorem dX1_transfer_16 : decode cX1_transfer 16 = .ok (.if_icmp .ne 5, 3) := by decide +kernel
theorem dX1_transfer_19 : decode cX1_transfer 19 = .ok (.iconst (-1), 1) := by decide +kernel
theorem dX1_transfer_20 : decode cX1_transfer 20 = .ok (.ireturn, 1) := by decide +kernel
theorem dX1_transfer_21 : decode cX1_transfer 21 = .ok (.aload_n 0, 1) := by decide +kernel
theorem dX1_transfer_22 : decode cX1_transfer 22 = .ok (.iload_n 2, 1) := by decide +kernel
theorem dX1_transfer_23 : decode cX1_transfer 23 = .ok (.invokevirtual 44, 3) := by decide +kernel
theorem dX1_transfer_26 : decode cX1_transfer 26 = .ok (.ifCond .eq 6, 3) := by decide +kernel
theorem dX1_transfer_29 : decode cX1_transfer 29 = .ok (.bipush (-2), 2) := by decide +kernel
theorem dX1_transfer_31 : decode cX1_transfer 31 = .ok (.ireturn, 1) := by decide +kernel
theorem dX1_transfer_32 : decode cX1_transfer 32 = .ok (.iload_n 3, 1) := by decide +kernel
theorem dX1_transfer_33 : decode cX1_transfer 33 = .ok (.iconst 1, 1) := by decide +kernel
theorem dX1_transfer_34 : decode cX1_transfer 34 = .ok (.if_icmp .lt 10, 3) := by decide +kernel
theorem dX1_transfer_37 : decode cX1_transfer 37 = .ok (.iload_n 3, 1) := by decide +kernel
theorem dX1_transfer_38 : decode cX1_transfer 38 = .ok (.sipush 10000, 3) := by decide +kernel
theorem dX1_transfer_41 : decode cX1_transfer 41 = .ok (.if_icmp .le 6, 3) := by decide +kernel
theorem dX1_transfer_44 : decode cX1_transfer 44 = .ok (.bipush (-3), 2) := by decide +kernel
theorem dX1_transfer_46 : decode cX1_transfer 46 = .ok (.ireturn, 1) := by decide +kernel
theorem dX1_transfer_47 : decode cX1_transfer 47 = .ok (.aload_n 0, 1) := by decide +kernel
theorem dX1_transfer_48 : decode cX1_transfer 48 = .ok (.getfield 29, 3) := by decide +kernel
theorem dX1_transfer_51 : decode cX1_transfer 51 = .ok (.bipush 58, 2) := by decide +kernel
theorem dX1_transfer_53 : decode cX1_transfer 53 = .ok (.if_icmp .le 6, 3) := by decide +kernel
theorem dX1_transfer_56 : decode cX1_transfer 56 = .ok (.bipush (-4), 2) := by decide +kernel
theorem dX1_transfer_58 : decode cX1_transfer 58 = .ok (.ireturn, 1) := by decide +kernel
theorem dX1_transfer_59 : decode cX1_transfer 59 = .ok (.aload_n 0, 1) := by decide +kernel
theorem dX1_transfer_60 : decode cX1_transfer 60 = .ok (.iload_n 1, 1) := by decide +kernel
theorem dX1_transfer_61 : decode cX1_transfer 61 = .ok (.iconst 4, 1) := by decide +kernel
theorem dX1_transfer_62 : decode cX1_transfer 62 = .ok (.idiv, 1) := by decide +kernel
theorem dX1_transfer_63 : decode cX1_transfer 63 = .ok (.iload_n 2, 1) := by decide +kernel
theorem dX1_transfer_64 : decode cX1_transfer 64 = .ok (.iload_n 3, 1) := by decide +kernel
theorem dX1_transfer_65 : decode cX1_transfer 65 = .ok (.ineg, 1) := by decide +kernel
theorem dX1_transfer_66 : decode cX1_transfer 66 = .ok (.invokevirtual 47, 3) := by decide +kernel
theorem dX1_transfer_69 : decode cX1_transfer 69 = .ok (.aload_n 0, 1) := by decide +kernel
theorem dX1_transfer_70 : decode cX1_transfer 70 = .ok (.iload_n 1, 1) := by decide +kernel
theorem dX1_transfer_71 : decode cX1_transfer 71 = .ok (.iconst 4, 1) := by decide +kernel
theorem dX1_transfer_72 : decode cX1_transfer 72 = .ok (.irem, 1) := by decide +kernel
theorem dX1_transfer_73 : decode cX1_transfer 73 = .ok (.iload_n 2, 1) := by decide +kernel
theorem dX1_transfer_74 : decode cX1_transfer 74 = .ok (.iload_n 3, 1) := by decide +kernel
theorem dX1_transfer_75 : decode cX1_transfer 75 = .ok (.invokevirtual 47, 3) := by decide +kernel
theorem dX1_transfer_78 : decode cX1_transfer 78 = .ok (.aload_n 0, 1) := by decide +kernel
theorem dX1_transfer_79 : decode cX1_transfer 79 = .ok (.getfield 51, 3) := by decide +kernel
theorem dX1_transfer_82 : decode cX1_transfer 82 = .ok (.ifCond .ne 23, 3) := by decide +kernel
theorem dX1_transfer_85 : decode cX1_transfer 85 = .ok (.aload_n 0, 1) := by decide +kernel
theorem dX1_transfer_86 : decode cX1_transfer 86 = .ok (.invokevirtual 55, 3) := by decide +kernel
theorem dX1_transfer_89 : decode cX1_transfer 89 = .ok (.ifCond .ne 16, 3) := by decide +kernel
theorem dX1_transfer_92 : decode cX1_transfer 92 = .ok (.aload_n 0, 1) := by decide +kernel
theorem dX1_transfer_93 : decode cX1_transfer 93 = .ok (.dup, 1) := by decide +kernel
theorem dX1_transfer_94 : decode cX1_transfer 94 = .ok (.getfield 29, 3) := by decide +kernel
theorem dX1_transfer_97 : decode cX1_transfer 97 = .ok (.iconst 2, 1) := by decide +kernel
theorem dX1_transfer_98 : decode cX1_transfer 98 = .ok (.isub, 1) := by decide +kernel
theorem dX1_transfer_99 : decode cX1_transfer 99 = .ok (.putfield 29, 3) := by decide +kernel
theorem dX1_transfer_102 : decode cX1_transfer 102 = .ok (.bipush (-5), 2) := by decide +kernel
theorem dX1_transfer_104 : decode cX1_transfer 104 = .ok (.ireturn, 1) := by decide +kernel
theorem dX1_transfer_105 : decode cX1_transfer 105 = .ok (.aload_n 0, 1) := by decide +kernel
theorem dX1_transfer_106 : decode cX1_transfer 106 = .ok (.getfield 29, 3) := by decide +kernel
theorem dX1_transfer_109 : decode cX1_transfer 109 = .ok (.iconst 2, 1) := by decide +kernel
theorem dX1_transfer_110 : decode cX1_transfer 110 = .ok (.isub, 1) := by decide +kernel
theorem dX1_transfer_111 : decode cX1_transfer 111 = .ok (.ireturn, 1) := by decide +kernel
abbrev cX1_cancel : ByteArray := prog_3_method_11_code
def yX1_cancel : MethodName := ⟨RX1, "cancel", "(I)I"⟩
theorem dX1_cancel_0 : decode cX1_cancel 0 = .ok (.aload_n 0, 1) := by decide +kernel
theorem dX1_cancel_1 : decode cX1_cancel 1 = .ok (.iload_n 1, 1) := by decide +kernel
theorem dX1_cancel_2 : decode cX1_cancel 2 = .ok (.invokevirtual 59, 3) := by decide +kernel
theorem dX1_cancel_5 : decode cX1_cancel 5 = .ok (.ifCond .eq 5, 3) := by decide +kernel
theorem dX1_cancel_8 : decode cX1_cancel 8 = .ok (.iconst (-1), 1) := by decide +kernel
theorem dX1_cancel_9 : decode cX1_cancel 9 = .ok (.ireturn, 1) := by decide +kernel
theorem dX1_cancel_10 : decode cX1_cancel 10 = .ok (.aload_n 0, 1) := by decide +kernel
theorem dX1_cancel_11 : decode cX1_cancel 11 = .ok (.getfield 19, 3) := by decide +kernel
theorem dX1_cancel_14 : decode cX1_cancel 14 = .ok (.iload_n 1, 1) := by decide +kernel
theorem dX1_cancel_15 : decode cX1_cancel 15 = .ok (.baload, 1) := by decide +kernel
theorem dX1_cancel_16 : decode cX1_cancel 16 = .ok (.ifCond .eq 6, 3) := by decide +kernel
theorem dX1_cancel_19 : decode cX1_cancel 19 = .ok (.bipush (-2), 2) := by decide +kernel
theorem dX1_cancel_21 : decode cX1_cancel 21 = .ok (.ireturn, 1) := by decide +kernel
theorem dX1_cancel_22 : decode cX1_cancel 22 = .ok (.aload_n 0, 1) := by decide +kernel
theorem dX1_cancel_23 : decode cX1_cancel 23 = .ok (.getfield 19, 3) := by decide +kernel
theorem dX1_cancel_26 : decode cX1_cancel 26 = .ok (.iload_n 1, 1) := by decide +kernel
theorem dX1_cancel_27 : decode cX1_cancel 27 = .ok (.iconst 1, 1) := by decide +kernel
theorem dX1_cancel_28 : decode cX1_cancel 28 = .ok (.bastore, 1) := by decide +kernel
theorem dX1_cancel_29 : decode cX1_cancel 29 = .ok (.aload_n 0, 1) := by decide +kernel
theorem dX1_cancel_30 : decode cX1_cancel 30 = .ok (.getfield 51, 3) := by decide +kernel
theorem dX1_cancel_33 : decode cX1_cancel 33 = .ok (.ifCond .ne 20, 3) := by decide +kernel
theorem dX1_cancel_36 : decode cX1_cancel 36 = .ok (.aload_n 0, 1) := by decide +kernel
theorem dX1_cancel_37 : decode cX1_cancel 37 = .ok (.invokevirtual 55, 3) := by decide +kernel
theorem dX1_cancel_40 : decode cX1_cancel 40 = .ok (.ifCond .ne 13, 3) := by decide +kernel
theorem dX1_cancel_43 : decode cX1_cancel 43 = .ok (.aload_n 0, 1) := by decide +kernel
theorem dX1_cancel_44 : decode cX1_cancel 44 = .ok (.getfield 19, 3) := by decide +kernel
theorem dX1_cancel_47 : decode cX1_cancel 47 = .ok (.iload_n 1, 1) := by decide +kernel
theorem dX1_cancel_48 : decode cX1_cancel 48 = .ok (.iconst 0, 1) := by decide +kernel
theorem dX1_cancel_49 : decode cX1_cancel 49 = .ok (.bastore, 1) := by decide +kernel
theorem dX1_cancel_50 : decode cX1_cancel 50 = .ok (.bipush (-3), 2) := by decide +kernel
theorem dX1_cancel_52 : decode cX1_cancel 52 = .ok (.ireturn, 1) := by decide +kernel
theorem dX1_cancel_53 : decode cX1_cancel 53 = .ok (.aload_n 0, 1) := by decide +kernel
theorem dX1_cancel_54 : decode cX1_cancel 54 = .ok (.getfield 16, 3) := by decide +kernel
theorem dX1_cancel_57 : decode cX1_cancel 57 = .ok (.iload_n 1, 1) := by decide +kernel
theorem dX1_cancel_58 : decode cX1_cancel 58 = .ok (.iaload, 1) := by decide +kernel
theorem dX1_cancel_59 : decode cX1_cancel 59 = .ok (.ireturn, 1) := by decide +kernel
abbrev cX1_badEntry : ByteArray := prog_3_method_4_code
def yX1_badEntry : MethodName := ⟨RX1, "badEntry", "(I)Z"⟩
theorem dX1_badEntry_0 : decode cX1_badEntry 0 = .ok (.iload_n 1, 1) := by decide +kernel
theorem dX1_badEntry_1 : decode cX1_badEntry 1 = .ok (.ifCond .lt 17, 3) := by decide +kernel
theorem dX1_badEntry_4 : decode cX1_badEntry 4 = .ok (.iload_n 1, 1) := by decide +kernel
theorem dX1_badEntry_5 : decode cX1_badEntry 5 = .ok (.aload_n 0, 1) := by decide +kernel
theorem dX1_badEntry_6 : decode cX1_badEntry 6 = .ok (.getfield 29, 3) := by decide +kernel
theorem dX1_badEntry_9 : decode cX1_badEntry 9 = .ok (.if_icmp .ge 9, 3) := by decide +kernel
theorem dX1_badEntry_12 : decode cX1_badEntry 12 = .ok (.iload_n 1, 1) := by decide +kernel
theorem dX1_badEntry_13 : decode cX1_badEntry 13 = .ok (.bipush 60, 2) := by decide +kernel
theorem dX1_badEntry_15 : decode cX1_badEntry 15 = .ok (.if_icmp .lt 7, 3) := by decide +kernel
theorem dX1_badEntry_18 : decode cX1_badEntry 18 = .ok (.iconst 1, 1) := by decide +kernel
theorem dX1_badEntry_19 : decode cX1_badEntry 19 = .ok (.goto 4, 3) := by decide +kernel
theorem dX1_badEntry_22 : decode cX1_badEntry 22 = .ok (.iconst 0, 1) := by decide +kernel
theorem dX1_badEntry_23 : decode cX1_badEntry 23 = .ok (.ireturn, 1) := by decide +kernel
abbrev cX1_floor : ByteArray := prog_3_method_12_code
def yX1_floor : MethodName := ⟨RX1, "floor", "(II)I"⟩
theorem dX1_floor_0 : decode cX1_floor 0 = .ok (.aload_n 0, 1) := by decide +kernel
theorem dX1_floor_1 : decode cX1_floor 1 = .ok (.iload_n 1, 1) := by decide +kernel
theorem dX1_floor_2 : decode cX1_floor 2 = .ok (.invokevirtual 41, 3) := by decide +kernel
theorem dX1_floor_5 : decode cX1_floor 5 = .ok (.ifCond .eq 5, 3) := by decide +kernel
theorem dX1_floor_8 : decode cX1_floor 8 = .ok (.iconst (-1), 1) := by decide +kernel
theorem dX1_floor_9 : decode cX1_floor 9 = .ok (.ireturn, 1) := by decide +kernel
theorem dX1_floor_10 : decode cX1_floor 10 = .ok (.iload_n 2, 1) := by decide +kernel
theorem dX1_floor_11 : decode cX1_floor 11 = .ok (.sipush (-10000), 3) := by decide +kernel
theorem dX1_floor_14 : decode cX1_floor 14 = .ok (.if_icmp .lt 10, 3) := by decide +kernel
theorem dX1_floor_17 : decode cX1_floor 17 = .ok (.iload_n 2, 1) := by decide +kernel
theorem dX1_floor_18 : decode cX1_floor 18 = .ok (.sipush 10000, 3) := by decide +kernel
theorem dX1_floor_21 : decode cX1_floor 21 = .ok (.if_icmp .le 6, 3) := by decide +kernel
theorem dX1_floor_24 : decode cX1_floor 24 = .ok (.bipush (-2), 2) := by decide +kernel
theorem dX1_floor_26 : decode cX1_floor 26 = .ok (.ireturn, 1) := by decide +kernel
theorem dX1_floor_27 : decode cX1_floor 27 = .ok (.aload_n 0, 1) := by decide +kernel
theorem dX1_floor_28 : decode cX1_floor 28 = .ok (.getfield 51, 3) := by decide +kernel
theorem dX1_floor_31 : decode cX1_floor 31 = .ok (.ifCond .eq 6, 3) := by decide +kernel
theorem dX1_floor_34 : decode cX1_floor 34 = .ok (.bipush (-3), 2) := by decide +kernel
theorem dX1_floor_36 : decode cX1_floor 36 = .ok (.ireturn, 1) := by decide +kernel
theorem dX1_floor_37 : decode cX1_floor 37 = .ok (.aload_n 0, 1) := by decide +kernel
theorem dX1_floor_38 : decode cX1_floor 38 = .ok (.getfield 23, 3) := by decide +kernel
theorem dX1_floor_41 : decode cX1_floor 41 = .ok (.iload_n 1, 1) := by decide +kernel
theorem dX1_floor_42 : decode cX1_floor 42 = .ok (.iaload, 1) := by decide +kernel
theorem dX1_floor_43 : decode cX1_floor 43 = .ok (.istore_n 3, 1) := by decide +kernel
theorem dX1_floor_44 : decode cX1_floor 44 = .ok (.aload_n 0, 1) := by decide +kernel
theorem dX1_floor_45 : decode cX1_floor 45 = .ok (.getfield 23, 3) := by decide +kernel
theorem dX1_floor_48 : decode cX1_floor 48 = .ok (.iload_n 1, 1) := by decide +kernel
theorem dX1_floor_49 : decode cX1_floor 49 = .ok (.iload_n 2, 1) := by decide +kernel
theorem dX1_floor_50 : decode cX1_floor 50 = .ok (.iastore, 1) := by decide +kernel
theorem dX1_floor_51 : decode cX1_floor 51 = .ok (.aload_n 0, 1) := by decide +kernel
theorem dX1_floor_52 : decode cX1_floor 52 = .ok (.invokevirtual 55, 3) := by decide +kernel
theorem dX1_floor_55 : decode cX1_floor 55 = .ok (.ifCond .ne 13, 3) := by decide +kernel
theorem dX1_floor_58 : decode cX1_floor 58 = .ok (.aload_n 0, 1) := by decide +kernel
theorem dX1_floor_59 : decode cX1_floor 59 = .ok (.getfield 23, 3) := by decide +kernel
theorem dX1_floor_62 : decode cX1_floor 62 = .ok (.iload_n 1, 1) := by decide +kernel
theorem dX1_floor_63 : decode cX1_floor 63 = .ok (.iload_n 3, 1) := by decide +kernel
theorem dX1_floor_64 : decode cX1_floor 64 = .ok (.iastore, 1) := by decide +kernel
theorem dX1_floor_65 : decode cX1_floor 65 = .ok (.bipush (-4), 2) := by decide +kernel
theorem dX1_floor_67 : decode cX1_floor 67 = .ok (.ireturn, 1) := by decide +kernel
theorem dX1_floor_68 : decode cX1_floor 68 = .ok (.iload_n 3, 1) := by decide +kernel
theorem dX1_floor_69 : decode cX1_floor 69 = .ok (.ireturn, 1) := by decide +kernel
abbrev cX1_open : ByteArray := prog_3_method_13_code
def yX1_open : MethodName := ⟨RX1, "open", "()I"⟩
theorem dX1_open_0 : decode cX1_open 0 = .ok (.aload_n 0, 1) := by decide +kernel
theorem dX1_open_1 : decode cX1_open 1 = .ok (.getfield 51, 3) := by decide +kernel
theorem dX1_open_4 : decode cX1_open 4 = .ok (.ifCond .eq 5, 3) := by decide +kernel
theorem dX1_open_7 : decode cX1_open 7 = .ok (.iconst (-1), 1) := by decide +kernel
theorem dX1_open_8 : decode cX1_open 8 = .ok (.ireturn, 1) := by decide +kernel
theorem dX1_open_9 : decode cX1_open 9 = .ok (.aload_n 0, 1) := by decide +kernel
theorem dX1_open_10 : decode cX1_open 10 = .ok (.iconst 1, 1) := by decide +kernel
theorem dX1_open_11 : decode cX1_open 11 = .ok (.putfield 51, 3) := by decide +kernel
theorem dX1_open_14 : decode cX1_open 14 = .ok (.aload_n 0, 1) := by decide +kernel
theorem dX1_open_15 : decode cX1_open 15 = .ok (.aload_n 0, 1) := by decide +kernel
theorem dX1_open_16 : decode cX1_open 16 = .ok (.getfield 29, 3) := by decide +kernel
theorem dX1_open_19 : decode cX1_open 19 = .ok (.putfield 62, 3) := by decide +kernel
theorem dX1_open_22 : decode cX1_open 22 = .ok (.iconst 0, 1) := by decide +kernel
theorem dX1_open_23 : decode cX1_open 23 = .ok (.istore_n 1, 1) := by decide +kernel
theorem dX1_open_24 : decode cX1_open 24 = .ok (.iload_n 1, 1) := by decide +kernel
theorem dX1_open_25 : decode cX1_open 25 = .ok (.bipush 60, 2) := by decide +kernel
theorem dX1_open_27 : decode cX1_open 27 = .ok (.if_icmp .ge 21, 3) := by decide +kernel
theorem dX1_open_30 : decode cX1_open 30 = .ok (.aload_n 0, 1) := by decide +kernel
theorem dX1_open_31 : decode cX1_open 31 = .ok (.getfield 26, 3) := by decide +kernel
theorem dX1_open_34 : decode cX1_open 34 = .ok (.iload_n 1, 1) := by decide +kernel
theorem dX1_open_35 : decode cX1_open 35 = .ok (.aload_n 0, 1) := by decide +kernel
theorem dX1_open_36 : decode cX1_open 36 = .ok (.getfield 19, 3) := by decide +kernel
theorem dX1_open_39 : decode cX1_open 39 = .ok (.iload_n 1, 1) := by decide +kernel
theorem dX1_open_40 : decode cX1_open 40 = .ok (.baload, 1) := by decide +kernel
theorem dX1_open_41 : decode cX1_open 41 = .ok (.bastore, 1) := by decide +kernel
theorem dX1_open_42 : decode cX1_open 42 = .ok (.iinc 1 1, 3) := by decide +kernel
theorem dX1_open_45 : decode cX1_open 45 = .ok (.goto (-21), 3) := by decide +kernel
theorem dX1_open_48 : decode cX1_open 48 = .ok (.iconst 0, 1) := by decide +kernel
theorem dX1_open_49 : decode cX1_open 49 = .ok (.ireturn, 1) := by decide +kernel
end
section
set_option maxRecDepth 100000
abbrev cX1_close : ByteArray := prog_3_method_14_code
def yX1_close : MethodName := ⟨RX1, "close", "()I"⟩
theorem dX1_close_0 : decode cX1_close 0 = .ok (.aload_n 0, 1) := by decide +kernel
theorem dX1_close_1 : decode cX1_close 1 = .ok (.getfield 51, 3) := by decide +kernel
theorem dX1_close_4 : decode cX1_close 4 = .ok (.ifCond .ne 5, 3) := by decide +kernel
theorem dX1_close_7 : decode cX1_close 7 = .ok (.iconst (-1), 1) := by decide +kernel
theorem dX1_close_8 : decode cX1_close 8 = .ok (.ireturn, 1) := by decide +kernel
theorem dX1_close_9 : decode cX1_close 9 = .ok (.aload_n 0, 1) := by decide +kernel
theorem dX1_close_10 : decode cX1_close 10 = .ok (.iconst 0, 1) := by decide +kernel
theorem dX1_close_11 : decode cX1_close 11 = .ok (.putfield 51, 3) := by decide +kernel
theorem dX1_close_14 : decode cX1_close 14 = .ok (.aload_n 0, 1) := by decide +kernel
theorem dX1_close_15 : decode cX1_close 15 = .ok (.invokevirtual 55, 3) := by decide +kernel
theorem dX1_close_18 : decode cX1_close 18 = .ok (.ifCond .eq 5, 3) := by decide +kernel
theorem dX1_close_21 : decode cX1_close 21 = .ok (.iconst 1, 1) := by decide +kernel
theorem dX1_close_22 : decode cX1_close 22 = .ok (.ireturn, 1) := by decide +kernel
theorem dX1_close_23 : decode cX1_close 23 = .ok (.aload_n 0, 1) := by decide +kernel
theorem dX1_close_24 : decode cX1_close 24 = .ok (.aload_n 0, 1) := by decide +kernel
theorem dX1_close_25 : decode cX1_close 25 = .ok (.getfield 62, 3) := by decide +kernel
theorem dX1_close_28 : decode cX1_close 28 = .ok (.putfield 29, 3) := by decide +kernel
theorem dX1_close_31 : decode cX1_close 31 = .ok (.iconst 0, 1) := by decide +kernel
theorem dX1_close_32 : decode cX1_close 32 = .ok (.istore_n 1, 1) := by decide +kernel
theorem dX1_close_33 : decode cX1_close 33 = .ok (.iload_n 1, 1) := by decide +kernel
theorem dX1_close_34 : decode cX1_close 34 = .ok (.bipush 60, 2) := by decide +kernel
theorem dX1_close_36 : decode cX1_close 36 = .ok (.if_icmp .ge 21, 3) := by decide +kernel
theorem dX1_close_39 : decode cX1_close 39 = .ok (.aload_n 0, 1) := by decide +kernel
theorem dX1_close_40 : decode cX1_close 40 = .ok (.getfield 19, 3) := by decide +kernel
theorem dX1_close_43 : decode cX1_close 43 = .ok (.iload_n 1, 1) := by decide +kernel
theorem dX1_close_44 : decode cX1_close 44 = .ok (.aload_n 0, 1) := by decide +kernel
theorem dX1_close_45 : decode cX1_close 45 = .ok (.getfield 26, 3) := by decide +kernel
theorem dX1_close_48 : decode cX1_close 48 = .ok (.iload_n 1, 1) := by decide +kernel
theorem dX1_close_49 : decode cX1_close 49 = .ok (.baload, 1) := by decide +kernel
theorem dX1_close_50 : decode cX1_close 50 = .ok (.bastore, 1) := by decide +kernel
theorem dX1_close_51 : decode cX1_close 51 = .ok (.iinc 1 1, 3) := by decide +kernel
theorem dX1_close_54 : decode cX1_close 54 = .ok (.goto (-21), 3) := by decide +kernel
theorem dX1_close_57 : decode cX1_close 57 = .ok (.iconst 0, 1) := by decide +kernel
theorem dX1_close_58 : decode cX1_close 58 = .ok (.ireturn, 1) := by decide +kernel
abbrev cX1_isOpen : ByteArray := prog_3_method_15_code
def yX1_isOpen : MethodName := ⟨RX1, "isOpen", "()I"⟩
theorem dX1_isOpen_0 : decode cX1_isOpen 0 = .ok (.aload_n 0, 1) := by decide +kernel
theorem dX1_isOpen_1 : decode cX1_isOpen 1 = .ok (.getfield 51, 3) := by decide +kernel
theorem dX1_isOpen_4 : decode cX1_isOpen 4 = .ok (.ifCond .eq 7, 3) := by decide +kernel
theorem dX1_isOpen_7 : decode cX1_isOpen 7 = .ok (.iconst 1, 1) := by decide +kernel
theorem dX1_isOpen_8 : decode cX1_isOpen 8 = .ok (.goto 4, 3) := by decide +kernel
theorem dX1_isOpen_11 : decode cX1_isOpen 11 = .ok (.iconst 0, 1) := by decide +kernel
theorem dX1_isOpen_12 : decode cX1_isOpen 12 = .ok (.ireturn, 1) := by decide +kernel
abbrev cX1_entries : ByteArray := prog_3_method_16_code
def yX1_entries : MethodName := ⟨RX1, "entries", "()I"⟩
theorem dX1_entries_0 : decode cX1_entries 0 = .ok (.aload_n 0, 1) := by decide +kernel
theorem dX1_entries_1 : decode cX1_entries 1 = .ok (.getfield 29, 3) := by decide +kernel
theorem dX1_entries_4 : decode cX1_entries 4 = .ok (.ireturn, 1) := by decide +kernel
abbrev cX1_cancelled : ByteArray := prog_3_method_17_code
def yX1_cancelled : MethodName := ⟨RX1, "cancelled", "(I)I"⟩
theorem dX1_cancelled_0 : decode cX1_cancelled 0 = .ok (.aload_n 0, 1) := by decide +kernel
theorem dX1_cancelled_1 : decode cX1_cancelled 1 = .ok (.iload_n 1, 1) := by decide +kernel
theorem dX1_cancelled_2 : decode cX1_cancelled 2 = .ok (.invokevirtual 59, 3) := by decide +kernel
theorem dX1_cancelled_5 : decode cX1_cancelled 5 = .ok (.ifCond .eq 5, 3) := by decide +kernel
theorem dX1_cancelled_8 : decode cX1_cancelled 8 = .ok (.iconst (-1), 1) := by decide +kernel
theorem dX1_cancelled_9 : decode cX1_cancelled 9 = .ok (.ireturn, 1) := by decide +kernel
theorem dX1_cancelled_10 : decode cX1_cancelled 10 = .ok (.aload_n 0, 1) := by decide +kernel
theorem dX1_cancelled_11 : decode cX1_cancelled 11 = .ok (.getfield 19, 3) := by decide +kernel
theorem dX1_cancelled_14 : decode cX1_cancelled 14 = .ok (.iload_n 1, 1) := by decide +kernel
theorem dX1_cancelled_15 : decode cX1_cancelled 15 = .ok (.baload, 1) := by decide +kernel
theorem dX1_cancelled_16 : decode cX1_cancelled 16 = .ok (.ifCond .eq 7, 3) := by decide +kernel
theorem dX1_cancelled_19 : decode cX1_cancelled 19 = .ok (.iconst 1, 1) := by decide +kernel
theorem dX1_cancelled_20 : decode cX1_cancelled 20 = .ok (.goto 4, 3) := by decide +kernel
theorem dX1_cancelled_23 : decode cX1_cancelled 23 = .ok (.iconst 0, 1) := by decide +kernel
theorem dX1_cancelled_24 : decode cX1_cancelled 24 = .ok (.ireturn, 1) := by decide +kernel
abbrev cX1_amountOf : ByteArray := prog_3_method_18_code
def yX1_amountOf : MethodName := ⟨RX1, "amountOf", "(I)I"⟩
theorem dX1_amountOf_0 : decode cX1_amountOf 0 = .ok (.aload_n 0, 1) := by decide +kernel
theorem dX1_amountOf_1 : decode cX1_amountOf 1 = .ok (.iload_n 1, 1) := by decide +kernel
theorem dX1_amountOf_2 : decode cX1_amountOf 2 = .ok (.invokevirtual 59, 3) := by decide +kernel
theorem dX1_amountOf_5 : decode cX1_amountOf 5 = .ok (.ifCond .eq 7, 3) := by decide +kernel
theorem dX1_amountOf_8 : decode cX1_amountOf 8 = .ok (.iconst 0, 1) := by decide +kernel
theorem dX1_amountOf_9 : decode cX1_amountOf 9 = .ok (.goto 9, 3) := by decide +kernel
theorem dX1_amountOf_12 : decode cX1_amountOf 12 = .ok (.aload_n 0, 1) := by decide +kernel
theorem dX1_amountOf_13 : decode cX1_amountOf 13 = .ok (.getfield 16, 3) := by decide +kernel
theorem dX1_amountOf_16 : decode cX1_amountOf 16 = .ok (.iload_n 1, 1) := by decide +kernel
theorem dX1_amountOf_17 : decode cX1_amountOf 17 = .ok (.iaload, 1) := by decide +kernel
theorem dX1_amountOf_18 : decode cX1_amountOf 18 = .ok (.ireturn, 1) := by decide +kernel
abbrev cX1_sound : ByteArray := prog_3_method_19_code
def yX1_sound : MethodName := ⟨RX1, "sound", "()I"⟩
theorem dX1_sound_0 : decode cX1_sound 0 = .ok (.aload_n 0, 1) := by decide +kernel
theorem dX1_sound_1 : decode cX1_sound 1 = .ok (.invokevirtual 55, 3) := by decide +kernel
theorem dX1_sound_4 : decode cX1_sound 4 = .ok (.ifCond .eq 7, 3) := by decide +kernel
theorem dX1_sound_7 : decode cX1_sound 7 = .ok (.iconst 1, 1) := by decide +kernel
theorem dX1_sound_8 : decode cX1_sound 8 = .ok (.goto 4, 3) := by decide +kernel
theorem dX1_sound_11 : decode cX1_sound 11 = .ok (.iconst 0, 1) := by decide +kernel
theorem dX1_sound_12 : decode cX1_sound 12 = .ok (.ireturn, 1) := by decide +kernel
abbrev cX1_balance : ByteArray := prog_3_method_20_code
def yX1_balance : MethodName := ⟨RX1, "balance", "(II)I"⟩
theorem dX1_balance_0 : decode cX1_balance 0 = .ok (.aload_n 0, 1) := by decide +kernel
theorem dX1_balance_1 : decode cX1_balance 1 = .ok (.iload_n 1, 1) := by decide +kernel
theorem dX1_balance_2 : decode cX1_balance 2 = .ok (.invokevirtual 41, 3) := by decide +kernel
theorem dX1_balance_5 : decode cX1_balance 5 = .ok (.ifCond .ne 11, 3) := by decide +kernel
theorem dX1_balance_8 : decode cX1_balance 8 = .ok (.aload_n 0, 1) := by decide +kernel
theorem dX1_balance_9 : decode cX1_balance 9 = .ok (.iload_n 2, 1) := by decide +kernel
theorem dX1_balance_10 : decode cX1_balance 10 = .ok (.invokevirtual 44, 3) := by decide +kernel
theorem dX1_balance_13 : decode cX1_balance 13 = .ok (.ifCond .eq 8, 3) := by decide +kernel
theorem dX1_balance_16 : decode cX1_balance 16 = .ok (.ldc 65, 2) := by decide +kernel
theorem dX1_balance_18 : decode cX1_balance 18 = .ok (.goto 9, 3) := by decide +kernel
theorem dX1_balance_21 : decode cX1_balance 21 = .ok (.aload_n 0, 1) := by decide +kernel
theorem dX1_balance_22 : decode cX1_balance 22 = .ok (.iload_n 1, 1) := by decide +kernel
theorem dX1_balance_23 : decode cX1_balance 23 = .ok (.iload_n 2, 1) := by decide +kernel
theorem dX1_balance_24 : decode cX1_balance 24 = .ok (.invokevirtual 33, 3) := by decide +kernel
theorem dX1_balance_27 : decode cX1_balance 27 = .ok (.ireturn, 1) := by decide +kernel
abbrev cX1_lowest : ByteArray := prog_3_method_22_code
def yX1_lowest : MethodName := ⟨RX1, "lowest", "(III)I"⟩
theorem dX1_lowest_0 : decode cX1_lowest 0 = .ok (.aload_n 0, 1) := by decide +kernel
theorem dX1_lowest_1 : decode cX1_lowest 1 = .ok (.iload_n 1, 1) := by decide +kernel
theorem dX1_lowest_2 : decode cX1_lowest 2 = .ok (.invokevirtual 41, 3) := by decide +kernel
theorem dX1_lowest_5 : decode cX1_lowest 5 = .ok (.ifCond .eq 6, 3) := by decide +kernel
theorem dX1_lowest_8 : decode cX1_lowest 8 = .ok (.ldc 65, 2) := by decide +kernel
theorem dX1_lowest_10 : decode cX1_lowest 10 = .ok (.ireturn, 1) := by decide +kernel
theorem dX1_lowest_11 : decode cX1_lowest 11 = .ok (.aload_n 0, 1) := by decide +kernel
theorem dX1_lowest_12 : decode cX1_lowest 12 = .ok (.iload_n 2, 1) := by decide +kernel
theorem dX1_lowest_13 : decode cX1_lowest 13 = .ok (.iload_n 3, 1) := by decide +kernel
theorem dX1_lowest_14 : decode cX1_lowest 14 = .ok (.invokevirtual 66, 3) := by decide +kernel
theorem dX1_lowest_17 : decode cX1_lowest 17 = .ok (.ifCond .eq 6, 3) := by decide +kernel
theorem dX1_lowest_20 : decode cX1_lowest 20 = .ok (.ldc 70, 2) := by decide +kernel
theorem dX1_lowest_22 : decode cX1_lowest 22 = .ok (.ireturn, 1) := by decide +kernel
theorem dX1_lowest_23 : decode cX1_lowest 23 = .ok (.aload_n 0, 1) := by decide +kernel
theorem dX1_lowest_24 : decode cX1_lowest 24 = .ok (.iload_n 1, 1) := by decide +kernel
theorem dX1_lowest_25 : decode cX1_lowest 25 = .ok (.iload_n 2, 1) := by decide +kernel
theorem dX1_lowest_26 : decode cX1_lowest 26 = .ok (.invokevirtual 33, 3) := by decide +kernel
theorem dX1_lowest_29 : decode cX1_lowest 29 = .ok (.istore 4, 2) := by decide +kernel
theorem dX1_lowest_31 : decode cX1_lowest 31 = .ok (.iload_n 2, 1) := by decide +kernel
theorem dX1_lowest_32 : decode cX1_lowest 32 = .ok (.istore 5, 2) := by decide +kernel
theorem dX1_lowest_34 : decode cX1_lowest 34 = .ok (.iload 5, 2) := by decide +kernel
theorem dX1_lowest_36 : decode cX1_lowest 36 = .ok (.iload_n 3, 1) := by decide +kernel
theorem dX1_lowest_37 : decode cX1_lowest 37 = .ok (.if_icmp .gt 29, 3) := by decide +kernel
theorem dX1_lowest_40 : decode cX1_lowest 40 = .ok (.aload_n 0, 1) := by decide +kernel
theorem dX1_lowest_41 : decode cX1_lowest 41 = .ok (.iload_n 1, 1) := by decide +kernel
theorem dX1_lowest_42 : decode cX1_lowest 42 = .ok (.iload 5, 2) := by decide +kernel
theorem dX1_lowest_44 : decode cX1_lowest 44 = .ok (.invokevirtual 33, 3) := by decide +kernel
theorem dX1_lowest_47 : decode cX1_lowest 47 = .ok (.istore 6, 2) := by decide +kernel
theorem dX1_lowest_49 : decode cX1_lowest 49 = .ok (.iload 6, 2) := by decide +kernel
theorem dX1_lowest_51 : decode cX1_lowest 51 = .ok (.iload 4, 2) := by decide +kernel
theorem dX1_lowest_53 : decode cX1_lowest 53 = .ok (.if_icmp .ge 7, 3) := by decide +kernel
theorem dX1_lowest_56 : decode cX1_lowest 56 = .ok (.iload 6, 2) := by decide +kernel
theorem dX1_lowest_58 : decode cX1_lowest 58 = .ok (.istore 4, 2) := by decide +kernel
theorem dX1_lowest_60 : decode cX1_lowest 60 = .ok (.iinc 5 1, 3) := by decide +kernel
theorem dX1_lowest_63 : decode cX1_lowest 63 = .ok (.goto (-29), 3) := by decide +kernel
theorem dX1_lowest_66 : decode cX1_lowest 66 = .ok (.iload 4, 2) := by decide +kernel
theorem dX1_lowest_68 : decode cX1_lowest 68 = .ok (.ireturn, 1) := by decide +kernel
abbrev cX1_badStretch : ByteArray := prog_3_method_21_code
def yX1_badStretch : MethodName := ⟨RX1, "badStretch", "(II)Z"⟩
theorem dX1_badStretch_0 : decode cX1_badStretch 0 = .ok (.iload_n 1, 1) := by decide +kernel
theorem dX1_badStretch_1 : decode cX1_badStretch 1 = .ok (.ifCond .lt 14, 3) := by decide +kernel
theorem dX1_badStretch_4 : decode cX1_badStretch 4 = .ok (.iload_n 1, 1) := by decide +kernel
theorem dX1_badStretch_5 : decode cX1_badStretch 5 = .ok (.iload_n 2, 1) := by decide +kernel
theorem dX1_badStretch_6 : decode cX1_badStretch 6 = .ok (.if_icmp .gt 9, 3) := by decide +kernel
theorem dX1_badStretch_9 : decode cX1_badStretch 9 = .ok (.iload_n 2, 1) := by decide +kernel
theorem dX1_badStretch_10 : decode cX1_badStretch 10 = .ok (.bipush 47, 2) := by decide +kernel
theorem dX1_badStretch_12 : decode cX1_badStretch 12 = .ok (.if_icmp .le 7, 3) := by decide +kernel
theorem dX1_badStretch_15 : decode cX1_badStretch 15 = .ok (.iconst 1, 1) := by decide +kernel
theorem dX1_badStretch_16 : decode cX1_badStretch 16 = .ok (.goto 4, 3) := by decide +kernel
theorem dX1_badStretch_19 : decode cX1_badStretch 19 = .ok (.iconst 0, 1) := by decide +kernel
theorem dX1_badStretch_20 : decode cX1_badStretch 20 = .ok (.ireturn, 1) := by decide +kernel
abbrev cX1_total : ByteArray := prog_3_method_23_code
def yX1_total : MethodName := ⟨RX1, "total", "(III)I"⟩
theorem dX1_total_0 : decode cX1_total 0 = .ok (.aload_n 0, 1) := by decide +kernel
theorem dX1_total_1 : decode cX1_total 1 = .ok (.iload_n 1, 1) := by decide +kernel
theorem dX1_total_2 : decode cX1_total 2 = .ok (.invokevirtual 41, 3) := by decide +kernel
theorem dX1_total_5 : decode cX1_total 5 = .ok (.ifCond .ne 12, 3) := by decide +kernel
theorem dX1_total_8 : decode cX1_total 8 = .ok (.aload_n 0, 1) := by decide +kernel
theorem dX1_total_9 : decode cX1_total 9 = .ok (.iload_n 2, 1) := by decide +kernel
theorem dX1_total_10 : decode cX1_total 10 = .ok (.iload_n 3, 1) := by decide +kernel
theorem dX1_total_11 : decode cX1_total 11 = .ok (.invokevirtual 66, 3) := by decide +kernel
theorem dX1_total_14 : decode cX1_total 14 = .ok (.ifCond .eq 6, 3) := by decide +kernel
theorem dX1_total_17 : decode cX1_total 17 = .ok (.ldc 71, 2) := by decide +kernel
theorem dX1_total_19 : decode cX1_total 19 = .ok (.ireturn, 1) := by decide +kernel
theorem dX1_total_20 : decode cX1_total 20 = .ok (.iconst 0, 1) := by decide +kernel
theorem dX1_total_21 : decode cX1_total 21 = .ok (.istore 4, 2) := by decide +kernel
theorem dX1_total_23 : decode cX1_total 23 = .ok (.iload_n 2, 1) := by decide +kernel
theorem dX1_total_24 : decode cX1_total 24 = .ok (.istore 5, 2) := by decide +kernel
theorem dX1_total_26 : decode cX1_total 26 = .ok (.iload 5, 2) := by decide +kernel
theorem dX1_total_28 : decode cX1_total 28 = .ok (.iload_n 3, 1) := by decide +kernel
theorem dX1_total_29 : decode cX1_total 29 = .ok (.if_icmp .gt 21, 3) := by decide +kernel
theorem dX1_total_32 : decode cX1_total 32 = .ok (.iload 4, 2) := by decide +kernel
theorem dX1_total_34 : decode cX1_total 34 = .ok (.aload_n 0, 1) := by decide +kernel
theorem dX1_total_35 : decode cX1_total 35 = .ok (.iload_n 1, 1) := by decide +kernel
theorem dX1_total_36 : decode cX1_total 36 = .ok (.iload 5, 2) := by decide +kernel
theorem dX1_total_38 : decode cX1_total 38 = .ok (.invokevirtual 33, 3) := by decide +kernel
theorem dX1_total_41 : decode cX1_total 41 = .ok (.iadd, 1) := by decide +kernel
theorem dX1_total_42 : decode cX1_total 42 = .ok (.istore 4, 2) := by decide +kernel
theorem dX1_total_44 : decode cX1_total 44 = .ok (.iinc 5 1, 3) := by decide +kernel
theorem dX1_total_47 : decode cX1_total 47 = .ok (.goto (-21), 3) := by decide +kernel
theorem dX1_total_50 : decode cX1_total 50 = .ok (.iload 4, 2) := by decide +kernel
theorem dX1_total_52 : decode cX1_total 52 = .ok (.ireturn, 1) := by decide +kernel
abbrev cX1_firstBelow : ByteArray := prog_3_method_24_code
def yX1_firstBelow : MethodName := ⟨RX1, "firstBelow", "(III)I"⟩
theorem dX1_firstBelow_0 : decode cX1_firstBelow 0 = .ok (.aload_n 0, 1) := by decide +kernel
theorem dX1_firstBelow_1 : decode cX1_firstBelow 1 = .ok (.iload_n 1, 1) := by decide +kernel
theorem dX1_firstBelow_2 : decode cX1_firstBelow 2 = .ok (.invokevirtual 41, 3) := by decide +kernel
theorem dX1_firstBelow_5 : decode cX1_firstBelow 5 = .ok (.ifCond .eq 5, 3) := by decide +kernel
theorem dX1_firstBelow_8 : decode cX1_firstBelow 8 = .ok (.iconst (-1), 1) := by decide +kernel
theorem dX1_firstBelow_9 : decode cX1_firstBelow 9 = .ok (.ireturn, 1) := by decide +kernel
theorem dX1_firstBelow_10 : decode cX1_firstBelow 10 = .ok (.aload_n 0, 1) := by decide +kernel
theorem dX1_firstBelow_11 : decode cX1_firstBelow 11 = .ok (.iload_n 2, 1) := by decide +kernel
theorem dX1_firstBelow_12 : decode cX1_firstBelow 12 = .ok (.invokevirtual 44, 3) := by decide +kernel
theorem dX1_firstBelow_15 : decode cX1_firstBelow 15 = .ok (.ifCond .eq 6, 3) := by decide +kernel
theorem dX1_firstBelow_18 : decode cX1_firstBelow 18 = .ok (.bipush (-2), 2) := by decide +kernel
theorem dX1_firstBelow_20 : decode cX1_firstBelow 20 = .ok (.ireturn, 1) := by decide +kernel
theorem dX1_firstBelow_21 : decode cX1_firstBelow 21 = .ok (.iload_n 2, 1) := by decide +kernel
theorem dX1_firstBelow_22 : decode cX1_firstBelow 22 = .ok (.istore 4, 2) := by decide +kernel
theorem dX1_firstBelow_24 : decode cX1_firstBelow 24 = .ok (.iload 4, 2) := by decide +kernel
theorem dX1_firstBelow_26 : decode cX1_firstBelow 26 = .ok (.bipush 48, 2) := by decide +kernel
theorem dX1_firstBelow_28 : decode cX1_firstBelow 28 = .ok (.if_icmp .ge 23, 3) := by decide +kernel
theorem dX1_firstBelow_31 : decode cX1_firstBelow 31 = .ok (.aload_n 0, 1) := by decide +kernel
theorem dX1_firstBelow_32 : decode cX1_firstBelow 32 = .ok (.iload_n 1, 1) := by decide +kernel
theorem dX1_firstBelow_33 : decode cX1_firstBelow 33 = .ok (.iload 4, 2) := by decide +kernel
theorem dX1_firstBelow_35 : decode cX1_firstBelow 35 = .ok (.invokevirtual 33, 3) := by decide +kernel
theorem dX1_firstBelow_38 : decode cX1_firstBelow 38 = .ok (.iload_n 3, 1) := by decide +kernel
theorem dX1_firstBelow_39 : decode cX1_firstBelow 39 = .ok (.if_icmp .ge 6, 3) := by decide +kernel
theorem dX1_firstBelow_42 : decode cX1_firstBelow 42 = .ok (.iload 4, 2) := by decide +kernel
theorem dX1_firstBelow_44 : decode cX1_firstBelow 44 = .ok (.ireturn, 1) := by decide +kernel
theorem dX1_firstBelow_45 : decode cX1_firstBelow 45 = .ok (.iinc 4 1, 3) := by decide +kernel
theorem dX1_firstBelow_48 : decode cX1_firstBelow 48 = .ok (.goto (-24), 3) := by decide +kernel
theorem dX1_firstBelow_51 : decode cX1_firstBelow 51 = .ok (.bipush (-3), 2) := by decide +kernel
theorem dX1_firstBelow_53 : decode cX1_firstBelow 53 = .ok (.ireturn, 1) := by decide +kernel
abbrev cX1_free : ByteArray := prog_3_method_26_code
def yX1_free : MethodName := ⟨RX1, "free", "(II)I"⟩
theorem dX1_free_0 : decode cX1_free 0 = .ok (.aload_n 0, 1) := by decide +kernel
theorem dX1_free_1 : decode cX1_free 1 = .ok (.iload_n 1, 1) := by decide +kernel
theorem dX1_free_2 : decode cX1_free 2 = .ok (.invokevirtual 41, 3) := by decide +kernel
theorem dX1_free_5 : decode cX1_free 5 = .ok (.ifCond .eq 5, 3) := by decide +kernel
theorem dX1_free_8 : decode cX1_free 8 = .ok (.iconst (-1), 1) := by decide +kernel
theorem dX1_free_9 : decode cX1_free 9 = .ok (.ireturn, 1) := by decide +kernel
theorem dX1_free_10 : decode cX1_free 10 = .ok (.aload_n 0, 1) := by decide +kernel
theorem dX1_free_11 : decode cX1_free 11 = .ok (.iload_n 2, 1) := by decide +kernel
theorem dX1_free_12 : decode cX1_free 12 = .ok (.invokevirtual 44, 3) := by decide +kernel
theorem dX1_free_15 : decode cX1_free 15 = .ok (.ifCond .eq 6, 3) := by decide +kernel
theorem dX1_free_18 : decode cX1_free 18 = .ok (.bipush (-2), 2) := by decide +kernel
theorem dX1_free_20 : decode cX1_free 20 = .ok (.ireturn, 1) := by decide +kernel
theorem dX1_free_21 : decode cX1_free 21 = .ok (.aload_n 0, 1) := by decide +kernel
theorem dX1_free_22 : decode cX1_free 22 = .ok (.iload_n 1, 1) := by decide +kernel
theorem dX1_free_23 : decode cX1_free 23 = .ok (.iload_n 2, 1) := by decide +kernel
theorem dX1_free_24 : decode cX1_free 24 = .ok (.invokevirtual 72, 3) := by decide +kernel
theorem dX1_free_27 : decode cX1_free 27 = .ok (.ireturn, 1) := by decide +kernel
abbrev cX1_spare : ByteArray := prog_3_method_25_code
def yX1_spare : MethodName := ⟨RX1, "spare", "(II)I"⟩
theorem dX1_spare_0 : decode cX1_spare 0 = .ok (.aload_n 0, 1) := by decide +kernel
theorem dX1_spare_1 : decode cX1_spare 1 = .ok (.iload_n 1, 1) := by decide +kernel
theorem dX1_spare_2 : decode cX1_spare 2 = .ok (.iload_n 2, 1) := by decide +kernel
theorem dX1_spare_3 : decode cX1_spare 3 = .ok (.invokevirtual 33, 3) := by decide +kernel
theorem dX1_spare_6 : decode cX1_spare 6 = .ok (.aload_n 0, 1) := by decide +kernel
theorem dX1_spare_7 : decode cX1_spare 7 = .ok (.getfield 23, 3) := by decide +kernel
theorem dX1_spare_10 : decode cX1_spare 10 = .ok (.iload_n 1, 1) := by decide +kernel
theorem dX1_spare_11 : decode cX1_spare 11 = .ok (.iaload, 1) := by decide +kernel
theorem dX1_spare_12 : decode cX1_spare 12 = .ok (.isub, 1) := by decide +kernel
theorem dX1_spare_13 : decode cX1_spare 13 = .ok (.istore_n 3, 1) := by decide +kernel
theorem dX1_spare_14 : decode cX1_spare 14 = .ok (.iload_n 2, 1) := by decide +kernel
theorem dX1_spare_15 : decode cX1_spare 15 = .ok (.istore 4, 2) := by decide +kernel
theorem dX1_spare_17 : decode cX1_spare 17 = .ok (.iload 4, 2) := by decide +kernel
theorem dX1_spare_19 : decode cX1_spare 19 = .ok (.bipush 48, 2) := by decide +kernel
theorem dX1_spare_21 : decode cX1_spare 21 = .ok (.if_icmp .ge 34, 3) := by decide +kernel
theorem dX1_spare_24 : decode cX1_spare 24 = .ok (.aload_n 0, 1) := by decide +kernel
theorem dX1_spare_25 : decode cX1_spare 25 = .ok (.iload_n 1, 1) := by decide +kernel
theorem dX1_spare_26 : decode cX1_spare 26 = .ok (.iload 4, 2) := by decide +kernel
theorem dX1_spare_28 : decode cX1_spare 28 = .ok (.invokevirtual 33, 3) := by decide +kernel
theorem dX1_spare_31 : decode cX1_spare 31 = .ok (.aload_n 0, 1) := by decide +kernel
theorem dX1_spare_32 : decode cX1_spare 32 = .ok (.getfield 23, 3) := by decide +kernel
theorem dX1_spare_35 : decode cX1_spare 35 = .ok (.iload_n 1, 1) := by decide +kernel
theorem dX1_spare_36 : decode cX1_spare 36 = .ok (.iaload, 1) := by decide +kernel
theorem dX1_spare_37 : decode cX1_spare 37 = .ok (.isub, 1) := by decide +kernel
theorem dX1_spare_38 : decode cX1_spare 38 = .ok (.istore 5, 2) := by decide +kernel
theorem dX1_spare_40 : decode cX1_spare 40 = .ok (.iload 5, 2) := by decide +kernel
theorem dX1_spare_42 : decode cX1_spare 42 = .ok (.iload_n 3, 1) := by decide +kernel
theorem dX1_spare_43 : decode cX1_spare 43 = .ok (.if_icmp .ge 6, 3) := by decide +kernel
theorem dX1_spare_46 : decode cX1_spare 46 = .ok (.iload 5, 2) := by decide +kernel
theorem dX1_spare_48 : decode cX1_spare 48 = .ok (.istore_n 3, 1) := by decide +kernel
theorem dX1_spare_49 : decode cX1_spare 49 = .ok (.iinc 4 1, 3) := by decide +kernel
theorem dX1_spare_52 : decode cX1_spare 52 = .ok (.goto (-35), 3) := by decide +kernel
theorem dX1_spare_55 : decode cX1_spare 55 = .ok (.iload_n 3, 1) := by decide +kernel
theorem dX1_spare_56 : decode cX1_spare 56 = .ok (.ifCond .ge 7, 3) := by decide +kernel
theorem dX1_spare_59 : decode cX1_spare 59 = .ok (.iconst 0, 1) := by decide +kernel
theorem dX1_spare_60 : decode cX1_spare 60 = .ok (.goto 4, 3) := by decide +kernel
theorem dX1_spare_63 : decode cX1_spare 63 = .ok (.iload_n 3, 1) := by decide +kernel
theorem dX1_spare_64 : decode cX1_spare 64 = .ok (.ireturn, 1) := by decide +kernel
abbrev cX1_firstFree : ByteArray := prog_3_method_27_code
def yX1_firstFree : MethodName := ⟨RX1, "firstFree", "(II)I"⟩
theorem dX1_firstFree_0 : decode cX1_firstFree 0 = .ok (.aload_n 0, 1) := by decide +kernel
theorem dX1_firstFree_1 : decode cX1_firstFree 1 = .ok (.iload_n 1, 1) := by decide +kernel
theorem dX1_firstFree_2 : decode cX1_firstFree 2 = .ok (.invokevirtual 41, 3) := by decide +kernel
theorem dX1_firstFree_5 : decode cX1_firstFree 5 = .ok (.ifCond .eq 5, 3) := by decide +kernel
theorem dX1_firstFree_8 : decode cX1_firstFree 8 = .ok (.iconst (-1), 1) := by decide +kernel
theorem dX1_firstFree_9 : decode cX1_firstFree 9 = .ok (.ireturn, 1) := by decide +kernel
theorem dX1_firstFree_10 : decode cX1_firstFree 10 = .ok (.iload_n 2, 1) := by decide +kernel
theorem dX1_firstFree_11 : decode cX1_firstFree 11 = .ok (.iconst 1, 1) := by decide +kernel
theorem dX1_firstFree_12 : decode cX1_firstFree 12 = .ok (.if_icmp .lt 9, 3) := by decide +kernel
theorem dX1_firstFree_15 : decode cX1_firstFree 15 = .ok (.iload_n 2, 1) := by decide +kernel
theorem dX1_firstFree_16 : decode cX1_firstFree 16 = .ok (.ldc 75, 2) := by decide +kernel
theorem dX1_firstFree_18 : decode cX1_firstFree 18 = .ok (.if_icmp .le 6, 3) := by decide +kernel
theorem dX1_firstFree_21 : decode cX1_firstFree 21 = .ok (.bipush (-2), 2) := by decide +kernel
theorem dX1_firstFree_23 : decode cX1_firstFree 23 = .ok (.ireturn, 1) := by decide +kernel
theorem dX1_firstFree_24 : decode cX1_firstFree 24 = .ok (.iconst 0, 1) := by decide +kernel
theorem dX1_firstFree_25 : decode cX1_firstFree 25 = .ok (.istore_n 3, 1) := by decide +kernel
theorem dX1_firstFree_26 : decode cX1_firstFree 26 = .ok (.iload_n 3, 1) := by decide +kernel
theorem dX1_firstFree_27 : decode cX1_firstFree 27 = .ok (.bipush 48, 2) := by decide +kernel
theorem dX1_firstFree_29 : decode cX1_firstFree 29 = .ok (.if_icmp .ge 21, 3) := by decide +kernel
theorem dX1_firstFree_32 : decode cX1_firstFree 32 = .ok (.aload_n 0, 1) := by decide +kernel
theorem dX1_firstFree_33 : decode cX1_firstFree 33 = .ok (.iload_n 1, 1) := by decide +kernel
theorem dX1_firstFree_34 : decode cX1_firstFree 34 = .ok (.iload_n 3, 1) := by decide +kernel
theorem dX1_firstFree_35 : decode cX1_firstFree 35 = .ok (.invokevirtual 72, 3) := by decide +kernel
theorem dX1_firstFree_38 : decode cX1_firstFree 38 = .ok (.iload_n 2, 1) := by decide +kernel
theorem dX1_firstFree_39 : decode cX1_firstFree 39 = .ok (.if_icmp .lt 5, 3) := by decide +kernel
theorem dX1_firstFree_42 : decode cX1_firstFree 42 = .ok (.iload_n 3, 1) := by decide +kernel
theorem dX1_firstFree_43 : decode cX1_firstFree 43 = .ok (.ireturn, 1) := by decide +kernel
theorem dX1_firstFree_44 : decode cX1_firstFree 44 = .ok (.iinc 3 1, 3) := by decide +kernel
theorem dX1_firstFree_47 : decode cX1_firstFree 47 = .ok (.goto (-21), 3) := by decide +kernel
theorem dX1_firstFree_50 : decode cX1_firstFree 50 = .ok (.bipush (-3), 2) := by decide +kernel
theorem dX1_firstFree_52 : decode cX1_firstFree 52 = .ok (.ireturn, 1) := by decide +kernel
abbrev cX1_daysBelow : ByteArray := prog_3_method_28_code
def yX1_daysBelow : MethodName := ⟨RX1, "daysBelow", "(II)I"⟩
theorem dX1_daysBelow_0 : decode cX1_daysBelow 0 = .ok (.aload_n 0, 1) := by decide +kernel
theorem dX1_daysBelow_1 : decode cX1_daysBelow 1 = .ok (.iload_n 1, 1) := by decide +kernel
theorem dX1_daysBelow_2 : decode cX1_daysBelow 2 = .ok (.invokevirtual 41, 3) := by decide +kernel
theorem dX1_daysBelow_5 : decode cX1_daysBelow 5 = .ok (.ifCond .eq 5, 3) := by decide +kernel
theorem dX1_daysBelow_8 : decode cX1_daysBelow 8 = .ok (.iconst (-1), 1) := by decide +kernel
theorem dX1_daysBelow_9 : decode cX1_daysBelow 9 = .ok (.ireturn, 1) := by decide +kernel
theorem dX1_daysBelow_10 : decode cX1_daysBelow 10 = .ok (.iconst 0, 1) := by decide +kernel
theorem dX1_daysBelow_11 : decode cX1_daysBelow 11 = .ok (.istore_n 3, 1) := by decide +kernel
theorem dX1_daysBelow_12 : decode cX1_daysBelow 12 = .ok (.iconst 0, 1) := by decide +kernel
theorem dX1_daysBelow_13 : decode cX1_daysBelow 13 = .ok (.istore 4, 2) := by decide +kernel
theorem dX1_daysBelow_15 : decode cX1_daysBelow 15 = .ok (.iload 4, 2) := by decide +kernel
theorem dX1_daysBelow_17 : decode cX1_daysBelow 17 = .ok (.bipush 48, 2) := by decide +kernel
theorem dX1_daysBelow_19 : decode cX1_daysBelow 19 = .ok (.if_icmp .ge 23, 3) := by decide +kernel
theorem dX1_daysBelow_22 : decode cX1_daysBelow 22 = .ok (.aload_n 0, 1) := by decide +kernel
theorem dX1_daysBelow_23 : decode cX1_daysBelow 23 = .ok (.iload_n 1, 1) := by decide +kernel
theorem dX1_daysBelow_24 : decode cX1_daysBelow 24 = .ok (.iload 4, 2) := by decide +kernel
theorem dX1_daysBelow_26 : decode cX1_daysBelow 26 = .ok (.invokevirtual 33, 3) := by decide +kernel
theorem dX1_daysBelow_29 : decode cX1_daysBelow 29 = .ok (.iload_n 2, 1) := by decide +kernel
theorem dX1_daysBelow_30 : decode cX1_daysBelow 30 = .ok (.if_icmp .ge 6, 3) := by decide +kernel
theorem dX1_daysBelow_33 : decode cX1_daysBelow 33 = .ok (.iinc 3 1, 3) := by decide +kernel
theorem dX1_daysBelow_36 : decode cX1_daysBelow 36 = .ok (.iinc 4 1, 3) := by decide +kernel
theorem dX1_daysBelow_39 : decode cX1_daysBelow 39 = .ok (.goto (-24), 3) := by decide +kernel
theorem dX1_daysBelow_42 : decode cX1_daysBelow 42 = .ok (.iload_n 3, 1) := by decide +kernel
theorem dX1_daysBelow_43 : decode cX1_daysBelow 43 = .ok (.ireturn, 1) := by decide +kernel
end
section
set_option maxRecDepth 100000
theorem q21 : (Jvm.Cond.initialized "BackdatedBookModel") ∈ lw_all := lw_g (lw_at lw_m1 2 rfl) rfl
theorem q211 : (Jvm.Cond.instantiable "BackdatedBookModel" (9 : Nat)) ∈ lw_all := lw_g (lw_at lw_m1 192 rfl) rfl
theorem q213 : (Jvm.Cond.instanceMethod ({ cls := "BackdatedBookModel", name := "<init>", desc := "()V" } : Jvm.MethodName)) ∈ lw_all := lw_g (lw_at lw_m1 194 rfl) rfl
theorem q214 : (Jvm.Cond.code ({ cls := "BackdatedBookModel", name := "<init>", desc := "()V" } : Jvm.MethodName) prog_3_method_1_code (1 : Nat) (Option.none : Option Jvm.ClassFile.FieldType)) ∈ lw_all := lw_g (lw_at lw_m1 195 rfl) rfl
theorem q215 : (Jvm.Cond.methodLink "BackdatedBookModel" (1 : Nat) ({ cls := "java/lang/Object", name := "<init>", desc := "()V" } : Jvm.MethodName)) ∈ lw_all := lw_g (lw_at lw_m1 196 rfl) rfl
theorem q216 : (Jvm.Cond.fieldLink "BackdatedBookModel" (29 : Nat) "BackdatedBookModel" "count" "I") ∈ lw_all := lw_g (lw_at lw_m1 197 rfl) rfl
theorem q217 : (Jvm.Cond.fieldLink "BackdatedBookModel" (7 : Nat) "BackdatedBookModel" "account" "[I") ∈ lw_all := lw_g (lw_at lw_m1 198 rfl) rfl
theorem q218 : (Jvm.Cond.fieldLink "BackdatedBookModel" (13 : Nat) "BackdatedBookModel" "day" "[I") ∈ lw_all := lw_g (lw_at lw_m1 199 rfl) rfl
theorem q219 : (Jvm.Cond.fieldLink "BackdatedBookModel" (16 : Nat) "BackdatedBookModel" "amount" "[I") ∈ lw_all := lw_g (lw_at lw_m1 200 rfl) rfl
theorem q220 : (Jvm.Cond.fieldLink "BackdatedBookModel" (19 : Nat) "BackdatedBookModel" "off" "[Z") ∈ lw_all := lw_g (lw_at lw_m1 201 rfl) rfl
theorem q221 : (Jvm.Cond.fieldLink "BackdatedBookModel" (23 : Nat) "BackdatedBookModel" "floors" "[I") ∈ lw_all := lw_g (lw_at lw_m1 202 rfl) rfl
theorem q222 : (Jvm.Cond.fieldLink "BackdatedBookModel" (51 : Nat) "BackdatedBookModel" "batch" "Z") ∈ lw_all := lw_g (lw_at lw_m1 203 rfl) rfl
theorem q223 : (Jvm.Cond.fieldLink "BackdatedBookModel" (62 : Nat) "BackdatedBookModel" "countBefore" "I") ∈ lw_all := lw_g (lw_at lw_m1 204 rfl) rfl
theorem q224 : (Jvm.Cond.fieldLink "BackdatedBookModel" (26 : Nat) "BackdatedBookModel" "offBefore" "[Z") ∈ lw_all := lw_g (lw_at lw_m1 205 rfl) rfl
theorem q225 : (Jvm.Cond.lays "BackdatedBookModel" "BackdatedBookModel" "count" "I") ∈ lw_all := lw_g (lw_at lw_m1 206 rfl) rfl
theorem q226 : (Jvm.Cond.soleField "BackdatedBookModel" "count") ∈ lw_all := lw_g (lw_at lw_m1 207 rfl) rfl
theorem q227 : (Jvm.Cond.lays "BackdatedBookModel" "BackdatedBookModel" "account" "[I") ∈ lw_all := lw_g (lw_at lw_m1 208 rfl) rfl
theorem q228 : (Jvm.Cond.soleField "BackdatedBookModel" "account") ∈ lw_all := lw_g (lw_at lw_m1 209 rfl) rfl
theorem q229 : (Jvm.Cond.lays "BackdatedBookModel" "BackdatedBookModel" "day" "[I") ∈ lw_all := lw_g (lw_at lw_m1 210 rfl) rfl
theorem q230 : (Jvm.Cond.soleField "BackdatedBookModel" "day") ∈ lw_all := lw_g (lw_at lw_m1 211 rfl) rfl
theorem q231 : (Jvm.Cond.lays "BackdatedBookModel" "BackdatedBookModel" "amount" "[I") ∈ lw_all := lw_g (lw_at lw_m1 212 rfl) rfl
theorem q232 : (Jvm.Cond.soleField "BackdatedBookModel" "amount") ∈ lw_all := lw_g (lw_at lw_m1 213 rfl) rfl
theorem q233 : (Jvm.Cond.lays "BackdatedBookModel" "BackdatedBookModel" "off" "[Z") ∈ lw_all := lw_g (lw_at lw_m1 214 rfl) rfl
theorem q234 : (Jvm.Cond.soleField "BackdatedBookModel" "off") ∈ lw_all := lw_g (lw_at lw_m1 215 rfl) rfl
theorem q235 : (Jvm.Cond.lays "BackdatedBookModel" "BackdatedBookModel" "floors" "[I") ∈ lw_all := lw_g (lw_at lw_m1 216 rfl) rfl
theorem q236 : (Jvm.Cond.soleField "BackdatedBookModel" "floors") ∈ lw_all := lw_g (lw_at lw_m1 217 rfl) rfl
theorem q237 : (Jvm.Cond.lays "BackdatedBookModel" "BackdatedBookModel" "batch" "Z") ∈ lw_all := lw_g (lw_at lw_m1 218 rfl) rfl
theorem q238 : (Jvm.Cond.soleField "BackdatedBookModel" "batch") ∈ lw_all := lw_g (lw_at lw_m1 219 rfl) rfl
theorem q239 : (Jvm.Cond.lays "BackdatedBookModel" "BackdatedBookModel" "countBefore" "I") ∈ lw_all := lw_g (lw_at lw_m1 220 rfl) rfl
theorem q240 : (Jvm.Cond.soleField "BackdatedBookModel" "countBefore") ∈ lw_all := lw_g (lw_at lw_m1 221 rfl) rfl
theorem q241 : (Jvm.Cond.lays "BackdatedBookModel" "BackdatedBookModel" "offBefore" "[Z") ∈ lw_all := lw_g (lw_at lw_m1 222 rfl) rfl
theorem q242 : (Jvm.Cond.soleField "BackdatedBookModel" "offBefore") ∈ lw_all := lw_g (lw_at lw_m1 223 rfl) rfl
theorem q243 : (Jvm.Cond.superclass "BackdatedBookModel" "java/lang/Object") ∈ lw_all := lw_g (lw_at lw_m1 224 rfl) rfl
theorem q245 : (Jvm.Cond.instanceMethod ({ cls := "BackdatedBookModel", name := "post", desc := "(III)I" } : Jvm.MethodName)) ∈ lw_all := lw_g (lw_at lw_m1 226 rfl) rfl
theorem q246 : (Jvm.Cond.selects "BackdatedBookModel" ({ cls := "BackdatedBookModel", name := "post", desc := "(III)I" } : Jvm.MethodName) ({ cls := "BackdatedBookModel", name := "post", desc := "(III)I" } : Jvm.MethodName)) ∈ lw_all := lw_g (lw_at lw_m1 227 rfl) rfl
theorem q247 : (Jvm.Cond.code ({ cls := "BackdatedBookModel", name := "post", desc := "(III)I" } : Jvm.MethodName) prog_3_method_9_code (4 : Nat) (Option.some Jvm.ClassFile.FieldType.int)) ∈ lw_all := lw_g (lw_at lw_m1 228 rfl) rfl
theorem q248 : (Jvm.Cond.methodLink "BackdatedBookModel" (41 : Nat) ({ cls := "BackdatedBookModel", name := "bad", desc := "(I)Z" } : Jvm.MethodName)) ∈ lw_all := lw_g (lw_at lw_m1 229 rfl) rfl
theorem q249 : (Jvm.Cond.privateMethod ({ cls := "BackdatedBookModel", name := "bad", desc := "(I)Z" } : Jvm.MethodName)) ∈ lw_tbl := lw_at lw_m1 230 rfl
theorem q250 : (Jvm.Cond.instanceMethod ({ cls := "BackdatedBookModel", name := "bad", desc := "(I)Z" } : Jvm.MethodName)) ∈ lw_all := lw_g (lw_at lw_m1 231 rfl) rfl
theorem q251 : (Jvm.Cond.code ({ cls := "BackdatedBookModel", name := "bad", desc := "(I)Z" } : Jvm.MethodName) prog_3_method_2_code (2 : Nat) (Option.some Jvm.ClassFile.FieldType.boolean)) ∈ lw_all := lw_g (lw_at lw_m1 232 rfl) rfl
theorem q252 : (Jvm.Cond.methodLink "BackdatedBookModel" (44 : Nat) ({ cls := "BackdatedBookModel", name := "badDay", desc := "(I)Z" } : Jvm.MethodName)) ∈ lw_all := lw_g (lw_at lw_m1 233 rfl) rfl
theorem q253 : (Jvm.Cond.privateMethod ({ cls := "BackdatedBookModel", name := "badDay", desc := "(I)Z" } : Jvm.MethodName)) ∈ lw_tbl := lw_at lw_m1 234 rfl
theorem q254 : (Jvm.Cond.instanceMethod ({ cls := "BackdatedBookModel", name := "badDay", desc := "(I)Z" } : Jvm.MethodName)) ∈ lw_all := lw_g (lw_at lw_m1 235 rfl) rfl
theorem q255 : (Jvm.Cond.code ({ cls := "BackdatedBookModel", name := "badDay", desc := "(I)Z" } : Jvm.MethodName) prog_3_method_3_code (2 : Nat) (Option.some Jvm.ClassFile.FieldType.boolean)) ∈ lw_all := lw_g (lw_at lw_m1 236 rfl) rfl
theorem q256 : (Jvm.Cond.methodLink "BackdatedBookModel" (47 : Nat) ({ cls := "BackdatedBookModel", name := "put", desc := "(III)V" } : Jvm.MethodName)) ∈ lw_all := lw_g (lw_at lw_m1 237 rfl) rfl
theorem q257 : (Jvm.Cond.privateMethod ({ cls := "BackdatedBookModel", name := "put", desc := "(III)V" } : Jvm.MethodName)) ∈ lw_tbl := lw_at lw_m1 238 rfl
theorem q258 : (Jvm.Cond.instanceMethod ({ cls := "BackdatedBookModel", name := "put", desc := "(III)V" } : Jvm.MethodName)) ∈ lw_all := lw_g (lw_at lw_m1 239 rfl) rfl
theorem q259 : (Jvm.Cond.code ({ cls := "BackdatedBookModel", name := "put", desc := "(III)V" } : Jvm.MethodName) prog_3_method_8_code (5 : Nat) (Option.none : Option Jvm.ClassFile.FieldType)) ∈ lw_all := lw_g (lw_at lw_m2 0 rfl) rfl
theorem q260 : (Jvm.Cond.methodLink "BackdatedBookModel" (55 : Nat) ({ cls := "BackdatedBookModel", name := "allSound", desc := "()Z" } : Jvm.MethodName)) ∈ lw_all := lw_g (lw_at lw_m2 1 rfl) rfl
theorem q261 : (Jvm.Cond.privateMethod ({ cls := "BackdatedBookModel", name := "allSound", desc := "()Z" } : Jvm.MethodName)) ∈ lw_tbl := lw_at lw_m2 2 rfl
theorem q262 : (Jvm.Cond.instanceMethod ({ cls := "BackdatedBookModel", name := "allSound", desc := "()Z" } : Jvm.MethodName)) ∈ lw_all := lw_g (lw_at lw_m2 3 rfl) rfl
theorem q263 : (Jvm.Cond.code ({ cls := "BackdatedBookModel", name := "allSound", desc := "()Z" } : Jvm.MethodName) prog_3_method_7_code (1 : Nat) (Option.some Jvm.ClassFile.FieldType.boolean)) ∈ lw_all := lw_g (lw_at lw_m2 4 rfl) rfl
theorem q264 : (Jvm.Cond.methodLink "BackdatedBookModel" (37 : Nat) ({ cls := "BackdatedBookModel", name := "holds", desc := "(I)Z" } : Jvm.MethodName)) ∈ lw_all := lw_g (lw_at lw_m2 5 rfl) rfl
theorem q265 : (Jvm.Cond.privateMethod ({ cls := "BackdatedBookModel", name := "holds", desc := "(I)Z" } : Jvm.MethodName)) ∈ lw_tbl := lw_at lw_m2 6 rfl
theorem q266 : (Jvm.Cond.instanceMethod ({ cls := "BackdatedBookModel", name := "holds", desc := "(I)Z" } : Jvm.MethodName)) ∈ lw_all := lw_g (lw_at lw_m2 7 rfl) rfl
theorem q267 : (Jvm.Cond.code ({ cls := "BackdatedBookModel", name := "holds", desc := "(I)Z" } : Jvm.MethodName) prog_3_method_6_code (3 : Nat) (Option.some Jvm.ClassFile.FieldType.boolean)) ∈ lw_all := lw_g (lw_at lw_m2 8 rfl) rfl
theorem q268 : (Jvm.Cond.methodLink "BackdatedBookModel" (33 : Nat) ({ cls := "BackdatedBookModel", name := "worth", desc := "(II)I" } : Jvm.MethodName)) ∈ lw_all := lw_g (lw_at lw_m2 9 rfl) rfl
theorem q269 : (Jvm.Cond.privateMethod ({ cls := "BackdatedBookModel", name := "worth", desc := "(II)I" } : Jvm.MethodName)) ∈ lw_tbl := lw_at lw_m2 10 rfl
theorem q270 : (Jvm.Cond.instanceMethod ({ cls := "BackdatedBookModel", name := "worth", desc := "(II)I" } : Jvm.MethodName)) ∈ lw_all := lw_g (lw_at lw_m2 11 rfl) rfl
theorem q271 : (Jvm.Cond.code ({ cls := "BackdatedBookModel", name := "worth", desc := "(II)I" } : Jvm.MethodName) prog_3_method_5_code (5 : Nat) (Option.some Jvm.ClassFile.FieldType.int)) ∈ lw_all := lw_g (lw_at lw_m2 12 rfl) rfl
theorem q273 : (Jvm.Cond.instanceMethod ({ cls := "BackdatedBookModel", name := "transfer", desc := "(III)I" } : Jvm.MethodName)) ∈ lw_all := lw_g (lw_at lw_m2 14 rfl) rfl
theorem q274 : (Jvm.Cond.selects "BackdatedBookModel" ({ cls := "BackdatedBookModel", name := "transfer", desc := "(III)I" } : Jvm.MethodName) ({ cls := "BackdatedBookModel", name := "transfer", desc := "(III)I" } : Jvm.MethodName)) ∈ lw_all := lw_g (lw_at lw_m2 15 rfl) rfl
theorem q275 : (Jvm.Cond.code ({ cls := "BackdatedBookModel", name := "transfer", desc := "(III)I" } : Jvm.MethodName) prog_3_method_10_code (4 : Nat) (Option.some Jvm.ClassFile.FieldType.int)) ∈ lw_all := lw_g (lw_at lw_m2 16 rfl) rfl
theorem q277 : (Jvm.Cond.instanceMethod ({ cls := "BackdatedBookModel", name := "cancel", desc := "(I)I" } : Jvm.MethodName)) ∈ lw_all := lw_g (lw_at lw_m2 18 rfl) rfl
theorem q278 : (Jvm.Cond.selects "BackdatedBookModel" ({ cls := "BackdatedBookModel", name := "cancel", desc := "(I)I" } : Jvm.MethodName) ({ cls := "BackdatedBookModel", name := "cancel", desc := "(I)I" } : Jvm.MethodName)) ∈ lw_all := lw_g (lw_at lw_m2 19 rfl) rfl
theorem q279 : (Jvm.Cond.code ({ cls := "BackdatedBookModel", name := "cancel", desc := "(I)I" } : Jvm.MethodName) prog_3_method_11_code (2 : Nat) (Option.some Jvm.ClassFile.FieldType.int)) ∈ lw_all := lw_g (lw_at lw_m2 20 rfl) rfl
theorem q280 : (Jvm.Cond.methodLink "BackdatedBookModel" (59 : Nat) ({ cls := "BackdatedBookModel", name := "badEntry", desc := "(I)Z" } : Jvm.MethodName)) ∈ lw_all := lw_g (lw_at lw_m2 21 rfl) rfl
theorem q281 : (Jvm.Cond.privateMethod ({ cls := "BackdatedBookModel", name := "badEntry", desc := "(I)Z" } : Jvm.MethodName)) ∈ lw_tbl := lw_at lw_m2 22 rfl
theorem q282 : (Jvm.Cond.instanceMethod ({ cls := "BackdatedBookModel", name := "badEntry", desc := "(I)Z" } : Jvm.MethodName)) ∈ lw_all := lw_g (lw_at lw_m2 23 rfl) rfl
theorem q283 : (Jvm.Cond.code ({ cls := "BackdatedBookModel", name := "badEntry", desc := "(I)Z" } : Jvm.MethodName) prog_3_method_4_code (2 : Nat) (Option.some Jvm.ClassFile.FieldType.boolean)) ∈ lw_all := lw_g (lw_at lw_m2 24 rfl) rfl
theorem q285 : (Jvm.Cond.instanceMethod ({ cls := "BackdatedBookModel", name := "floor", desc := "(II)I" } : Jvm.MethodName)) ∈ lw_all := lw_g (lw_at lw_m2 26 rfl) rfl
theorem q286 : (Jvm.Cond.selects "BackdatedBookModel" ({ cls := "BackdatedBookModel", name := "floor", desc := "(II)I" } : Jvm.MethodName) ({ cls := "BackdatedBookModel", name := "floor", desc := "(II)I" } : Jvm.MethodName)) ∈ lw_all := lw_g (lw_at lw_m2 27 rfl) rfl
theorem q287 : (Jvm.Cond.code ({ cls := "BackdatedBookModel", name := "floor", desc := "(II)I" } : Jvm.MethodName) prog_3_method_12_code (4 : Nat) (Option.some Jvm.ClassFile.FieldType.int)) ∈ lw_all := lw_g (lw_at lw_m2 28 rfl) rfl
theorem q289 : (Jvm.Cond.instanceMethod ({ cls := "BackdatedBookModel", name := "open", desc := "()I" } : Jvm.MethodName)) ∈ lw_all := lw_g (lw_at lw_m2 30 rfl) rfl
theorem q290 : (Jvm.Cond.selects "BackdatedBookModel" ({ cls := "BackdatedBookModel", name := "open", desc := "()I" } : Jvm.MethodName) ({ cls := "BackdatedBookModel", name := "open", desc := "()I" } : Jvm.MethodName)) ∈ lw_all := lw_g (lw_at lw_m2 31 rfl) rfl
theorem q291 : (Jvm.Cond.code ({ cls := "BackdatedBookModel", name := "open", desc := "()I" } : Jvm.MethodName) prog_3_method_13_code (2 : Nat) (Option.some Jvm.ClassFile.FieldType.int)) ∈ lw_all := lw_g (lw_at lw_m2 32 rfl) rfl
theorem q293 : (Jvm.Cond.instanceMethod ({ cls := "BackdatedBookModel", name := "close", desc := "()I" } : Jvm.MethodName)) ∈ lw_all := lw_g (lw_at lw_m2 34 rfl) rfl
theorem q294 : (Jvm.Cond.selects "BackdatedBookModel" ({ cls := "BackdatedBookModel", name := "close", desc := "()I" } : Jvm.MethodName) ({ cls := "BackdatedBookModel", name := "close", desc := "()I" } : Jvm.MethodName)) ∈ lw_all := lw_g (lw_at lw_m2 35 rfl) rfl
theorem q295 : (Jvm.Cond.code ({ cls := "BackdatedBookModel", name := "close", desc := "()I" } : Jvm.MethodName) prog_3_method_14_code (2 : Nat) (Option.some Jvm.ClassFile.FieldType.int)) ∈ lw_all := lw_g (lw_at lw_m2 36 rfl) rfl
theorem q297 : (Jvm.Cond.instanceMethod ({ cls := "BackdatedBookModel", name := "isOpen", desc := "()I" } : Jvm.MethodName)) ∈ lw_all := lw_g (lw_at lw_m2 38 rfl) rfl
theorem q298 : (Jvm.Cond.selects "BackdatedBookModel" ({ cls := "BackdatedBookModel", name := "isOpen", desc := "()I" } : Jvm.MethodName) ({ cls := "BackdatedBookModel", name := "isOpen", desc := "()I" } : Jvm.MethodName)) ∈ lw_all := lw_g (lw_at lw_m2 39 rfl) rfl
theorem q299 : (Jvm.Cond.code ({ cls := "BackdatedBookModel", name := "isOpen", desc := "()I" } : Jvm.MethodName) prog_3_method_15_code (1 : Nat) (Option.some Jvm.ClassFile.FieldType.int)) ∈ lw_all := lw_g (lw_at lw_m2 40 rfl) rfl
theorem q301 : (Jvm.Cond.instanceMethod ({ cls := "BackdatedBookModel", name := "entries", desc := "()I" } : Jvm.MethodName)) ∈ lw_all := lw_g (lw_at lw_m2 42 rfl) rfl
theorem q302 : (Jvm.Cond.selects "BackdatedBookModel" ({ cls := "BackdatedBookModel", name := "entries", desc := "()I" } : Jvm.MethodName) ({ cls := "BackdatedBookModel", name := "entries", desc := "()I" } : Jvm.MethodName)) ∈ lw_all := lw_g (lw_at lw_m2 43 rfl) rfl
theorem q303 : (Jvm.Cond.code ({ cls := "BackdatedBookModel", name := "entries", desc := "()I" } : Jvm.MethodName) prog_3_method_16_code (1 : Nat) (Option.some Jvm.ClassFile.FieldType.int)) ∈ lw_all := lw_g (lw_at lw_m2 44 rfl) rfl
theorem q305 : (Jvm.Cond.instanceMethod ({ cls := "BackdatedBookModel", name := "cancelled", desc := "(I)I" } : Jvm.MethodName)) ∈ lw_all := lw_g (lw_at lw_m2 46 rfl) rfl
theorem q306 : (Jvm.Cond.selects "BackdatedBookModel" ({ cls := "BackdatedBookModel", name := "cancelled", desc := "(I)I" } : Jvm.MethodName) ({ cls := "BackdatedBookModel", name := "cancelled", desc := "(I)I" } : Jvm.MethodName)) ∈ lw_all := lw_g (lw_at lw_m2 47 rfl) rfl
theorem q307 : (Jvm.Cond.code ({ cls := "BackdatedBookModel", name := "cancelled", desc := "(I)I" } : Jvm.MethodName) prog_3_method_17_code (2 : Nat) (Option.some Jvm.ClassFile.FieldType.int)) ∈ lw_all := lw_g (lw_at lw_m2 48 rfl) rfl
theorem q309 : (Jvm.Cond.instanceMethod ({ cls := "BackdatedBookModel", name := "amountOf", desc := "(I)I" } : Jvm.MethodName)) ∈ lw_all := lw_g (lw_at lw_m2 50 rfl) rfl
theorem q310 : (Jvm.Cond.selects "BackdatedBookModel" ({ cls := "BackdatedBookModel", name := "amountOf", desc := "(I)I" } : Jvm.MethodName) ({ cls := "BackdatedBookModel", name := "amountOf", desc := "(I)I" } : Jvm.MethodName)) ∈ lw_all := lw_g (lw_at lw_m2 51 rfl) rfl
theorem q311 : (Jvm.Cond.code ({ cls := "BackdatedBookModel", name := "amountOf", desc := "(I)I" } : Jvm.MethodName) prog_3_method_18_code (2 : Nat) (Option.some Jvm.ClassFile.FieldType.int)) ∈ lw_all := lw_g (lw_at lw_m2 52 rfl) rfl
theorem q313 : (Jvm.Cond.instanceMethod ({ cls := "BackdatedBookModel", name := "sound", desc := "()I" } : Jvm.MethodName)) ∈ lw_all := lw_g (lw_at lw_m2 54 rfl) rfl
theorem q314 : (Jvm.Cond.selects "BackdatedBookModel" ({ cls := "BackdatedBookModel", name := "sound", desc := "()I" } : Jvm.MethodName) ({ cls := "BackdatedBookModel", name := "sound", desc := "()I" } : Jvm.MethodName)) ∈ lw_all := lw_g (lw_at lw_m2 55 rfl) rfl
theorem q315 : (Jvm.Cond.code ({ cls := "BackdatedBookModel", name := "sound", desc := "()I" } : Jvm.MethodName) prog_3_method_19_code (1 : Nat) (Option.some Jvm.ClassFile.FieldType.int)) ∈ lw_all := lw_g (lw_at lw_m2 56 rfl) rfl
theorem q317 : (Jvm.Cond.instanceMethod ({ cls := "BackdatedBookModel", name := "balance", desc := "(II)I" } : Jvm.MethodName)) ∈ lw_all := lw_g (lw_at lw_m2 58 rfl) rfl
theorem q318 : (Jvm.Cond.selects "BackdatedBookModel" ({ cls := "BackdatedBookModel", name := "balance", desc := "(II)I" } : Jvm.MethodName) ({ cls := "BackdatedBookModel", name := "balance", desc := "(II)I" } : Jvm.MethodName)) ∈ lw_all := lw_g (lw_at lw_m2 59 rfl) rfl
theorem q319 : (Jvm.Cond.code ({ cls := "BackdatedBookModel", name := "balance", desc := "(II)I" } : Jvm.MethodName) prog_3_method_20_code (3 : Nat) (Option.some Jvm.ClassFile.FieldType.int)) ∈ lw_all := lw_g (lw_at lw_m2 60 rfl) rfl
theorem q320 : (Jvm.Cond.constant "BackdatedBookModel" (65 : Nat) (-1000000 : Int32)) ∈ lw_all := lw_g (lw_at lw_m2 61 rfl) rfl
theorem q322 : (Jvm.Cond.instanceMethod ({ cls := "BackdatedBookModel", name := "lowest", desc := "(III)I" } : Jvm.MethodName)) ∈ lw_all := lw_g (lw_at lw_m2 63 rfl) rfl
theorem q323 : (Jvm.Cond.selects "BackdatedBookModel" ({ cls := "BackdatedBookModel", name := "lowest", desc := "(III)I" } : Jvm.MethodName) ({ cls := "BackdatedBookModel", name := "lowest", desc := "(III)I" } : Jvm.MethodName)) ∈ lw_all := lw_g (lw_at lw_m2 64 rfl) rfl
theorem q324 : (Jvm.Cond.code ({ cls := "BackdatedBookModel", name := "lowest", desc := "(III)I" } : Jvm.MethodName) prog_3_method_22_code (7 : Nat) (Option.some Jvm.ClassFile.FieldType.int)) ∈ lw_all := lw_g (lw_at lw_m2 65 rfl) rfl
theorem q325 : (Jvm.Cond.methodLink "BackdatedBookModel" (66 : Nat) ({ cls := "BackdatedBookModel", name := "badStretch", desc := "(II)Z" } : Jvm.MethodName)) ∈ lw_all := lw_g (lw_at lw_m2 66 rfl) rfl
theorem q326 : (Jvm.Cond.privateMethod ({ cls := "BackdatedBookModel", name := "badStretch", desc := "(II)Z" } : Jvm.MethodName)) ∈ lw_tbl := lw_at lw_m2 67 rfl
theorem q327 : (Jvm.Cond.instanceMethod ({ cls := "BackdatedBookModel", name := "badStretch", desc := "(II)Z" } : Jvm.MethodName)) ∈ lw_all := lw_g (lw_at lw_m2 68 rfl) rfl
theorem q328 : (Jvm.Cond.code ({ cls := "BackdatedBookModel", name := "badStretch", desc := "(II)Z" } : Jvm.MethodName) prog_3_method_21_code (3 : Nat) (Option.some Jvm.ClassFile.FieldType.boolean)) ∈ lw_all := lw_g (lw_at lw_m2 69 rfl) rfl
theorem q329 : (Jvm.Cond.constant "BackdatedBookModel" (70 : Nat) (-2000000 : Int32)) ∈ lw_all := lw_g (lw_at lw_m2 70 rfl) rfl
theorem q331 : (Jvm.Cond.instanceMethod ({ cls := "BackdatedBookModel", name := "total", desc := "(III)I" } : Jvm.MethodName)) ∈ lw_all := lw_g (lw_at lw_m2 72 rfl) rfl
theorem q332 : (Jvm.Cond.selects "BackdatedBookModel" ({ cls := "BackdatedBookModel", name := "total", desc := "(III)I" } : Jvm.MethodName) ({ cls := "BackdatedBookModel", name := "total", desc := "(III)I" } : Jvm.MethodName)) ∈ lw_all := lw_g (lw_at lw_m2 73 rfl) rfl
theorem q333 : (Jvm.Cond.code ({ cls := "BackdatedBookModel", name := "total", desc := "(III)I" } : Jvm.MethodName) prog_3_method_23_code (6 : Nat) (Option.some Jvm.ClassFile.FieldType.int)) ∈ lw_all := lw_g (lw_at lw_m2 74 rfl) rfl
theorem q334 : (Jvm.Cond.constant "BackdatedBookModel" (71 : Nat) (-2000000000 : Int32)) ∈ lw_all := lw_g (lw_at lw_m2 75 rfl) rfl
theorem q336 : (Jvm.Cond.instanceMethod ({ cls := "BackdatedBookModel", name := "firstBelow", desc := "(III)I" } : Jvm.MethodName)) ∈ lw_all := lw_g (lw_at lw_m2 77 rfl) rfl
theorem q337 : (Jvm.Cond.selects "BackdatedBookModel" ({ cls := "BackdatedBookModel", name := "firstBelow", desc := "(III)I" } : Jvm.MethodName) ({ cls := "BackdatedBookModel", name := "firstBelow", desc := "(III)I" } : Jvm.MethodName)) ∈ lw_all := lw_g (lw_at lw_m2 78 rfl) rfl
theorem q338 : (Jvm.Cond.code ({ cls := "BackdatedBookModel", name := "firstBelow", desc := "(III)I" } : Jvm.MethodName) prog_3_method_24_code (5 : Nat) (Option.some Jvm.ClassFile.FieldType.int)) ∈ lw_all := lw_g (lw_at lw_m2 79 rfl) rfl
theorem q340 : (Jvm.Cond.instanceMethod ({ cls := "BackdatedBookModel", name := "free", desc := "(II)I" } : Jvm.MethodName)) ∈ lw_all := lw_g (lw_at lw_m2 81 rfl) rfl
theorem q341 : (Jvm.Cond.selects "BackdatedBookModel" ({ cls := "BackdatedBookModel", name := "free", desc := "(II)I" } : Jvm.MethodName) ({ cls := "BackdatedBookModel", name := "free", desc := "(II)I" } : Jvm.MethodName)) ∈ lw_all := lw_g (lw_at lw_m2 82 rfl) rfl
theorem q342 : (Jvm.Cond.code ({ cls := "BackdatedBookModel", name := "free", desc := "(II)I" } : Jvm.MethodName) prog_3_method_26_code (3 : Nat) (Option.some Jvm.ClassFile.FieldType.int)) ∈ lw_all := lw_g (lw_at lw_m2 83 rfl) rfl
theorem q343 : (Jvm.Cond.methodLink "BackdatedBookModel" (72 : Nat) ({ cls := "BackdatedBookModel", name := "spare", desc := "(II)I" } : Jvm.MethodName)) ∈ lw_all := lw_g (lw_at lw_m2 84 rfl) rfl
theorem q344 : (Jvm.Cond.privateMethod ({ cls := "BackdatedBookModel", name := "spare", desc := "(II)I" } : Jvm.MethodName)) ∈ lw_tbl := lw_at lw_m2 85 rfl
theorem q345 : (Jvm.Cond.instanceMethod ({ cls := "BackdatedBookModel", name := "spare", desc := "(II)I" } : Jvm.MethodName)) ∈ lw_all := lw_g (lw_at lw_m2 86 rfl) rfl
theorem q346 : (Jvm.Cond.code ({ cls := "BackdatedBookModel", name := "spare", desc := "(II)I" } : Jvm.MethodName) prog_3_method_25_code (6 : Nat) (Option.some Jvm.ClassFile.FieldType.int)) ∈ lw_all := lw_g (lw_at lw_m2 87 rfl) rfl
theorem q348 : (Jvm.Cond.instanceMethod ({ cls := "BackdatedBookModel", name := "firstFree", desc := "(II)I" } : Jvm.MethodName)) ∈ lw_all := lw_g (lw_at lw_m2 89 rfl) rfl
theorem q349 : (Jvm.Cond.selects "BackdatedBookModel" ({ cls := "BackdatedBookModel", name := "firstFree", desc := "(II)I" } : Jvm.MethodName) ({ cls := "BackdatedBookModel", name := "firstFree", desc := "(II)I" } : Jvm.MethodName)) ∈ lw_all := lw_g (lw_at lw_m2 90 rfl) rfl
theorem q350 : (Jvm.Cond.code ({ cls := "BackdatedBookModel", name := "firstFree", desc := "(II)I" } : Jvm.MethodName) prog_3_method_27_code (4 : Nat) (Option.some Jvm.ClassFile.FieldType.int)) ∈ lw_all := lw_g (lw_at lw_m2 91 rfl) rfl
theorem q351 : (Jvm.Cond.constant "BackdatedBookModel" (75 : Nat) (1000000 : Int32)) ∈ lw_all := lw_g (lw_at lw_m2 92 rfl) rfl
theorem q353 : (Jvm.Cond.instanceMethod ({ cls := "BackdatedBookModel", name := "daysBelow", desc := "(II)I" } : Jvm.MethodName)) ∈ lw_all := lw_g (lw_at lw_m2 94 rfl) rfl
theorem q354 : (Jvm.Cond.selects "BackdatedBookModel" ({ cls := "BackdatedBookModel", name := "daysBelow", desc := "(II)I" } : Jvm.MethodName) ({ cls := "BackdatedBookModel", name := "daysBelow", desc := "(II)I" } : Jvm.MethodName)) ∈ lw_all := lw_g (lw_at lw_m2 95 rfl) rfl
theorem q355 : (Jvm.Cond.code ({ cls := "BackdatedBookModel", name := "daysBelow", desc := "(II)I" } : Jvm.MethodName) prog_3_method_28_code (5 : Nat) (Option.some Jvm.ClassFile.FieldType.int)) ∈ lw_all := lw_g (lw_at lw_m2 96 rfl) rfl
theorem in_X1 : ∀ w ∈ wsX10, w ∈ lw_all := lw_in wsX10 [225, 227, 229, 231, 233, 235, 237, 239, 241] (by decide +kernel) (by decide +kernel)
end
section
set_option maxRecDepth 100000
/-! java/lang/Object -/
def RJ0 : String := "java/lang/Object"
abbrev cJ0_init : ByteArray := object_method_1_code
def yJ0_init : MethodName := ⟨RJ0, "<init>", "()V"⟩
theorem dJ0_init_0 : decode cJ0_init 0 = .ok (.return_, 1) := by decide +kernel
theorem q28 : (Jvm.Cond.instanceMethod ({ cls := "java/lang/Object", name := "<init>", desc := "()V" } : Jvm.MethodName)) ∈ lw_all := lw_g (lw_at lw_m1 9 rfl) rfl
theorem q29 : (Jvm.Cond.code ({ cls := "java/lang/Object", name := "<init>", desc := "()V" } : Jvm.MethodName) object_method_1_code (1 : Nat) (Option.none : Option Jvm.ClassFile.FieldType)) ∈ lw_all := lw_g (lw_at lw_m1 10 rfl) rfl

theorem q79 : (Jvm.Cond.arrayClass Jvm.ClassFile.FieldType.int) ∈ lw_all := lw_g (lw_at lw_m1 60 rfl) rfl
theorem q80 : (Jvm.Cond.arrayClass Jvm.ClassFile.FieldType.boolean) ∈ lw_all := lw_g (lw_at lw_m1 61 rfl) rfl

theorem q19 : (Jvm.Cond.initialized "BackdatedBookLaw") ∈ lw_all := lw_g (lw_at lw_m1 0 rfl) rfl
theorem q22 : (Jvm.Cond.classLink "BackdatedBookLaw" (7 : Nat) "BackdatedBook") ∈ lw_all := lw_g (lw_at lw_m1 3 rfl) rfl
theorem q24 : (Jvm.Cond.methodLink "BackdatedBookLaw" (9 : Nat) ({ cls := "BackdatedBook", name := "<init>", desc := "()V" } : Jvm.MethodName)) ∈ lw_all := lw_g (lw_at lw_m1 5 rfl) rfl
theorem q81 : (Jvm.Cond.methodLink "BackdatedBookLaw" (13 : Nat) ({ cls := "BackdatedBook", name := "post", desc := "(III)I" } : Jvm.MethodName)) ∈ lw_all := lw_g (lw_at lw_m1 62 rfl) rfl
theorem q115 : (Jvm.Cond.methodLink "BackdatedBookLaw" (18 : Nat) ({ cls := "BackdatedBook", name := "transfer", desc := "(III)I" } : Jvm.MethodName)) ∈ lw_all := lw_g (lw_at lw_m1 96 rfl) rfl
theorem q119 : (Jvm.Cond.methodLink "BackdatedBookLaw" (22 : Nat) ({ cls := "BackdatedBook", name := "cancel", desc := "(I)I" } : Jvm.MethodName)) ∈ lw_all := lw_g (lw_at lw_m1 100 rfl) rfl
theorem q127 : (Jvm.Cond.methodLink "BackdatedBookLaw" (27 : Nat) ({ cls := "BackdatedBook", name := "floor", desc := "(II)I" } : Jvm.MethodName)) ∈ lw_all := lw_g (lw_at lw_m1 108 rfl) rfl
theorem q131 : (Jvm.Cond.methodLink "BackdatedBookLaw" (32 : Nat) ({ cls := "BackdatedBook", name := "open", desc := "()I" } : Jvm.MethodName)) ∈ lw_all := lw_g (lw_at lw_m1 112 rfl) rfl
theorem q135 : (Jvm.Cond.methodLink "BackdatedBookLaw" (37 : Nat) ({ cls := "BackdatedBook", name := "close", desc := "()I" } : Jvm.MethodName)) ∈ lw_all := lw_g (lw_at lw_m1 116 rfl) rfl
theorem q143 : (Jvm.Cond.methodLink "BackdatedBookLaw" (41 : Nat) ({ cls := "BackdatedBook", name := "isOpen", desc := "()I" } : Jvm.MethodName)) ∈ lw_all := lw_g (lw_at lw_m1 124 rfl) rfl
theorem q147 : (Jvm.Cond.methodLink "BackdatedBookLaw" (45 : Nat) ({ cls := "BackdatedBook", name := "entries", desc := "()I" } : Jvm.MethodName)) ∈ lw_all := lw_g (lw_at lw_m1 128 rfl) rfl
theorem q151 : (Jvm.Cond.methodLink "BackdatedBookLaw" (49 : Nat) ({ cls := "BackdatedBook", name := "cancelled", desc := "(I)I" } : Jvm.MethodName)) ∈ lw_all := lw_g (lw_at lw_m1 132 rfl) rfl
theorem q155 : (Jvm.Cond.methodLink "BackdatedBookLaw" (53 : Nat) ({ cls := "BackdatedBook", name := "amountOf", desc := "(I)I" } : Jvm.MethodName)) ∈ lw_all := lw_g (lw_at lw_m1 136 rfl) rfl
theorem q159 : (Jvm.Cond.methodLink "BackdatedBookLaw" (57 : Nat) ({ cls := "BackdatedBook", name := "sound", desc := "()I" } : Jvm.MethodName)) ∈ lw_all := lw_g (lw_at lw_m1 140 rfl) rfl
theorem q163 : (Jvm.Cond.methodLink "BackdatedBookLaw" (61 : Nat) ({ cls := "BackdatedBook", name := "balance", desc := "(II)I" } : Jvm.MethodName)) ∈ lw_all := lw_g (lw_at lw_m1 144 rfl) rfl
theorem q168 : (Jvm.Cond.methodLink "BackdatedBookLaw" (65 : Nat) ({ cls := "BackdatedBook", name := "lowest", desc := "(III)I" } : Jvm.MethodName)) ∈ lw_all := lw_g (lw_at lw_m1 149 rfl) rfl
theorem q176 : (Jvm.Cond.methodLink "BackdatedBookLaw" (69 : Nat) ({ cls := "BackdatedBook", name := "total", desc := "(III)I" } : Jvm.MethodName)) ∈ lw_all := lw_g (lw_at lw_m1 157 rfl) rfl
theorem q181 : (Jvm.Cond.methodLink "BackdatedBookLaw" (73 : Nat) ({ cls := "BackdatedBook", name := "firstBelow", desc := "(III)I" } : Jvm.MethodName)) ∈ lw_all := lw_g (lw_at lw_m1 162 rfl) rfl
theorem q193 : (Jvm.Cond.methodLink "BackdatedBookLaw" (77 : Nat) ({ cls := "BackdatedBook", name := "free", desc := "(II)I" } : Jvm.MethodName)) ∈ lw_all := lw_g (lw_at lw_m1 174 rfl) rfl
theorem q197 : (Jvm.Cond.methodLink "BackdatedBookLaw" (81 : Nat) ({ cls := "BackdatedBook", name := "firstFree", desc := "(II)I" } : Jvm.MethodName)) ∈ lw_all := lw_g (lw_at lw_m1 178 rfl) rfl
theorem q206 : (Jvm.Cond.methodLink "BackdatedBookLaw" (85 : Nat) ({ cls := "BackdatedBook", name := "daysBelow", desc := "(II)I" } : Jvm.MethodName)) ∈ lw_all := lw_g (lw_at lw_m1 187 rfl) rfl
theorem q210 : (Jvm.Cond.classLink "BackdatedBookLaw" (10 : Nat) "BackdatedBookModel") ∈ lw_all := lw_g (lw_at lw_m1 191 rfl) rfl
theorem q212 : (Jvm.Cond.methodLink "BackdatedBookLaw" (12 : Nat) ({ cls := "BackdatedBookModel", name := "<init>", desc := "()V" } : Jvm.MethodName)) ∈ lw_all := lw_g (lw_at lw_m1 193 rfl) rfl
theorem q244 : (Jvm.Cond.methodLink "BackdatedBookLaw" (17 : Nat) ({ cls := "BackdatedBookModel", name := "post", desc := "(III)I" } : Jvm.MethodName)) ∈ lw_all := lw_g (lw_at lw_m1 225 rfl) rfl
theorem q272 : (Jvm.Cond.methodLink "BackdatedBookLaw" (21 : Nat) ({ cls := "BackdatedBookModel", name := "transfer", desc := "(III)I" } : Jvm.MethodName)) ∈ lw_all := lw_g (lw_at lw_m2 13 rfl) rfl
theorem q276 : (Jvm.Cond.methodLink "BackdatedBookLaw" (26 : Nat) ({ cls := "BackdatedBookModel", name := "cancel", desc := "(I)I" } : Jvm.MethodName)) ∈ lw_all := lw_g (lw_at lw_m2 17 rfl) rfl
theorem q284 : (Jvm.Cond.methodLink "BackdatedBookLaw" (31 : Nat) ({ cls := "BackdatedBookModel", name := "floor", desc := "(II)I" } : Jvm.MethodName)) ∈ lw_all := lw_g (lw_at lw_m2 25 rfl) rfl
theorem q288 : (Jvm.Cond.methodLink "BackdatedBookLaw" (36 : Nat) ({ cls := "BackdatedBookModel", name := "open", desc := "()I" } : Jvm.MethodName)) ∈ lw_all := lw_g (lw_at lw_m2 29 rfl) rfl
theorem q292 : (Jvm.Cond.methodLink "BackdatedBookLaw" (40 : Nat) ({ cls := "BackdatedBookModel", name := "close", desc := "()I" } : Jvm.MethodName)) ∈ lw_all := lw_g (lw_at lw_m2 33 rfl) rfl
theorem q296 : (Jvm.Cond.methodLink "BackdatedBookLaw" (44 : Nat) ({ cls := "BackdatedBookModel", name := "isOpen", desc := "()I" } : Jvm.MethodName)) ∈ lw_all := lw_g (lw_at lw_m2 37 rfl) rfl
theorem q300 : (Jvm.Cond.methodLink "BackdatedBookLaw" (48 : Nat) ({ cls := "BackdatedBookModel", name := "entries", desc := "()I" } : Jvm.MethodName)) ∈ lw_all := lw_g (lw_at lw_m2 41 rfl) rfl
theorem q304 : (Jvm.Cond.methodLink "BackdatedBookLaw" (52 : Nat) ({ cls := "BackdatedBookModel", name := "cancelled", desc := "(I)I" } : Jvm.MethodName)) ∈ lw_all := lw_g (lw_at lw_m2 45 rfl) rfl
theorem q308 : (Jvm.Cond.methodLink "BackdatedBookLaw" (56 : Nat) ({ cls := "BackdatedBookModel", name := "amountOf", desc := "(I)I" } : Jvm.MethodName)) ∈ lw_all := lw_g (lw_at lw_m2 49 rfl) rfl
theorem q312 : (Jvm.Cond.methodLink "BackdatedBookLaw" (60 : Nat) ({ cls := "BackdatedBookModel", name := "sound", desc := "()I" } : Jvm.MethodName)) ∈ lw_all := lw_g (lw_at lw_m2 53 rfl) rfl
theorem q316 : (Jvm.Cond.methodLink "BackdatedBookLaw" (64 : Nat) ({ cls := "BackdatedBookModel", name := "balance", desc := "(II)I" } : Jvm.MethodName)) ∈ lw_all := lw_g (lw_at lw_m2 57 rfl) rfl
theorem q321 : (Jvm.Cond.methodLink "BackdatedBookLaw" (68 : Nat) ({ cls := "BackdatedBookModel", name := "lowest", desc := "(III)I" } : Jvm.MethodName)) ∈ lw_all := lw_g (lw_at lw_m2 62 rfl) rfl
theorem q330 : (Jvm.Cond.methodLink "BackdatedBookLaw" (72 : Nat) ({ cls := "BackdatedBookModel", name := "total", desc := "(III)I" } : Jvm.MethodName)) ∈ lw_all := lw_g (lw_at lw_m2 71 rfl) rfl
theorem q335 : (Jvm.Cond.methodLink "BackdatedBookLaw" (76 : Nat) ({ cls := "BackdatedBookModel", name := "firstBelow", desc := "(III)I" } : Jvm.MethodName)) ∈ lw_all := lw_g (lw_at lw_m2 76 rfl) rfl
theorem q339 : (Jvm.Cond.methodLink "BackdatedBookLaw" (80 : Nat) ({ cls := "BackdatedBookModel", name := "free", desc := "(II)I" } : Jvm.MethodName)) ∈ lw_all := lw_g (lw_at lw_m2 80 rfl) rfl
theorem q347 : (Jvm.Cond.methodLink "BackdatedBookLaw" (84 : Nat) ({ cls := "BackdatedBookModel", name := "firstFree", desc := "(II)I" } : Jvm.MethodName)) ∈ lw_all := lw_g (lw_at lw_m2 88 rfl) rfl
theorem q352 : (Jvm.Cond.methodLink "BackdatedBookLaw" (88 : Nat) ({ cls := "BackdatedBookModel", name := "daysBelow", desc := "(II)I" } : Jvm.MethodName)) ∈ lw_all := lw_g (lw_at lw_m2 93 rfl) rfl
end
section
/-! NUMBERS: an Int32 by its Int; rows of the int instructions over it -/
def zi (z : Int) : Int32 := Int32.ofInt z
theorem zi_self (x : Int32) : zi x.toInt = x := Int32.ofInt_toInt x
theorem zi_rg (x : Int32) : -2147483648 ≤ x.toInt ∧ x.toInt ≤ 2147483647 := by
  have h1 := x.le_toInt
  have h2 := x.toInt_lt
  omega
theorem zi_toInt {z : Int} (h : -2147483648 ≤ z ∧ z ≤ 2147483647) : (zi z).toInt = z := Int32.toInt_ofInt_of_le (by omega) (by omega)
theorem zi_nat (n : Nat) : zi (n : Int) = nI n := Int32.ofInt_eq_ofNat
theorem zi_add (a b : Int) : zi a + zi b = zi (a + b) := (Int32.ofInt_add a b).symm
theorem zi_sub (a b : Int) : zi a - zi b = zi (a - b) := (Int32.ofInt_sub a b).symm
theorem zi_mul (a b : Int) : zi a * zi b = zi (a * b) := (Int32.ofInt_mul a b).symm
theorem zi_neg (a : Int) : -zi a = zi (-a) := (Int32.ofInt_neg a).symm
theorem zi_0 : zi 0 = 0 := by decide
theorem zi_1 : zi 1 = 1 := by decide
theorem zi_lt {a b : Int} (ha : -2147483648 ≤ a ∧ a ≤ 2147483647) (hb : -2147483648 ≤ b ∧ b ≤ 2147483647) : zi a < zi b ↔ a < b := by
  rw [Int32.lt_iff_toInt_lt, zi_toInt ha, zi_toInt hb]
theorem zi_le {a b : Int} (ha : -2147483648 ≤ a ∧ a ≤ 2147483647) (hb : -2147483648 ≤ b ∧ b ≤ 2147483647) : zi a ≤ zi b ↔ a ≤ b := by
  rw [Int32.le_iff_toInt_le, zi_toInt ha, zi_toInt hb]
theorem zi_eq {a b : Int} (ha : -2147483648 ≤ a ∧ a ≤ 2147483647) (hb : -2147483648 ≤ b ∧ b ≤ 2147483647) : zi a = zi b ↔ a = b := by
  constructor
  · intro h
    rw [← zi_toInt ha, ← zi_toInt hb, h]
  · intro h
    rw [h]
theorem zi_tn (x : Int) : (zi x).toBitVec.toNat = (x % 4294967296).toNat := by
  show (BitVec.ofInt 32 x).toNat = _
  rw [BitVec.toNat_ofInt]
  rfl
theorem zi_sm : ∀ n : Nat, n < 32 → ((nI n &&& 31).toBitVec.smod 32).toNat = n := by decide +kernel
theorem zi_shl (x : Int) {h : Nat} (hh : h < 32) : zi x <<< (zi (h : Int) &&& 31) = zi (x * 2 ^ h) := by
  apply Int32.toBitVec_inj.mp
  apply BitVec.eq_of_toNat_eq
  rw [zi_nat, pk_shl _ _ h (zi_sm h hh), zi_tn, zi_tn]
  have e1 : (((x % 4294967296).toNat * 2 ^ h % 2 ^ 32 : Nat) : Int) = x * 2 ^ h % 4294967296 := by
    have h0 : 0 ≤ x % 4294967296 := by omega
    rw [Int.natCast_emod, Int.natCast_mul, Int.toNat_of_nonneg h0, Int.natCast_pow]
    show x % 4294967296 * 2 ^ h % 4294967296 = _
    rw [Int.mul_emod, Int.emod_emod_of_dvd _ (Int.dvd_refl _), ← Int.mul_emod]
  omega
theorem zi_shr {x : Int} (hx : -2147483648 ≤ x ∧ x ≤ 2147483647) {h : Nat} (hh : h < 32) : zi x >>> (zi (h : Int) &&& 31) = zi (x / 2 ^ h) := by
  apply Int32.toInt_inj.mp
  have hd : (0 : Int) < 2 ^ h := Int.pow_pos (by decide)
  have hb : -2147483648 ≤ x / 2 ^ h ∧ x / 2 ^ h ≤ 2147483647 := by
    refine ⟨Int.le_ediv_of_mul_le hd ?_, ?_⟩
    · have h1 : (1 : Int) ≤ 2 ^ h := hd
      have h2 : (2147483648 : Int) * 1 ≤ 2147483648 * 2 ^ h := Int.mul_le_mul_of_nonneg_left h1 (by decide)
      have h3 : (-2147483648 : Int) * 2 ^ h = -(2147483648 * 2 ^ h) := Int.neg_mul _ _
      omega
    · rcases Int.lt_or_le x 0 with q | q
      · have := Int.ediv_neg_of_neg_of_pos q hd
        omega
      · have h1 := Int.ediv_le_self (2 ^ h) q
        omega
  rw [zi_nat, pk_shr _ _ h (zi_sm h hh), zi_toInt hx, zi_toInt hb, Int.shiftRight_eq_div_pow]
  congr 1
theorem zi_and1 (x : Int) : zi x &&& zi 1 = zi (x % 2) := by
  rw [pk_and (zi x) (m := zi 1) 1 (by decide), zi_tn, ← zi_nat]
  congr 1
  omega
theorem zi_and3 (x : Int) : zi x &&& zi 3 = zi (x % 4) := by
  rw [pk_and (zi x) (m := zi 3) 2 (by decide), zi_tn, ← zi_nat]
  congr 1
  omega
theorem zi_and31 (x : Int) : zi x &&& zi 31 = zi (x % 32) := by
  rw [pk_and (zi x) (m := zi 31) 5 (by decide), zi_tn, ← zi_nat]
  congr 1
  omega
theorem zi_div {x d : Int} (hx : 0 ≤ x ∧ x ≤ 2147483647) (hd : 0 < d ∧ d ≤ 2147483647) : zi x / zi d = zi (x / d) := by
  apply Int32.toInt_inj.mp
  have h1 := Int.ediv_le_self d hx.1
  have h2 := Int.ediv_nonneg hx.1 (Int.le_of_lt hd.1)
  rw [lg_idiv_nonneg (by rw [zi_toInt (by omega)]; exact hx.1) (by rw [zi_toInt (by omega)]; exact hd.1), zi_toInt (by omega), zi_toInt (by omega), zi_toInt (by omega)]
theorem zi_rem {x d : Int} (hx : 0 ≤ x ∧ x ≤ 2147483647) (hd : 0 < d ∧ d ≤ 2147483647) : zi x - zi x / zi d * zi d = zi (x % d) := by
  rw [zi_div hx hd, zi_mul, zi_sub]
  congr 1
  have := Int.mul_ediv_add_emod x d
  rw [Int.mul_comm d] at this
  omega
theorem zi_clamp {z : Int} (h : 0 ≤ z ∧ z ≤ 2147483647) : (zi z).toNatClampNeg = z.toNat := by
  rw [← Int32.toNat_toInt, zi_toInt (by omega)]
theorem zi_in {z : Int} {n : Nat} (h : 0 ≤ z ∧ z < n) (hn : n ≤ 2147483647) : vp_in (zi z) n := by
  rw [vp_in_iff, zi_toInt (by omega)]
  exact h
/-- an array's contents by a function of Int -/
def zc (g : Int → Int) : Nat → Int32 := fun j => zi (g (j : Int))
def up (g : Int → Int) (k x : Int) : Int → Int := fun j => if j = k then x else g j
theorem up_s (g : Int → Int) (k x : Int) : up g k x k = x := by simp [up]
theorem up_n (g : Int → Int) {k j : Int} (x : Int) (h : j ≠ k) : up g k x j = g j := by simp [up, h]
theorem zc_upd (g : Int → Int) {k : Int} (x : Int) (h : 0 ≤ k) : upd (zc g) k.toNat (zi x) = zc (up g k x) := by
  funext j
  show (if j = k.toNat then zi x else zi (g j)) = zi (if (j : Int) = k then x else g j)
  by_cases hj : j = k.toNat
  · rw [if_pos hj, if_pos (by omega)]
  · rw [if_neg hj, if_neg (by omega)]
section ZR
variable {p : Program} {l : Launch} {e : Env} {R : Room} {s : State} {m : MethodId} {args : Array Value} {below : List Frame} {meth : Method} {c : Code} {H : Heap} {locs : List Loc} {cells slots : Nat} {Q : State → Prop}
variable {cc : ByteArray} {pc : Nat} {ls : Array Slot} {rest : List Value}
theorem zr_iconst (hx : p.tables.exec = Jvm.exec) (hb : c.code = cc) {n : Int} (hdg : decode cc pc = .ok (.iconst n, 1)) (k : W p l e R s m args below meth c H locs cells slots Q (F0 m (pc + 1) ls (.int (zi n) :: rest))) : W p l e R s m args below meth c H locs cells slots Q (F0 m pc ls rest) := lv_iconst hx hb hdg rfl k
theorem zr_bipush (hx : p.tables.exec = Jvm.exec) (hb : c.code = cc) {n : Int} (hdg : decode cc pc = .ok (.bipush n, 2)) (hv : (Int8.ofInt n).toInt32 = zi n) (k : W p l e R s m args below meth c H locs cells slots Q (F0 m (pc + 2) ls (.int (zi n) :: rest))) : W p l e R s m args below meth c H locs cells slots Q (F0 m pc ls rest) := lv_bipush hx hb hdg hv k
theorem zr_sipush (hx : p.tables.exec = Jvm.exec) (hb : c.code = cc) {n : Int} (hdg : decode cc pc = .ok (.sipush n, 3)) (hv : (Int16.ofInt n).toInt32 = zi n) (k : W p l e R s m args below meth c H locs cells slots Q (F0 m (pc + 3) ls (.int (zi n) :: rest))) : W p l e R s m args below meth c H locs cells slots Q (F0 m pc ls rest) := lv_sipush hx hb hdg hv k
theorem zr_ldc (hx : p.tables.exec = Jvm.exec) (hb : c.code = cc) {own : String} {index : Nat} {v : Int32} (n : Int) (hown : s.vm.findClass own = some m.cls) (hconst : (Jvm.Cond.constant own index v).before args s = true) (hv : v = zi n) (hdg : decode cc pc = .ok (.ldc index, 2)) (k : W p l e R s m args below meth c H locs cells slots Q (F0 m (pc + 2) ls (.int (zi n) :: rest))) : W p l e R s m args below meth c H locs cells slots Q (F0 m pc ls rest) := by
  subst hv
  exact lv_ldc hx hb hown hconst hdg k
/-- another form of the number on top -/
theorem zr_top {x : Int} (y : Int) (h : x = y) (k : W p l e R s m args below meth c H locs cells slots Q (F0 m pc ls (.int (zi y) :: rest))) : W p l e R s m args below meth c H locs cells slots Q (F0 m pc ls (.int (zi x) :: rest)) := by
  subst h
  exact k
theorem zr_iadd (hx : p.tables.exec = Jvm.exec) (hb : c.code = cc) {x y : Int} (hdg : decode cc pc = .ok (.iadd, 1)) (k : W p l e R s m args below meth c H locs cells slots Q (F0 m (pc + 1) ls (.int (zi (x + y)) :: rest))) : W p l e R s m args below meth c H locs cells slots Q (F0 m pc ls (.int (zi y) :: .int (zi x) :: rest)) := by
  refine lv_iadd hx hb hdg ?_
  rw [zi_add]
  exact k
theorem zr_isub (hx : p.tables.exec = Jvm.exec) (hb : c.code = cc) {x y : Int} (hdg : decode cc pc = .ok (.isub, 1)) (k : W p l e R s m args below meth c H locs cells slots Q (F0 m (pc + 1) ls (.int (zi (x - y)) :: rest))) : W p l e R s m args below meth c H locs cells slots Q (F0 m pc ls (.int (zi y) :: .int (zi x) :: rest)) := by
  refine lv_isub hx hb hdg ?_
  rw [zi_sub]
  exact k
theorem zr_imul (hx : p.tables.exec = Jvm.exec) (hb : c.code = cc) {x y : Int} (hdg : decode cc pc = .ok (.imul, 1)) (k : W p l e R s m args below meth c H locs cells slots Q (F0 m (pc + 1) ls (.int (zi (x * y)) :: rest))) : W p l e R s m args below meth c H locs cells slots Q (F0 m pc ls (.int (zi y) :: .int (zi x) :: rest)) := by
  refine lv_imul hx hb hdg ?_
  rw [zi_mul]
  exact k
theorem zr_ineg (hx : p.tables.exec = Jvm.exec) (hb : c.code = cc) {x : Int} (hdg : decode cc pc = .ok (.ineg, 1)) (k : W p l e R s m args below meth c H locs cells slots Q (F0 m (pc + 1) ls (.int (zi (-x)) :: rest))) : W p l e R s m args below meth c H locs cells slots Q (F0 m pc ls (.int (zi x) :: rest)) := by
  refine lv_ineg hx hb hdg ?_
  rw [zi_neg]
  exact k
theorem zr_idiv (hx : p.tables.exec = Jvm.exec) (hb : c.code = cc) {x y : Int} (hdg : decode cc pc = .ok (.idiv, 1)) (h1 : 0 ≤ x ∧ x ≤ 2147483647) (h2 : 0 < y ∧ y ≤ 2147483647) (k : W p l e R s m args below meth c H locs cells slots Q (F0 m (pc + 1) ls (.int (zi (x / y)) :: rest))) : W p l e R s m args below meth c H locs cells slots Q (F0 m pc ls (.int (zi y) :: .int (zi x) :: rest)) := by
  refine lv_idiv hx hb hdg ?_ ?_
  · rw [← zi_0, zi_eq (by omega) (by omega)]
    omega
  · rw [zi_div h1 h2]
    exact k
theorem zr_irem (hx : p.tables.exec = Jvm.exec) (hb : c.code = cc) {x y : Int} (hdg : decode cc pc = .ok (.irem, 1)) (h1 : 0 ≤ x ∧ x ≤ 2147483647) (h2 : 0 < y ∧ y ≤ 2147483647) (k : W p l e R s m args below meth c H locs cells slots Q (F0 m (pc + 1) ls (.int (zi (x % y)) :: rest))) : W p l e R s m args below meth c H locs cells slots Q (F0 m pc ls (.int (zi y) :: .int (zi x) :: rest)) := by
  refine lv_irem hx hb hdg ?_ ?_
  · rw [← zi_0, zi_eq (by omega) (by omega)]
    omega
  · rw [zi_rem h1 h2]
    exact k
theorem zr_ishl (hx : p.tables.exec = Jvm.exec) (hb : c.code = cc) {x y : Int} (h : Nat) (hy : y = (h : Int)) (hh : h < 32) (hdg : decode cc pc = .ok (.ishl, 1)) (k : W p l e R s m args below meth c H locs cells slots Q (F0 m (pc + 1) ls (.int (zi (x * 2 ^ h)) :: rest))) : W p l e R s m args below meth c H locs cells slots Q (F0 m pc ls (.int (zi y) :: .int (zi x) :: rest)) := by
  subst hy
  refine lv_ishl hx hb hdg ?_
  rw [zi_shl x hh]
  exact k
theorem zr_ishr (hx : p.tables.exec = Jvm.exec) (hb : c.code = cc) {x y : Int} (h : Nat) (hy : y = (h : Int)) (hh : h < 32) (hr : -2147483648 ≤ x ∧ x ≤ 2147483647) (hdg : decode cc pc = .ok (.ishr, 1)) (k : W p l e R s m args below meth c H locs cells slots Q (F0 m (pc + 1) ls (.int (zi (x / 2 ^ h)) :: rest))) : W p l e R s m args below meth c H locs cells slots Q (F0 m pc ls (.int (zi y) :: .int (zi x) :: rest)) := by
  subst hy
  refine lv_ishr hx hb hdg ?_
  rw [zi_shr hr hh]
  exact k
theorem zr_iand {x y : Int} (z : Int) (hx : p.tables.exec = Jvm.exec) (hb : c.code = cc) (hz : zi x &&& zi y = zi z) (hdg : decode cc pc = .ok (.iand, 1)) (k : W p l e R s m args below meth c H locs cells slots Q (F0 m (pc + 1) ls (.int (zi z) :: rest))) : W p l e R s m args below meth c H locs cells slots Q (F0 m pc ls (.int (zi y) :: .int (zi x) :: rest)) := by
  refine lv_iand hx hb hdg ?_
  rw [hz]
  exact k
theorem zr_icmp_eq (hx : p.tables.exec = Jvm.exec) (hb : c.code = cc) {x y : Int} {off : Int} {tgt : Nat} (hdg : decode cc pc = .ok (.if_icmp .eq off, 3)) (ht : (pc : Int) + off = (tgt : Int)) (rx : -2147483648 ≤ x ∧ x ≤ 2147483647) (ry : -2147483648 ≤ y ∧ y ≤ 2147483647) (kt : x = y → W p l e R s m args below meth c H locs cells slots Q (F0 m tgt ls rest)) (kf : ¬ x = y → W p l e R s m args below meth c H locs cells slots Q (F0 m (pc + 3) ls rest)) : W p l e R s m args below meth c H locs cells slots Q (F0 m pc ls (.int (zi y) :: .int (zi x) :: rest)) := by
  refine lv_icmp_eq hx hb hdg ht (fun h => kt ?_) (fun h => kf ?_)
  · rw [zi_eq rx ry] at h
    omega
  · rw [zi_eq rx ry] at h
    omega
theorem zr_if_eq (hx : p.tables.exec = Jvm.exec) (hb : c.code = cc) {x : Int} {off : Int} {tgt : Nat} (hdg : decode cc pc = .ok (.ifCond .eq off, 3)) (ht : (pc : Int) + off = (tgt : Int)) (rx : -2147483648 ≤ x ∧ x ≤ 2147483647) (kt : x = 0 → W p l e R s m args below meth c H locs cells slots Q (F0 m tgt ls rest)) (kf : ¬ x = 0 → W p l e R s m args below meth c H locs cells slots Q (F0 m (pc + 3) ls rest)) : W p l e R s m args below meth c H locs cells slots Q (F0 m pc ls (.int (zi x) :: rest)) := by
  refine lv_if_eq hx hb hdg ht (fun h => kt ?_) (fun h => kf ?_)
  · rw [← zi_0, zi_eq rx (by decide)] at h
    omega
  · rw [← zi_0, zi_eq rx (by decide)] at h
    omega
theorem zr_icmp_ne (hx : p.tables.exec = Jvm.exec) (hb : c.code = cc) {x y : Int} {off : Int} {tgt : Nat} (hdg : decode cc pc = .ok (.if_icmp .ne off, 3)) (ht : (pc : Int) + off = (tgt : Int)) (rx : -2147483648 ≤ x ∧ x ≤ 2147483647) (ry : -2147483648 ≤ y ∧ y ≤ 2147483647) (kt : ¬ x = y → W p l e R s m args below meth c H locs cells slots Q (F0 m tgt ls rest)) (kf : x = y → W p l e R s m args below meth c H locs cells slots Q (F0 m (pc + 3) ls rest)) : W p l e R s m args below meth c H locs cells slots Q (F0 m pc ls (.int (zi y) :: .int (zi x) :: rest)) := by
  refine lv_icmp_ne hx hb hdg ht (fun h => kt ?_) (fun h => kf ?_)
  · rw [zi_eq rx ry] at h
    omega
  · rw [zi_eq rx ry] at h
    omega
theorem zr_if_ne (hx : p.tables.exec = Jvm.exec) (hb : c.code = cc) {x : Int} {off : Int} {tgt : Nat} (hdg : decode cc pc = .ok (.ifCond .ne off, 3)) (ht : (pc : Int) + off = (tgt : Int)) (rx : -2147483648 ≤ x ∧ x ≤ 2147483647) (kt : ¬ x = 0 → W p l e R s m args below meth c H locs cells slots Q (F0 m tgt ls rest)) (kf : x = 0 → W p l e R s m args below meth c H locs cells slots Q (F0 m (pc + 3) ls rest)) : W p l e R s m args below meth c H locs cells slots Q (F0 m pc ls (.int (zi x) :: rest)) := by
  refine lv_if_ne hx hb hdg ht (fun h => kt ?_) (fun h => kf ?_)
  · rw [← zi_0, zi_eq rx (by decide)] at h
    omega
  · rw [← zi_0, zi_eq rx (by decide)] at h
    omega
theorem zr_icmp_lt (hx : p.tables.exec = Jvm.exec) (hb : c.code = cc) {x y : Int} {off : Int} {tgt : Nat} (hdg : decode cc pc = .ok (.if_icmp .lt off, 3)) (ht : (pc : Int) + off = (tgt : Int)) (rx : -2147483648 ≤ x ∧ x ≤ 2147483647) (ry : -2147483648 ≤ y ∧ y ≤ 2147483647) (kt : x < y → W p l e R s m args below meth c H locs cells slots Q (F0 m tgt ls rest)) (kf : y ≤ x → W p l e R s m args below meth c H locs cells slots Q (F0 m (pc + 3) ls rest)) : W p l e R s m args below meth c H locs cells slots Q (F0 m pc ls (.int (zi y) :: .int (zi x) :: rest)) := by
  refine lv_icmp_lt hx hb hdg ht (fun h => kt ?_) (fun h => kf ?_)
  · rw [zi_lt rx ry] at h
    omega
  · rw [zi_lt rx ry] at h
    omega
theorem zr_if_lt (hx : p.tables.exec = Jvm.exec) (hb : c.code = cc) {x : Int} {off : Int} {tgt : Nat} (hdg : decode cc pc = .ok (.ifCond .lt off, 3)) (ht : (pc : Int) + off = (tgt : Int)) (rx : -2147483648 ≤ x ∧ x ≤ 2147483647) (kt : x < 0 → W p l e R s m args below meth c H locs cells slots Q (F0 m tgt ls rest)) (kf : 0 ≤ x → W p l e R s m args below meth c H locs cells slots Q (F0 m (pc + 3) ls rest)) : W p l e R s m args below meth c H locs cells slots Q (F0 m pc ls (.int (zi x) :: rest)) := by
  refine lv_if_lt hx hb hdg ht (fun h => kt ?_) (fun h => kf ?_)
  · rw [← zi_0, zi_lt rx (by decide)] at h
    omega
  · rw [← zi_0, zi_lt rx (by decide)] at h
    omega
theorem zr_icmp_ge (hx : p.tables.exec = Jvm.exec) (hb : c.code = cc) {x y : Int} {off : Int} {tgt : Nat} (hdg : decode cc pc = .ok (.if_icmp .ge off, 3)) (ht : (pc : Int) + off = (tgt : Int)) (rx : -2147483648 ≤ x ∧ x ≤ 2147483647) (ry : -2147483648 ≤ y ∧ y ≤ 2147483647) (kt : y ≤ x → W p l e R s m args below meth c H locs cells slots Q (F0 m tgt ls rest)) (kf : x < y → W p l e R s m args below meth c H locs cells slots Q (F0 m (pc + 3) ls rest)) : W p l e R s m args below meth c H locs cells slots Q (F0 m pc ls (.int (zi y) :: .int (zi x) :: rest)) := by
  refine lv_icmp_ge hx hb hdg ht (fun h => kt ?_) (fun h => kf ?_)
  · rw [zi_le ry rx] at h
    omega
  · rw [zi_le ry rx] at h
    omega
theorem zr_if_ge (hx : p.tables.exec = Jvm.exec) (hb : c.code = cc) {x : Int} {off : Int} {tgt : Nat} (hdg : decode cc pc = .ok (.ifCond .ge off, 3)) (ht : (pc : Int) + off = (tgt : Int)) (rx : -2147483648 ≤ x ∧ x ≤ 2147483647) (kt : 0 ≤ x → W p l e R s m args below meth c H locs cells slots Q (F0 m tgt ls rest)) (kf : x < 0 → W p l e R s m args below meth c H locs cells slots Q (F0 m (pc + 3) ls rest)) : W p l e R s m args below meth c H locs cells slots Q (F0 m pc ls (.int (zi x) :: rest)) := by
  refine lv_if_ge hx hb hdg ht (fun h => kt ?_) (fun h => kf ?_)
  · rw [← zi_0, zi_le (by decide) rx] at h
    omega
  · rw [← zi_0, zi_le (by decide) rx] at h
    omega
theorem zr_icmp_gt (hx : p.tables.exec = Jvm.exec) (hb : c.code = cc) {x y : Int} {off : Int} {tgt : Nat} (hdg : decode cc pc = .ok (.if_icmp .gt off, 3)) (ht : (pc : Int) + off = (tgt : Int)) (rx : -2147483648 ≤ x ∧ x ≤ 2147483647) (ry : -2147483648 ≤ y ∧ y ≤ 2147483647) (kt : y < x → W p l e R s m args below meth c H locs cells slots Q (F0 m tgt ls rest)) (kf : x ≤ y → W p l e R s m args below meth c H locs cells slots Q (F0 m (pc + 3) ls rest)) : W p l e R s m args below meth c H locs cells slots Q (F0 m pc ls (.int (zi y) :: .int (zi x) :: rest)) := by
  refine lv_icmp_gt hx hb hdg ht (fun h => kt ?_) (fun h => kf ?_)
  · rw [zi_lt ry rx] at h
    omega
  · rw [zi_lt ry rx] at h
    omega
theorem zr_if_gt (hx : p.tables.exec = Jvm.exec) (hb : c.code = cc) {x : Int} {off : Int} {tgt : Nat} (hdg : decode cc pc = .ok (.ifCond .gt off, 3)) (ht : (pc : Int) + off = (tgt : Int)) (rx : -2147483648 ≤ x ∧ x ≤ 2147483647) (kt : 0 < x → W p l e R s m args below meth c H locs cells slots Q (F0 m tgt ls rest)) (kf : x ≤ 0 → W p l e R s m args below meth c H locs cells slots Q (F0 m (pc + 3) ls rest)) : W p l e R s m args below meth c H locs cells slots Q (F0 m pc ls (.int (zi x) :: rest)) := by
  refine lv_if_gt hx hb hdg ht (fun h => kt ?_) (fun h => kf ?_)
  · rw [← zi_0, zi_lt (by decide) rx] at h
    omega
  · rw [← zi_0, zi_lt (by decide) rx] at h
    omega
theorem zr_icmp_le (hx : p.tables.exec = Jvm.exec) (hb : c.code = cc) {x y : Int} {off : Int} {tgt : Nat} (hdg : decode cc pc = .ok (.if_icmp .le off, 3)) (ht : (pc : Int) + off = (tgt : Int)) (rx : -2147483648 ≤ x ∧ x ≤ 2147483647) (ry : -2147483648 ≤ y ∧ y ≤ 2147483647) (kt : x ≤ y → W p l e R s m args below meth c H locs cells slots Q (F0 m tgt ls rest)) (kf : y < x → W p l e R s m args below meth c H locs cells slots Q (F0 m (pc + 3) ls rest)) : W p l e R s m args below meth c H locs cells slots Q (F0 m pc ls (.int (zi y) :: .int (zi x) :: rest)) := by
  refine lv_icmp_le hx hb hdg ht (fun h => kt ?_) (fun h => kf ?_)
  · rw [zi_le rx ry] at h
    omega
  · rw [zi_le rx ry] at h
    omega
theorem zr_if_le (hx : p.tables.exec = Jvm.exec) (hb : c.code = cc) {x : Int} {off : Int} {tgt : Nat} (hdg : decode cc pc = .ok (.ifCond .le off, 3)) (ht : (pc : Int) + off = (tgt : Int)) (rx : -2147483648 ≤ x ∧ x ≤ 2147483647) (kt : x ≤ 0 → W p l e R s m args below meth c H locs cells slots Q (F0 m tgt ls rest)) (kf : 0 < x → W p l e R s m args below meth c H locs cells slots Q (F0 m (pc + 3) ls rest)) : W p l e R s m args below meth c H locs cells slots Q (F0 m pc ls (.int (zi x) :: rest)) := by
  refine lv_if_le hx hb hdg ht (fun h => kt ?_) (fun h => kf ?_)
  · rw [← zi_0, zi_le rx (by decide)] at h
    omega
  · rw [← zi_0, zi_le rx (by decide)] at h
    omega
end ZR
end
section
abbrev vwCl : List vw_C := [(RX0, TX0, 16), (RX1, TX1, 9)]
/-- a static method's contract: it returns an int k, 'post k', and touches nothing -/
def stM (l : Launch) (y : MethodName) (bytes : ByteArray) (maxL : Nat) (ret : FieldType) (rm : Room) (as : List Value) (post : Int → Prop) : Prop := Met l y (ws_ y bytes maxL (some ret)) rm (va_Pc as (fun _ => True)) (vp_Si (fun r : Int32 => ∃ k : Int, r = zi k ∧ post k)) 0 0 (fun _ => False)
section stN
variable {l : Launch} {y : MethodName} {bytes : ByteArray} {maxL : Nat} {rm : Room} {as : List Value}
theorem st_enter {ret : FieldType} {post : Int → Prop} (hy : plainName y.cls = true) (hlen : (lg_sl as).length ≤ maxL) (body : ∀ (p : Program) (e : Env) (R : Room) (s : State) (m : MethodId) (args : Array Value) (below : List Frame) (meth : Method) (c : Code) (Q : State → Prop), p.tables.exec = Jvm.exec → c.code = bytes → (∀ {pc : Nat} {ls : Array Slot} {k : Int}, decode bytes pc = .ok (.ireturn, 1) → post k → narrow ret (.int (zi k)) = .int (zi k) → W p l e R s m args below meth c s.heap [] 0 0 Q (F0 m pc ls [.int (zi k)])) → ∀ ls : Array Slot, lv_has ls maxL (lv_args 0 as) → W p l e R s m args below meth c s.heap [] 0 0 Q (F0 m 0 ls [])) : stM l y bytes maxL ret rm as post := by
  refine Met.ofW (cc := bytes) (maxL := maxL) (ret := some ret) hy rfl ?_
  intro p e s m args below meth c s₁ B hml hv
  obtain ⟨rfl, -⟩ := hv
  have hx := B.exec
  have hb := B.bytes
  have hr := B.returns
  have hlocks := B.notSynchronized
  have hl := lv_entry as (n := maxL) hlen
  rw [lg_entry_eq]
  generalize (lg_sl as ++ List.replicate (maxL - (lg_sl as).length) Slot.unset).toArray = ls at hl ⊢
  refine body p e _ s m _ below meth c _ hx hb ?_ ls hl
  intro pc ls k hdg hpost hn
  exact W.zret (v := zi k) hx hb hr hn (fun t ht hW => ⟨zi k, rfl, ⟨k, rfl, hpost⟩, ht⟩) (fun q h => by cases h) hdg
end stN
/-! BackdatedBook: its cells, and the rows of its fields and arrays -/
/-- where it stands: classes and slots, its address, its arrays' addresses, the array classes -/
abbrev bkZ : Type := va_G × Nat × (Nat → Nat) × ClassId × ClassId
/-- what it holds: ac, dy, am, go, fl, ch, le, ar, lg, n, lo, mk, ba, wc, wl, wa -/
abbrev bkS : Type := (Int → Int) × (Int → Int) × (Int → Int) × (Int → Int) × (Int → Int) × (Int → Int) × (Int → Int) × (Int → Int) × (Int → Int) × Int × Int × Int × Int × Int × Int × Int
def k_ac (u : bkS) : Int → Int := u.1
def k_dy (u : bkS) : Int → Int := u.2.1
def k_am (u : bkS) : Int → Int := u.2.2.1
def k_go (u : bkS) : Int → Int := u.2.2.2.1
def k_fl (u : bkS) : Int → Int := u.2.2.2.2.1
def k_ch (u : bkS) : Int → Int := u.2.2.2.2.2.1
def k_le (u : bkS) : Int → Int := u.2.2.2.2.2.2.1
def k_ar (u : bkS) : Int → Int := u.2.2.2.2.2.2.2.1
def k_lg (u : bkS) : Int → Int := u.2.2.2.2.2.2.2.2.1
def k_n (u : bkS) : Int := u.2.2.2.2.2.2.2.2.2.1
def k_lo (u : bkS) : Int := u.2.2.2.2.2.2.2.2.2.2.1
def k_mk (u : bkS) : Int := u.2.2.2.2.2.2.2.2.2.2.2.1
def k_ba (u : bkS) : Int := u.2.2.2.2.2.2.2.2.2.2.2.2.1
def k_wc (u : bkS) : Int := u.2.2.2.2.2.2.2.2.2.2.2.2.2.1
def k_wl (u : bkS) : Int := u.2.2.2.2.2.2.2.2.2.2.2.2.2.2.1
def k_wa (u : bkS) : Int := u.2.2.2.2.2.2.2.2.2.2.2.2.2.2.2
def bkC (xac : Int → Int) (xdy : Int → Int) (xam : Int → Int) (xgo : Int → Int) (xfl : Int → Int) (xch : Int → Int) (xle : Int → Int) (xar : Int → Int) (xlg : Int → Int) (xn : Int) (xlo : Int) (xmk : Int) (xba : Int) (xwc : Int) (xwl : Int) (xwa : Int) : bkS := (xac, xdy, xam, xgo, xfl, xch, xle, xar, xlg, xn, xlo, xmk, xba, xwc, xwl, xwa)
def bkX (z : bkZ) (xac : Int → Int) (xdy : Int → Int) (xam : Int → Int) (xgo : Int → Int) (xfl : Int → Int) (xch : Int → Int) (xle : Int → Int) (xar : Int → Int) (xlg : Int → Int) (xn : Int) (xlo : Int) (xmk : Int) (xba : Int) (xwc : Int) (xwl : Int) (xwa : Int) : va_W := [(z.2.1, .inr (0, [.ref (z.2.2.1 0), .ref (z.2.2.1 1), .ref (z.2.2.1 2), .ref (z.2.2.1 3), .ref (z.2.2.1 4), .ref (z.2.2.1 5), .ref (z.2.2.1 6), .ref (z.2.2.1 7), .ref (z.2.2.1 8), .int (zi xn), .int (zi xlo), .int (zi xmk), .int (zi xba), .int (zi xwc), .int (zi xwl), .int (zi xwa)])), (z.2.2.1 0, .inl (z.2.2.2.1, 60, .inl (zc xac))), (z.2.2.1 1, .inl (z.2.2.2.1, 60, .inl (zc xdy))), (z.2.2.1 2, .inl (z.2.2.2.1, 60, .inl (zc xam))), (z.2.2.1 3, .inl (z.2.2.2.2, 60, .inl (zc xgo))), (z.2.2.1 4, .inl (z.2.2.2.1, 4, .inl (zc xfl))), (z.2.2.1 5, .inl (z.2.2.2.1, 512, .inl (zc xch))), (z.2.2.1 6, .inl (z.2.2.2.1, 512, .inl (zc xle))), (z.2.2.1 7, .inl (z.2.2.2.1, 512, .inl (zc xar))), (z.2.2.1 8, .inl (z.2.2.2.1, 60, .inl (zc xlg)))]
def bkW (z : bkZ) (u : bkS) : va_W := bkX z (k_ac u) (k_dy u) (k_am u) (k_go u) (k_fl u) (k_ch u) (k_le u) (k_ar u) (k_lg u) (k_n u) (k_lo u) (k_mk u) (k_ba u) (k_wc u) (k_wl u) (k_wa u)
def bkE (z : bkZ) (A : Nat → Prop) (p : Program) (c : Code) (cc : ByteArray) (s : State) (m : MethodId) (args : Array Value) : Prop := p.tables.exec = Jvm.exec ∧ c.code = cc ∧ (∀ w ∈ lw_all, w.before args s = true) ∧ s.vm.findClass RX0 = some m.cls ∧ va_K z.1 vwCl [(z.2.2.2.1, .int), (z.2.2.2.2, .boolean)] s ∧ ∀ q : Nat, s.heap.size ≤ q → A q
def bkH (z : bkZ) (A : Nat → Prop) (H0 : Heap) (u : bkS) (H : Heap) (locs : List Loc) : Prop := va_P z.1 vwCl (bkW z u) H ∧ va_D A (bkW z u) ∧ va_S A H0 H locs
/-- the same by its parts -/
def bkG (z : bkZ) (A : Nat → Prop) (H0 : Heap) (xac : Int → Int) (xdy : Int → Int) (xam : Int → Int) (xgo : Int → Int) (xfl : Int → Int) (xch : Int → Int) (xle : Int → Int) (xar : Int → Int) (xlg : Int → Int) (xn : Int) (xlo : Int) (xmk : Int) (xba : Int) (xwc : Int) (xwl : Int) (xwa : Int) (H : Heap) (locs : List Loc) : Prop := va_P z.1 vwCl (bkX z xac xdy xam xgo xfl xch xle xar xlg xn xlo xmk xba xwc xwl xwa) H ∧ va_D A (bkX z xac xdy xam xgo xfl xch xle xar xlg xn xlo xmk xba xwc xwl xwa) ∧ va_S A H0 H locs
def bkPc (z : bkZ) (u : bkS) (sz : Nat) (as : List Value) : Array Value → State → Prop := va_Pc (.ref z.2.1 :: as) (fun U => U.heap.size = sz ∧ va_P z.1 vwCl (bkW z u) U.heap ∧ va_K z.1 vwCl [(z.2.2.2.1, .int), (z.2.2.2.2, .boolean)] U ∧ va_D (fun _ => True) (bkW z u))
def bkB (z : bkZ) (A : Nat → Prop) (u : bkS) (t : State) : Prop := va_P z.1 vwCl (bkW z u) t.heap ∧ va_K z.1 vwCl [(z.2.2.2.1, .int), (z.2.2.2.2, .boolean)] t ∧ va_D A (bkW z u)
/-- a method's contract: from any heap that holds u at z it returns an int k and leaves u', 'post k u'' -/
def bkM (l : Launch) (y : MethodName) (bytes : ByteArray) (maxL : Nat) (ret : FieldType) (rm : Room) (z : bkZ) (u : bkS) (as : List Value) (post : Int → bkS → Prop) : Prop := ∀ sz : Nat, Met l y (ws_ y bytes maxL (some ret)) rm (bkPc z u sz as) (va_Qi (fun (r : Int32) (u' : bkS) => ∃ k : Int, r = zi k ∧ post k u') (bkB z (va_A (bkW z u) sz)) (va_A (bkW z u) sz)) 0 0 (va_A (bkW z u) sz)
/-- the same of a method without an answer -/
def bkV (l : Launch) (y : MethodName) (bytes : ByteArray) (maxL : Nat) (rm : Room) (z : bkZ) (u : bkS) (as : List Value) (post : bkS → Prop) : Prop := ∀ sz : Nat, Met l y (ws_ y bytes maxL none) rm (bkPc z u sz as) (va_Qv (fun (u' : bkS) => post u') (bkB z (va_A (bkW z u) sz)) (va_A (bkW z u) sz)) 0 0 (va_A (bkW z u) sz)
section bkR
variable {p : Program} {l : Launch} {e : Env} {R : Room} {s : State} {m : MethodId} {args : Array Value} {below : List Frame} {meth : Method} {c : Code} {H : Heap} {locs : List Loc} {cells slots : Nat} {Q : State → Prop}
variable {cc : ByteArray} {pc : Nat} {ls : Array Slot} {rest : List Value} {A : Nat → Prop} {H0 : Heap}
variable {z : bkZ} {xac : Int → Int} {xdy : Int → Int} {xam : Int → Int} {xgo : Int → Int} {xfl : Int → Int} {xch : Int → Int} {xle : Int → Int} {xar : Int → Int} {xlg : Int → Int} {xn : Int} {xlo : Int} {xmk : Int} {xba : Int} {xwc : Int} {xwl : Int} {xwa : Int}
theorem kg_ac (E : bkE z A p c cc s m args) (w : bkG z A H0 xac xdy xam xgo xfl xch xle xar xlg xn xlo xmk xba xwc xwl xwa H locs) (hdg : decode cc pc = .ok (.getfield 7, 3)) (kk : W p l e R s m args below meth c H locs cells slots Q (F0 m (pc + 3) ls (.ref (z.2.2.1 0) :: rest))) : W p l e R s m args below meth c H locs cells slots Q (F0 m pc ls (.ref z.2.1 :: rest)) :=
  va_get (D := z.1) (ci := 0) (v := .ref (z.2.2.1 0)) (C := RX0) (T := TX0) (N := 16) E.1 E.2.1 E.2.2.1 in_X0 E.2.2.2.1 E.2.2.2.2.1 w.1 0 rfl rfl 0 (by decide) (E.2.2.1 _ q30) (fun _ h9 => h9) rfl hdg kk
theorem kg_dy (E : bkE z A p c cc s m args) (w : bkG z A H0 xac xdy xam xgo xfl xch xle xar xlg xn xlo xmk xba xwc xwl xwa H locs) (hdg : decode cc pc = .ok (.getfield 13, 3)) (kk : W p l e R s m args below meth c H locs cells slots Q (F0 m (pc + 3) ls (.ref (z.2.2.1 1) :: rest))) : W p l e R s m args below meth c H locs cells slots Q (F0 m pc ls (.ref z.2.1 :: rest)) :=
  va_get (D := z.1) (ci := 0) (v := .ref (z.2.2.1 1)) (C := RX0) (T := TX0) (N := 16) E.1 E.2.1 E.2.2.1 in_X0 E.2.2.2.1 E.2.2.2.2.1 w.1 0 rfl rfl 1 (by decide) (E.2.2.1 _ q31) (fun _ h9 => h9) rfl hdg kk
theorem kg_am (E : bkE z A p c cc s m args) (w : bkG z A H0 xac xdy xam xgo xfl xch xle xar xlg xn xlo xmk xba xwc xwl xwa H locs) (hdg : decode cc pc = .ok (.getfield 16, 3)) (kk : W p l e R s m args below meth c H locs cells slots Q (F0 m (pc + 3) ls (.ref (z.2.2.1 2) :: rest))) : W p l e R s m args below meth c H locs cells slots Q (F0 m pc ls (.ref z.2.1 :: rest)) :=
  va_get (D := z.1) (ci := 0) (v := .ref (z.2.2.1 2)) (C := RX0) (T := TX0) (N := 16) E.1 E.2.1 E.2.2.1 in_X0 E.2.2.2.1 E.2.2.2.2.1 w.1 0 rfl rfl 2 (by decide) (E.2.2.1 _ q32) (fun _ h9 => h9) rfl hdg kk
theorem kg_go (E : bkE z A p c cc s m args) (w : bkG z A H0 xac xdy xam xgo xfl xch xle xar xlg xn xlo xmk xba xwc xwl xwa H locs) (hdg : decode cc pc = .ok (.getfield 19, 3)) (kk : W p l e R s m args below meth c H locs cells slots Q (F0 m (pc + 3) ls (.ref (z.2.2.1 3) :: rest))) : W p l e R s m args below meth c H locs cells slots Q (F0 m pc ls (.ref z.2.1 :: rest)) :=
  va_get (D := z.1) (ci := 0) (v := .ref (z.2.2.1 3)) (C := RX0) (T := TX0) (N := 16) E.1 E.2.1 E.2.2.1 in_X0 E.2.2.2.1 E.2.2.2.2.1 w.1 0 rfl rfl 3 (by decide) (E.2.2.1 _ q33) (fun _ h9 => h9) rfl hdg kk
theorem kg_fl (E : bkE z A p c cc s m args) (w : bkG z A H0 xac xdy xam xgo xfl xch xle xar xlg xn xlo xmk xba xwc xwl xwa H locs) (hdg : decode cc pc = .ok (.getfield 23, 3)) (kk : W p l e R s m args below meth c H locs cells slots Q (F0 m (pc + 3) ls (.ref (z.2.2.1 4) :: rest))) : W p l e R s m args below meth c H locs cells slots Q (F0 m pc ls (.ref z.2.1 :: rest)) :=
  va_get (D := z.1) (ci := 0) (v := .ref (z.2.2.1 4)) (C := RX0) (T := TX0) (N := 16) E.1 E.2.1 E.2.2.1 in_X0 E.2.2.2.1 E.2.2.2.2.1 w.1 0 rfl rfl 4 (by decide) (E.2.2.1 _ q34) (fun _ h9 => h9) rfl hdg kk
theorem kg_ch (E : bkE z A p c cc s m args) (w : bkG z A H0 xac xdy xam xgo xfl xch xle xar xlg xn xlo xmk xba xwc xwl xwa H locs) (hdg : decode cc pc = .ok (.getfield 26, 3)) (kk : W p l e R s m args below meth c H locs cells slots Q (F0 m (pc + 3) ls (.ref (z.2.2.1 5) :: rest))) : W p l e R s m args below meth c H locs cells slots Q (F0 m pc ls (.ref z.2.1 :: rest)) :=
  va_get (D := z.1) (ci := 0) (v := .ref (z.2.2.1 5)) (C := RX0) (T := TX0) (N := 16) E.1 E.2.1 E.2.2.1 in_X0 E.2.2.2.1 E.2.2.2.2.1 w.1 0 rfl rfl 5 (by decide) (E.2.2.1 _ q35) (fun _ h9 => h9) rfl hdg kk
theorem kg_le (E : bkE z A p c cc s m args) (w : bkG z A H0 xac xdy xam xgo xfl xch xle xar xlg xn xlo xmk xba xwc xwl xwa H locs) (hdg : decode cc pc = .ok (.getfield 29, 3)) (kk : W p l e R s m args below meth c H locs cells slots Q (F0 m (pc + 3) ls (.ref (z.2.2.1 6) :: rest))) : W p l e R s m args below meth c H locs cells slots Q (F0 m pc ls (.ref z.2.1 :: rest)) :=
  va_get (D := z.1) (ci := 0) (v := .ref (z.2.2.1 6)) (C := RX0) (T := TX0) (N := 16) E.1 E.2.1 E.2.2.1 in_X0 E.2.2.2.1 E.2.2.2.2.1 w.1 0 rfl rfl 6 (by decide) (E.2.2.1 _ q36) (fun _ h9 => h9) rfl hdg kk
theorem kg_ar (E : bkE z A p c cc s m args) (w : bkG z A H0 xac xdy xam xgo xfl xch xle xar xlg xn xlo xmk xba xwc xwl xwa H locs) (hdg : decode cc pc = .ok (.getfield 32, 3)) (kk : W p l e R s m args below meth c H locs cells slots Q (F0 m (pc + 3) ls (.ref (z.2.2.1 7) :: rest))) : W p l e R s m args below meth c H locs cells slots Q (F0 m pc ls (.ref z.2.1 :: rest)) :=
  va_get (D := z.1) (ci := 0) (v := .ref (z.2.2.1 7)) (C := RX0) (T := TX0) (N := 16) E.1 E.2.1 E.2.2.1 in_X0 E.2.2.2.1 E.2.2.2.2.1 w.1 0 rfl rfl 7 (by decide) (E.2.2.1 _ q37) (fun _ h9 => h9) rfl hdg kk
theorem kg_lg (E : bkE z A p c cc s m args) (w : bkG z A H0 xac xdy xam xgo xfl xch xle xar xlg xn xlo xmk xba xwc xwl xwa H locs) (hdg : decode cc pc = .ok (.getfield 35, 3)) (kk : W p l e R s m args below meth c H locs cells slots Q (F0 m (pc + 3) ls (.ref (z.2.2.1 8) :: rest))) : W p l e R s m args below meth c H locs cells slots Q (F0 m pc ls (.ref z.2.1 :: rest)) :=
  va_get (D := z.1) (ci := 0) (v := .ref (z.2.2.1 8)) (C := RX0) (T := TX0) (N := 16) E.1 E.2.1 E.2.2.1 in_X0 E.2.2.2.1 E.2.2.2.2.1 w.1 0 rfl rfl 8 (by decide) (E.2.2.1 _ q38) (fun _ h9 => h9) rfl hdg kk
theorem kg_n (E : bkE z A p c cc s m args) (w : bkG z A H0 xac xdy xam xgo xfl xch xle xar xlg xn xlo xmk xba xwc xwl xwa H locs) {v : Int} (hv : xn = v) (hdg : decode cc pc = .ok (.getfield 38, 3)) (kk : W p l e R s m args below meth c H locs cells slots Q (F0 m (pc + 3) ls (.int (zi v) :: rest))) : W p l e R s m args below meth c H locs cells slots Q (F0 m pc ls (.ref z.2.1 :: rest)) := by
  subst hv
  exact va_get (D := z.1) (ci := 0) (v := .int (zi xn)) (C := RX0) (T := TX0) (N := 16) E.1 E.2.1 E.2.2.1 in_X0 E.2.2.2.1 E.2.2.2.2.1 w.1 0 rfl rfl 9 (by decide) (E.2.2.1 _ q39) (fun _ h9 => h9) rfl hdg kk
theorem kp_n (E : bkE z A p c cc s m args) (w : bkG z A H0 xac xdy xam xgo xfl xch xle xar xlg xn xlo xmk xba xwc xwl xwa H locs) {x : Int} (hdg : decode cc pc = .ok (.putfield 38, 3)) (kk : ∀ (H1 : Heap) (locs1 : List Loc), bkG z A H0 xac xdy xam xgo xfl xch xle xar xlg (x) xlo xmk xba xwc xwl xwa H1 locs1 → W p l e R s m args below meth c H1 locs1 cells slots Q (F0 m (pc + 3) ls rest)) : W p l e R s m args below meth c H locs cells slots Q (F0 m pc ls (.int (zi x) :: .ref z.2.1 :: rest)) :=
  va_put (D := z.1) (ci := 0) (v := .int (zi x)) (ty := .int) (C := RX0) (T := TX0) (N := 16) E.1 E.2.1 E.2.2.1 in_X0 tyX0 tyX0_ok nmX0 E.2.2.2.1 E.2.2.2.2.1 w.1 w.2.1 w.2.2 0 rfl rfl 9 (by decide) (E.2.2.1 _ q39) (fun _ h9 => h9) rfl (by decide +kernel) rfl rfl (Nat.le_of_ble_eq_true rfl) hdg (fun H1 locs1 hP hD hS => kk H1 locs1 (And.intro hP (And.intro hD hS)))
theorem kg_lo (E : bkE z A p c cc s m args) (w : bkG z A H0 xac xdy xam xgo xfl xch xle xar xlg xn xlo xmk xba xwc xwl xwa H locs) {v : Int} (hv : xlo = v) (hdg : decode cc pc = .ok (.getfield 68, 3)) (kk : W p l e R s m args below meth c H locs cells slots Q (F0 m (pc + 3) ls (.int (zi v) :: rest))) : W p l e R s m args below meth c H locs cells slots Q (F0 m pc ls (.ref z.2.1 :: rest)) := by
  subst hv
  exact va_get (D := z.1) (ci := 0) (v := .int (zi xlo)) (C := RX0) (T := TX0) (N := 16) E.1 E.2.1 E.2.2.1 in_X0 E.2.2.2.1 E.2.2.2.2.1 w.1 0 rfl rfl 10 (by decide) (E.2.2.1 _ q40) (fun _ h9 => h9) rfl hdg kk
theorem kp_lo (E : bkE z A p c cc s m args) (w : bkG z A H0 xac xdy xam xgo xfl xch xle xar xlg xn xlo xmk xba xwc xwl xwa H locs) {x : Int} (hdg : decode cc pc = .ok (.putfield 68, 3)) (kk : ∀ (H1 : Heap) (locs1 : List Loc), bkG z A H0 xac xdy xam xgo xfl xch xle xar xlg xn (x) xmk xba xwc xwl xwa H1 locs1 → W p l e R s m args below meth c H1 locs1 cells slots Q (F0 m (pc + 3) ls rest)) : W p l e R s m args below meth c H locs cells slots Q (F0 m pc ls (.int (zi x) :: .ref z.2.1 :: rest)) :=
  va_put (D := z.1) (ci := 0) (v := .int (zi x)) (ty := .int) (C := RX0) (T := TX0) (N := 16) E.1 E.2.1 E.2.2.1 in_X0 tyX0 tyX0_ok nmX0 E.2.2.2.1 E.2.2.2.2.1 w.1 w.2.1 w.2.2 0 rfl rfl 10 (by decide) (E.2.2.1 _ q40) (fun _ h9 => h9) rfl (by decide +kernel) rfl rfl (Nat.le_of_ble_eq_true rfl) hdg (fun H1 locs1 hP hD hS => kk H1 locs1 (And.intro hP (And.intro hD hS)))
theorem kg_mk (E : bkE z A p c cc s m args) (w : bkG z A H0 xac xdy xam xgo xfl xch xle xar xlg xn xlo xmk xba xwc xwl xwa H locs) {v : Int} (hv : xmk = v) (hdg : decode cc pc = .ok (.getfield 77, 3)) (kk : W p l e R s m args below meth c H locs cells slots Q (F0 m (pc + 3) ls (.int (zi v) :: rest))) : W p l e R s m args below meth c H locs cells slots Q (F0 m pc ls (.ref z.2.1 :: rest)) := by
  subst hv
  exact va_get (D := z.1) (ci := 0) (v := .int (zi xmk)) (C := RX0) (T := TX0) (N := 16) E.1 E.2.1 E.2.2.1 in_X0 E.2.2.2.1 E.2.2.2.2.1 w.1 0 rfl rfl 11 (by decide) (E.2.2.1 _ q41) (fun _ h9 => h9) rfl hdg kk
theorem kp_mk (E : bkE z A p c cc s m args) (w : bkG z A H0 xac xdy xam xgo xfl xch xle xar xlg xn xlo xmk xba xwc xwl xwa H locs) {x : Int} (hdg : decode cc pc = .ok (.putfield 77, 3)) (kk : ∀ (H1 : Heap) (locs1 : List Loc), bkG z A H0 xac xdy xam xgo xfl xch xle xar xlg xn xlo (x) xba xwc xwl xwa H1 locs1 → W p l e R s m args below meth c H1 locs1 cells slots Q (F0 m (pc + 3) ls rest)) : W p l e R s m args below meth c H locs cells slots Q (F0 m pc ls (.int (zi x) :: .ref z.2.1 :: rest)) :=
  va_put (D := z.1) (ci := 0) (v := .int (zi x)) (ty := .int) (C := RX0) (T := TX0) (N := 16) E.1 E.2.1 E.2.2.1 in_X0 tyX0 tyX0_ok nmX0 E.2.2.2.1 E.2.2.2.2.1 w.1 w.2.1 w.2.2 0 rfl rfl 11 (by decide) (E.2.2.1 _ q41) (fun _ h9 => h9) rfl (by decide +kernel) rfl rfl (Nat.le_of_ble_eq_true rfl) hdg (fun H1 locs1 hP hD hS => kk H1 locs1 (And.intro hP (And.intro hD hS)))
theorem kg_ba (E : bkE z A p c cc s m args) (w : bkG z A H0 xac xdy xam xgo xfl xch xle xar xlg xn xlo xmk xba xwc xwl xwa H locs) {v : Int} (hv : xba = v) (hdg : decode cc pc = .ok (.getfield 49, 3)) (kk : W p l e R s m args below meth c H locs cells slots Q (F0 m (pc + 3) ls (.int (zi v) :: rest))) : W p l e R s m args below meth c H locs cells slots Q (F0 m pc ls (.ref z.2.1 :: rest)) := by
  subst hv
  exact va_get (D := z.1) (ci := 0) (v := .int (zi xba)) (C := RX0) (T := TX0) (N := 16) E.1 E.2.1 E.2.2.1 in_X0 E.2.2.2.1 E.2.2.2.2.1 w.1 0 rfl rfl 12 (by decide) (E.2.2.1 _ q42) (fun _ h9 => h9) rfl hdg kk
theorem kp_ba (E : bkE z A p c cc s m args) (w : bkG z A H0 xac xdy xam xgo xfl xch xle xar xlg xn xlo xmk xba xwc xwl xwa H locs) {x : Int} (hx : x = 0 ∨ x = 1) (hdg : decode cc pc = .ok (.putfield 49, 3)) (kk : ∀ (H1 : Heap) (locs1 : List Loc), bkG z A H0 xac xdy xam xgo xfl xch xle xar xlg xn xlo xmk (x) xwc xwl xwa H1 locs1 → W p l e R s m args below meth c H1 locs1 cells slots Q (F0 m (pc + 3) ls rest)) : W p l e R s m args below meth c H locs cells slots Q (F0 m pc ls (.int (zi x) :: .ref z.2.1 :: rest)) :=
  va_put (D := z.1) (ci := 0) (v := .int (zi x)) (ty := .boolean) (C := RX0) (T := TX0) (N := 16) E.1 E.2.1 E.2.2.1 in_X0 tyX0 tyX0_ok nmX0 E.2.2.2.1 E.2.2.2.2.1 w.1 w.2.1 w.2.2 0 rfl rfl 12 (by decide) (E.2.2.1 _ q42) (fun _ h9 => h9) rfl (by decide +kernel) (by rcases hx with rfl | rfl <;> decide) (by rcases hx with rfl | rfl <;> decide) (Nat.le_of_ble_eq_true rfl) hdg (fun H1 locs1 hP hD hS => kk H1 locs1 (And.intro hP (And.intro hD hS)))
theorem kg_wc (E : bkE z A p c cc s m args) (w : bkG z A H0 xac xdy xam xgo xfl xch xle xar xlg xn xlo xmk xba xwc xwl xwa H locs) {v : Int} (hv : xwc = v) (hdg : decode cc pc = .ok (.getfield 85, 3)) (kk : W p l e R s m args below meth c H locs cells slots Q (F0 m (pc + 3) ls (.int (zi v) :: rest))) : W p l e R s m args below meth c H locs cells slots Q (F0 m pc ls (.ref z.2.1 :: rest)) := by
  subst hv
  exact va_get (D := z.1) (ci := 0) (v := .int (zi xwc)) (C := RX0) (T := TX0) (N := 16) E.1 E.2.1 E.2.2.1 in_X0 E.2.2.2.1 E.2.2.2.2.1 w.1 0 rfl rfl 13 (by decide) (E.2.2.1 _ q43) (fun _ h9 => h9) rfl hdg kk
theorem kp_wc (E : bkE z A p c cc s m args) (w : bkG z A H0 xac xdy xam xgo xfl xch xle xar xlg xn xlo xmk xba xwc xwl xwa H locs) {x : Int} (hdg : decode cc pc = .ok (.putfield 85, 3)) (kk : ∀ (H1 : Heap) (locs1 : List Loc), bkG z A H0 xac xdy xam xgo xfl xch xle xar xlg xn xlo xmk xba (x) xwl xwa H1 locs1 → W p l e R s m args below meth c H1 locs1 cells slots Q (F0 m (pc + 3) ls rest)) : W p l e R s m args below meth c H locs cells slots Q (F0 m pc ls (.int (zi x) :: .ref z.2.1 :: rest)) :=
  va_put (D := z.1) (ci := 0) (v := .int (zi x)) (ty := .int) (C := RX0) (T := TX0) (N := 16) E.1 E.2.1 E.2.2.1 in_X0 tyX0 tyX0_ok nmX0 E.2.2.2.1 E.2.2.2.2.1 w.1 w.2.1 w.2.2 0 rfl rfl 13 (by decide) (E.2.2.1 _ q43) (fun _ h9 => h9) rfl (by decide +kernel) rfl rfl (Nat.le_of_ble_eq_true rfl) hdg (fun H1 locs1 hP hD hS => kk H1 locs1 (And.intro hP (And.intro hD hS)))
theorem kg_wl (E : bkE z A p c cc s m args) (w : bkG z A H0 xac xdy xam xgo xfl xch xle xar xlg xn xlo xmk xba xwc xwl xwa H locs) {v : Int} (hv : xwl = v) (hdg : decode cc pc = .ok (.getfield 74, 3)) (kk : W p l e R s m args below meth c H locs cells slots Q (F0 m (pc + 3) ls (.int (zi v) :: rest))) : W p l e R s m args below meth c H locs cells slots Q (F0 m pc ls (.ref z.2.1 :: rest)) := by
  subst hv
  exact va_get (D := z.1) (ci := 0) (v := .int (zi xwl)) (C := RX0) (T := TX0) (N := 16) E.1 E.2.1 E.2.2.1 in_X0 E.2.2.2.1 E.2.2.2.2.1 w.1 0 rfl rfl 14 (by decide) (E.2.2.1 _ q44) (fun _ h9 => h9) rfl hdg kk
theorem kp_wl (E : bkE z A p c cc s m args) (w : bkG z A H0 xac xdy xam xgo xfl xch xle xar xlg xn xlo xmk xba xwc xwl xwa H locs) {x : Int} (hdg : decode cc pc = .ok (.putfield 74, 3)) (kk : ∀ (H1 : Heap) (locs1 : List Loc), bkG z A H0 xac xdy xam xgo xfl xch xle xar xlg xn xlo xmk xba xwc (x) xwa H1 locs1 → W p l e R s m args below meth c H1 locs1 cells slots Q (F0 m (pc + 3) ls rest)) : W p l e R s m args below meth c H locs cells slots Q (F0 m pc ls (.int (zi x) :: .ref z.2.1 :: rest)) :=
  va_put (D := z.1) (ci := 0) (v := .int (zi x)) (ty := .int) (C := RX0) (T := TX0) (N := 16) E.1 E.2.1 E.2.2.1 in_X0 tyX0 tyX0_ok nmX0 E.2.2.2.1 E.2.2.2.2.1 w.1 w.2.1 w.2.2 0 rfl rfl 14 (by decide) (E.2.2.1 _ q44) (fun _ h9 => h9) rfl (by decide +kernel) rfl rfl (Nat.le_of_ble_eq_true rfl) hdg (fun H1 locs1 hP hD hS => kk H1 locs1 (And.intro hP (And.intro hD hS)))
theorem kg_wa (E : bkE z A p c cc s m args) (w : bkG z A H0 xac xdy xam xgo xfl xch xle xar xlg xn xlo xmk xba xwc xwl xwa H locs) {v : Int} (hv : xwa = v) (hdg : decode cc pc = .ok (.getfield 97, 3)) (kk : W p l e R s m args below meth c H locs cells slots Q (F0 m (pc + 3) ls (.int (zi v) :: rest))) : W p l e R s m args below meth c H locs cells slots Q (F0 m pc ls (.ref z.2.1 :: rest)) := by
  subst hv
  exact va_get (D := z.1) (ci := 0) (v := .int (zi xwa)) (C := RX0) (T := TX0) (N := 16) E.1 E.2.1 E.2.2.1 in_X0 E.2.2.2.1 E.2.2.2.2.1 w.1 0 rfl rfl 15 (by decide) (E.2.2.1 _ q45) (fun _ h9 => h9) rfl hdg kk
theorem kp_wa (E : bkE z A p c cc s m args) (w : bkG z A H0 xac xdy xam xgo xfl xch xle xar xlg xn xlo xmk xba xwc xwl xwa H locs) {x : Int} (hdg : decode cc pc = .ok (.putfield 97, 3)) (kk : ∀ (H1 : Heap) (locs1 : List Loc), bkG z A H0 xac xdy xam xgo xfl xch xle xar xlg xn xlo xmk xba xwc xwl (x) H1 locs1 → W p l e R s m args below meth c H1 locs1 cells slots Q (F0 m (pc + 3) ls rest)) : W p l e R s m args below meth c H locs cells slots Q (F0 m pc ls (.int (zi x) :: .ref z.2.1 :: rest)) :=
  va_put (D := z.1) (ci := 0) (v := .int (zi x)) (ty := .int) (C := RX0) (T := TX0) (N := 16) E.1 E.2.1 E.2.2.1 in_X0 tyX0 tyX0_ok nmX0 E.2.2.2.1 E.2.2.2.2.1 w.1 w.2.1 w.2.2 0 rfl rfl 15 (by decide) (E.2.2.1 _ q45) (fun _ h9 => h9) rfl (by decide +kernel) rfl rfl (Nat.le_of_ble_eq_true rfl) hdg (fun H1 locs1 hP hD hS => kk H1 locs1 (And.intro hP (And.intro hD hS)))
theorem kl_ac (E : bkE z A p c cc s m args) (w : bkG z A H0 xac xdy xam xgo xfl xch xle xar xlg xn xlo xmk xba xwc xwl xwa H locs) {i v : Int} (hi : 0 ≤ i ∧ i < 60) (hv : xac i = v) (hdg : decode cc pc = .ok (.iaload, 1)) (kk : W p l e R s m args below meth c H locs cells slots Q (F0 m (pc + 1) ls (.int (zi v) :: rest))) : W p l e R s m args below meth c H locs cells slots Q (F0 m pc ls (.int (zi i) :: .ref (z.2.2.1 0) :: rest)) := by
  subst hv
  refine va_iald E.1 E.2.1 E.2.2.2.2.1 w.1 1 0 rfl rfl (zi_in (by omega) (by decide)) hdg ?_
  rw [zi_clamp (by omega), show zc xac i.toNat = zi (xac i) from by show zi _ = _; rw [Int.toNat_of_nonneg hi.1]]
  exact kk
theorem ks_ac (E : bkE z A p c cc s m args) (w : bkG z A H0 xac xdy xam xgo xfl xch xle xar xlg xn xlo xmk xba xwc xwl xwa H locs) {i x : Int} (hi : 0 ≤ i ∧ i < 60) (hdg : decode cc pc = .ok (.iastore, 1)) (kk : ∀ (H1 : Heap) (locs1 : List Loc), bkG z A H0 (up xac i x) xdy xam xgo xfl xch xle xar xlg xn xlo xmk xba xwc xwl xwa H1 locs1 → W p l e R s m args below meth c H1 locs1 cells slots Q (F0 m (pc + 1) ls rest)) : W p l e R s m args below meth c H locs cells slots Q (F0 m pc ls (.int (zi x) :: .int (zi i) :: .ref (z.2.2.1 0) :: rest)) := by
  refine va_iast E.1 E.2.1 E.2.2.2.2.1 w.1 w.2.1 w.2.2 1 0 rfl rfl (zi_in (by omega) (by decide)) hdg (fun H1 locs1 hP hD hS => ?_)
  rw [zi_clamp (by omega), zc_upd _ _ hi.1] at hP hD
  exact kk H1 locs1 (And.intro hP (And.intro hD hS))
theorem kl_dy (E : bkE z A p c cc s m args) (w : bkG z A H0 xac xdy xam xgo xfl xch xle xar xlg xn xlo xmk xba xwc xwl xwa H locs) {i v : Int} (hi : 0 ≤ i ∧ i < 60) (hv : xdy i = v) (hdg : decode cc pc = .ok (.iaload, 1)) (kk : W p l e R s m args below meth c H locs cells slots Q (F0 m (pc + 1) ls (.int (zi v) :: rest))) : W p l e R s m args below meth c H locs cells slots Q (F0 m pc ls (.int (zi i) :: .ref (z.2.2.1 1) :: rest)) := by
  subst hv
  refine va_iald E.1 E.2.1 E.2.2.2.2.1 w.1 2 0 rfl rfl (zi_in (by omega) (by decide)) hdg ?_
  rw [zi_clamp (by omega), show zc xdy i.toNat = zi (xdy i) from by show zi _ = _; rw [Int.toNat_of_nonneg hi.1]]
  exact kk
theorem ks_dy (E : bkE z A p c cc s m args) (w : bkG z A H0 xac xdy xam xgo xfl xch xle xar xlg xn xlo xmk xba xwc xwl xwa H locs) {i x : Int} (hi : 0 ≤ i ∧ i < 60) (hdg : decode cc pc = .ok (.iastore, 1)) (kk : ∀ (H1 : Heap) (locs1 : List Loc), bkG z A H0 xac (up xdy i x) xam xgo xfl xch xle xar xlg xn xlo xmk xba xwc xwl xwa H1 locs1 → W p l e R s m args below meth c H1 locs1 cells slots Q (F0 m (pc + 1) ls rest)) : W p l e R s m args below meth c H locs cells slots Q (F0 m pc ls (.int (zi x) :: .int (zi i) :: .ref (z.2.2.1 1) :: rest)) := by
  refine va_iast E.1 E.2.1 E.2.2.2.2.1 w.1 w.2.1 w.2.2 2 0 rfl rfl (zi_in (by omega) (by decide)) hdg (fun H1 locs1 hP hD hS => ?_)
  rw [zi_clamp (by omega), zc_upd _ _ hi.1] at hP hD
  exact kk H1 locs1 (And.intro hP (And.intro hD hS))
theorem kl_am (E : bkE z A p c cc s m args) (w : bkG z A H0 xac xdy xam xgo xfl xch xle xar xlg xn xlo xmk xba xwc xwl xwa H locs) {i v : Int} (hi : 0 ≤ i ∧ i < 60) (hv : xam i = v) (hdg : decode cc pc = .ok (.iaload, 1)) (kk : W p l e R s m args below meth c H locs cells slots Q (F0 m (pc + 1) ls (.int (zi v) :: rest))) : W p l e R s m args below meth c H locs cells slots Q (F0 m pc ls (.int (zi i) :: .ref (z.2.2.1 2) :: rest)) := by
  subst hv
  refine va_iald E.1 E.2.1 E.2.2.2.2.1 w.1 3 0 rfl rfl (zi_in (by omega) (by decide)) hdg ?_
  rw [zi_clamp (by omega), show zc xam i.toNat = zi (xam i) from by show zi _ = _; rw [Int.toNat_of_nonneg hi.1]]
  exact kk
theorem ks_am (E : bkE z A p c cc s m args) (w : bkG z A H0 xac xdy xam xgo xfl xch xle xar xlg xn xlo xmk xba xwc xwl xwa H locs) {i x : Int} (hi : 0 ≤ i ∧ i < 60) (hdg : decode cc pc = .ok (.iastore, 1)) (kk : ∀ (H1 : Heap) (locs1 : List Loc), bkG z A H0 xac xdy (up xam i x) xgo xfl xch xle xar xlg xn xlo xmk xba xwc xwl xwa H1 locs1 → W p l e R s m args below meth c H1 locs1 cells slots Q (F0 m (pc + 1) ls rest)) : W p l e R s m args below meth c H locs cells slots Q (F0 m pc ls (.int (zi x) :: .int (zi i) :: .ref (z.2.2.1 2) :: rest)) := by
  refine va_iast E.1 E.2.1 E.2.2.2.2.1 w.1 w.2.1 w.2.2 3 0 rfl rfl (zi_in (by omega) (by decide)) hdg (fun H1 locs1 hP hD hS => ?_)
  rw [zi_clamp (by omega), zc_upd _ _ hi.1] at hP hD
  exact kk H1 locs1 (And.intro hP (And.intro hD hS))
theorem kl_go (E : bkE z A p c cc s m args) (w : bkG z A H0 xac xdy xam xgo xfl xch xle xar xlg xn xlo xmk xba xwc xwl xwa H locs) {i v : Int} (hi : 0 ≤ i ∧ i < 60) (hv : xgo i = v) (hdg : decode cc pc = .ok (.baload, 1)) (kk : W p l e R s m args below meth c H locs cells slots Q (F0 m (pc + 1) ls (.int (zi v) :: rest))) : W p l e R s m args below meth c H locs cells slots Q (F0 m pc ls (.int (zi i) :: .ref (z.2.2.1 3) :: rest)) := by
  subst hv
  refine va_zald E.1 E.2.1 E.2.2.2.2.1 w.1 4 1 rfl rfl (zi_in (by omega) (by decide)) hdg ?_
  rw [zi_clamp (by omega), show zc xgo i.toNat = zi (xgo i) from by show zi _ = _; rw [Int.toNat_of_nonneg hi.1]]
  exact kk
theorem ks_go (E : bkE z A p c cc s m args) (w : bkG z A H0 xac xdy xam xgo xfl xch xle xar xlg xn xlo xmk xba xwc xwl xwa H locs) {i x : Int} (hi : 0 ≤ i ∧ i < 60) (hx : x = 0 ∨ x = 1) (hdg : decode cc pc = .ok (.bastore, 1)) (kk : ∀ (H1 : Heap) (locs1 : List Loc), bkG z A H0 xac xdy xam (up xgo i x) xfl xch xle xar xlg xn xlo xmk xba xwc xwl xwa H1 locs1 → W p l e R s m args below meth c H1 locs1 cells slots Q (F0 m (pc + 1) ls rest)) : W p l e R s m args below meth c H locs cells slots Q (F0 m pc ls (.int (zi x) :: .int (zi i) :: .ref (z.2.2.1 3) :: rest)) := by
  refine va_zast E.1 E.2.1 E.2.2.2.2.1 w.1 w.2.1 w.2.2 4 1 rfl rfl (zi_in (by omega) (by decide)) hdg (fun H1 locs1 hP hD hS => ?_)
  rw [show vp_nar .boolean (zi x) = zi x from by rcases hx with rfl | rfl <;> decide, zi_clamp (by omega), zc_upd _ _ hi.1] at hP hD
  exact kk H1 locs1 (And.intro hP (And.intro hD hS))
theorem kl_fl (E : bkE z A p c cc s m args) (w : bkG z A H0 xac xdy xam xgo xfl xch xle xar xlg xn xlo xmk xba xwc xwl xwa H locs) {i v : Int} (hi : 0 ≤ i ∧ i < 4) (hv : xfl i = v) (hdg : decode cc pc = .ok (.iaload, 1)) (kk : W p l e R s m args below meth c H locs cells slots Q (F0 m (pc + 1) ls (.int (zi v) :: rest))) : W p l e R s m args below meth c H locs cells slots Q (F0 m pc ls (.int (zi i) :: .ref (z.2.2.1 4) :: rest)) := by
  subst hv
  refine va_iald E.1 E.2.1 E.2.2.2.2.1 w.1 5 0 rfl rfl (zi_in (by omega) (by decide)) hdg ?_
  rw [zi_clamp (by omega), show zc xfl i.toNat = zi (xfl i) from by show zi _ = _; rw [Int.toNat_of_nonneg hi.1]]
  exact kk
theorem ks_fl (E : bkE z A p c cc s m args) (w : bkG z A H0 xac xdy xam xgo xfl xch xle xar xlg xn xlo xmk xba xwc xwl xwa H locs) {i x : Int} (hi : 0 ≤ i ∧ i < 4) (hdg : decode cc pc = .ok (.iastore, 1)) (kk : ∀ (H1 : Heap) (locs1 : List Loc), bkG z A H0 xac xdy xam xgo (up xfl i x) xch xle xar xlg xn xlo xmk xba xwc xwl xwa H1 locs1 → W p l e R s m args below meth c H1 locs1 cells slots Q (F0 m (pc + 1) ls rest)) : W p l e R s m args below meth c H locs cells slots Q (F0 m pc ls (.int (zi x) :: .int (zi i) :: .ref (z.2.2.1 4) :: rest)) := by
  refine va_iast E.1 E.2.1 E.2.2.2.2.1 w.1 w.2.1 w.2.2 5 0 rfl rfl (zi_in (by omega) (by decide)) hdg (fun H1 locs1 hP hD hS => ?_)
  rw [zi_clamp (by omega), zc_upd _ _ hi.1] at hP hD
  exact kk H1 locs1 (And.intro hP (And.intro hD hS))
theorem kl_ch (E : bkE z A p c cc s m args) (w : bkG z A H0 xac xdy xam xgo xfl xch xle xar xlg xn xlo xmk xba xwc xwl xwa H locs) {i v : Int} (hi : 0 ≤ i ∧ i < 512) (hv : xch i = v) (hdg : decode cc pc = .ok (.iaload, 1)) (kk : W p l e R s m args below meth c H locs cells slots Q (F0 m (pc + 1) ls (.int (zi v) :: rest))) : W p l e R s m args below meth c H locs cells slots Q (F0 m pc ls (.int (zi i) :: .ref (z.2.2.1 5) :: rest)) := by
  subst hv
  refine va_iald E.1 E.2.1 E.2.2.2.2.1 w.1 6 0 rfl rfl (zi_in (by omega) (by decide)) hdg ?_
  rw [zi_clamp (by omega), show zc xch i.toNat = zi (xch i) from by show zi _ = _; rw [Int.toNat_of_nonneg hi.1]]
  exact kk
theorem ks_ch (E : bkE z A p c cc s m args) (w : bkG z A H0 xac xdy xam xgo xfl xch xle xar xlg xn xlo xmk xba xwc xwl xwa H locs) {i x : Int} (hi : 0 ≤ i ∧ i < 512) (hdg : decode cc pc = .ok (.iastore, 1)) (kk : ∀ (H1 : Heap) (locs1 : List Loc), bkG z A H0 xac xdy xam xgo xfl (up xch i x) xle xar xlg xn xlo xmk xba xwc xwl xwa H1 locs1 → W p l e R s m args below meth c H1 locs1 cells slots Q (F0 m (pc + 1) ls rest)) : W p l e R s m args below meth c H locs cells slots Q (F0 m pc ls (.int (zi x) :: .int (zi i) :: .ref (z.2.2.1 5) :: rest)) := by
  refine va_iast E.1 E.2.1 E.2.2.2.2.1 w.1 w.2.1 w.2.2 6 0 rfl rfl (zi_in (by omega) (by decide)) hdg (fun H1 locs1 hP hD hS => ?_)
  rw [zi_clamp (by omega), zc_upd _ _ hi.1] at hP hD
  exact kk H1 locs1 (And.intro hP (And.intro hD hS))
theorem kl_le (E : bkE z A p c cc s m args) (w : bkG z A H0 xac xdy xam xgo xfl xch xle xar xlg xn xlo xmk xba xwc xwl xwa H locs) {i v : Int} (hi : 0 ≤ i ∧ i < 512) (hv : xle i = v) (hdg : decode cc pc = .ok (.iaload, 1)) (kk : W p l e R s m args below meth c H locs cells slots Q (F0 m (pc + 1) ls (.int (zi v) :: rest))) : W p l e R s m args below meth c H locs cells slots Q (F0 m pc ls (.int (zi i) :: .ref (z.2.2.1 6) :: rest)) := by
  subst hv
  refine va_iald E.1 E.2.1 E.2.2.2.2.1 w.1 7 0 rfl rfl (zi_in (by omega) (by decide)) hdg ?_
  rw [zi_clamp (by omega), show zc xle i.toNat = zi (xle i) from by show zi _ = _; rw [Int.toNat_of_nonneg hi.1]]
  exact kk
theorem ks_le (E : bkE z A p c cc s m args) (w : bkG z A H0 xac xdy xam xgo xfl xch xle xar xlg xn xlo xmk xba xwc xwl xwa H locs) {i x : Int} (hi : 0 ≤ i ∧ i < 512) (hdg : decode cc pc = .ok (.iastore, 1)) (kk : ∀ (H1 : Heap) (locs1 : List Loc), bkG z A H0 xac xdy xam xgo xfl xch (up xle i x) xar xlg xn xlo xmk xba xwc xwl xwa H1 locs1 → W p l e R s m args below meth c H1 locs1 cells slots Q (F0 m (pc + 1) ls rest)) : W p l e R s m args below meth c H locs cells slots Q (F0 m pc ls (.int (zi x) :: .int (zi i) :: .ref (z.2.2.1 6) :: rest)) := by
  refine va_iast E.1 E.2.1 E.2.2.2.2.1 w.1 w.2.1 w.2.2 7 0 rfl rfl (zi_in (by omega) (by decide)) hdg (fun H1 locs1 hP hD hS => ?_)
  rw [zi_clamp (by omega), zc_upd _ _ hi.1] at hP hD
  exact kk H1 locs1 (And.intro hP (And.intro hD hS))
theorem kl_ar (E : bkE z A p c cc s m args) (w : bkG z A H0 xac xdy xam xgo xfl xch xle xar xlg xn xlo xmk xba xwc xwl xwa H locs) {i v : Int} (hi : 0 ≤ i ∧ i < 512) (hv : xar i = v) (hdg : decode cc pc = .ok (.iaload, 1)) (kk : W p l e R s m args below meth c H locs cells slots Q (F0 m (pc + 1) ls (.int (zi v) :: rest))) : W p l e R s m args below meth c H locs cells slots Q (F0 m pc ls (.int (zi i) :: .ref (z.2.2.1 7) :: rest)) := by
  subst hv
  refine va_iald E.1 E.2.1 E.2.2.2.2.1 w.1 8 0 rfl rfl (zi_in (by omega) (by decide)) hdg ?_
  rw [zi_clamp (by omega), show zc xar i.toNat = zi (xar i) from by show zi _ = _; rw [Int.toNat_of_nonneg hi.1]]
  exact kk
theorem ks_ar (E : bkE z A p c cc s m args) (w : bkG z A H0 xac xdy xam xgo xfl xch xle xar xlg xn xlo xmk xba xwc xwl xwa H locs) {i x : Int} (hi : 0 ≤ i ∧ i < 512) (hdg : decode cc pc = .ok (.iastore, 1)) (kk : ∀ (H1 : Heap) (locs1 : List Loc), bkG z A H0 xac xdy xam xgo xfl xch xle (up xar i x) xlg xn xlo xmk xba xwc xwl xwa H1 locs1 → W p l e R s m args below meth c H1 locs1 cells slots Q (F0 m (pc + 1) ls rest)) : W p l e R s m args below meth c H locs cells slots Q (F0 m pc ls (.int (zi x) :: .int (zi i) :: .ref (z.2.2.1 7) :: rest)) := by
  refine va_iast E.1 E.2.1 E.2.2.2.2.1 w.1 w.2.1 w.2.2 8 0 rfl rfl (zi_in (by omega) (by decide)) hdg (fun H1 locs1 hP hD hS => ?_)
  rw [zi_clamp (by omega), zc_upd _ _ hi.1] at hP hD
  exact kk H1 locs1 (And.intro hP (And.intro hD hS))
theorem kl_lg (E : bkE z A p c cc s m args) (w : bkG z A H0 xac xdy xam xgo xfl xch xle xar xlg xn xlo xmk xba xwc xwl xwa H locs) {i v : Int} (hi : 0 ≤ i ∧ i < 60) (hv : xlg i = v) (hdg : decode cc pc = .ok (.iaload, 1)) (kk : W p l e R s m args below meth c H locs cells slots Q (F0 m (pc + 1) ls (.int (zi v) :: rest))) : W p l e R s m args below meth c H locs cells slots Q (F0 m pc ls (.int (zi i) :: .ref (z.2.2.1 8) :: rest)) := by
  subst hv
  refine va_iald E.1 E.2.1 E.2.2.2.2.1 w.1 9 0 rfl rfl (zi_in (by omega) (by decide)) hdg ?_
  rw [zi_clamp (by omega), show zc xlg i.toNat = zi (xlg i) from by show zi _ = _; rw [Int.toNat_of_nonneg hi.1]]
  exact kk
theorem ks_lg (E : bkE z A p c cc s m args) (w : bkG z A H0 xac xdy xam xgo xfl xch xle xar xlg xn xlo xmk xba xwc xwl xwa H locs) {i x : Int} (hi : 0 ≤ i ∧ i < 60) (hdg : decode cc pc = .ok (.iastore, 1)) (kk : ∀ (H1 : Heap) (locs1 : List Loc), bkG z A H0 xac xdy xam xgo xfl xch xle xar (up xlg i x) xn xlo xmk xba xwc xwl xwa H1 locs1 → W p l e R s m args below meth c H1 locs1 cells slots Q (F0 m (pc + 1) ls rest)) : W p l e R s m args below meth c H locs cells slots Q (F0 m pc ls (.int (zi x) :: .int (zi i) :: .ref (z.2.2.1 8) :: rest)) := by
  refine va_iast E.1 E.2.1 E.2.2.2.2.1 w.1 w.2.1 w.2.2 9 0 rfl rfl (zi_in (by omega) (by decide)) hdg (fun H1 locs1 hP hD hS => ?_)
  rw [zi_clamp (by omega), zc_upd _ _ hi.1] at hP hD
  exact kk H1 locs1 (And.intro hP (And.intro hD hS))
end bkR
section bkN
variable {l : Launch} {y : MethodName} {bytes : ByteArray} {maxL : Nat} {rm : Room} {z : bkZ} {u : bkS} {as : List Value}
theorem bk_enter {ret : FieldType} {post : Int → bkS → Prop} (hy : plainName y.cls = true) (hc : y.cls = RX0) (hlen : (lg_sl (.ref z.2.1 :: as)).length ≤ maxL) (body : ∀ (p : Program) (e : Env) (R : Room) (s : State) (m : MethodId) (args : Array Value) (below : List Frame) (meth : Method) (c : Code) (A : Nat → Prop) (Q : State → Prop), R = rm → bkE z A p c bytes s m args → c.maxLocals = maxL → (∀ {H : Heap} {locs : List Loc} {pc : Nat} {ls : Array Slot} {k : Int} {xac : Int → Int} {xdy : Int → Int} {xam : Int → Int} {xgo : Int → Int} {xfl : Int → Int} {xch : Int → Int} {xle : Int → Int} {xar : Int → Int} {xlg : Int → Int} {xn : Int} {xlo : Int} {xmk : Int} {xba : Int} {xwc : Int} {xwl : Int} {xwa : Int}, decode bytes pc = .ok (.ireturn, 1) → bkG z A s.heap xac xdy xam xgo xfl xch xle xar xlg xn xlo xmk xba xwc xwl xwa H locs → post k (bkC xac xdy xam xgo xfl xch xle xar xlg xn xlo xmk xba xwc xwl xwa) → narrow ret (.int (zi k)) = .int (zi k) → W p l e R s m args below meth c H locs 0 0 Q (F0 m pc ls [.int (zi k)])) → bkG z A s.heap (k_ac u) (k_dy u) (k_am u) (k_go u) (k_fl u) (k_ch u) (k_le u) (k_ar u) (k_lg u) (k_n u) (k_lo u) (k_mk u) (k_ba u) (k_wc u) (k_wl u) (k_wa u) s.heap [] → ∀ ls : Array Slot, lv_has ls maxL (lv_args 0 (.ref z.2.1 :: as)) → W p l e R s m args below meth c s.heap [] 0 0 Q (F0 m 0 ls [])) : bkM l y bytes maxL ret rm z u as post := by
  intro sz
  refine Met.ofW (cc := bytes) (maxL := maxL) (ret := (some ret)) hy rfl ?_
  intro p e s m args below meth c s₁ B hml hv
  obtain ⟨rfl, hsz, hP, hK, hD0⟩ := hv
  have hx := B.exec
  have hb := B.bytes
  have hr := B.returns
  have hts := atoms_spec (ws := ws_ y bytes maxL (some ret)) B.pre
  have hts : ∀ w ∈ lw_all, w.before _ s = true := fun w h => hts w (List.mem_cons_of_mem _ h)
  have hown : s.vm.findClass y.cls = some m.cls := findClass_of_methodNamed B.named
  rw [hc] at hown
  have hlocks := B.notSynchronized
  subst hsz
  have hD := hD0.self (sz := s.heap.size)
  generalize hAe : va_A (bkW z u) s.heap.size = A at hD ⊢
  have hA : ∀ q : Nat, s.heap.size ≤ q → A q := fun q h => by rw [← hAe]; exact Or.inr h
  have hl := lv_entry (.ref z.2.1 :: as) (n := maxL) hlen
  rw [lg_entry_eq]
  generalize (lg_sl (.ref z.2.1 :: as) ++ List.replicate (maxL - (lg_sl (.ref z.2.1 :: as)).length) Slot.unset).toArray = ls at hl ⊢
  refine body p e _ s m _ below meth c A _ rfl (And.intro hx (And.intro hb (And.intro hts (And.intro hown (And.intro hK hA))))) hml ?_ (And.intro hP (And.intro hD va_S.rf)) ls hl
  intro H locs pc ls k xac xdy xam xgo xfl xch xle xar xlg xn xlo xmk xba xwc xwl xwa hdg w hpost hn
  exact W.zret (v := zi k) hx hb hr hn (fun t ht hW => ⟨⟨zi k, bkC xac xdy xam xgo xfl xch xle xar xlg xn xlo xmk xba xwc xwl xwa, rfl, ⟨k, rfl, hpost⟩, by rw [ht]; exact w.1, va_K.moved hW.alike hK, w.2.1⟩, w.2.2.F ht⟩) w.2.2.2.2 hdg
theorem bk_enterV {post : bkS → Prop} (hy : plainName y.cls = true) (hc : y.cls = RX0) (hlen : (lg_sl (.ref z.2.1 :: as)).length ≤ maxL) (body : ∀ (p : Program) (e : Env) (R : Room) (s : State) (m : MethodId) (args : Array Value) (below : List Frame) (meth : Method) (c : Code) (A : Nat → Prop) (Q : State → Prop), R = rm → bkE z A p c bytes s m args → c.maxLocals = maxL → (∀ {H : Heap} {locs : List Loc} {pc : Nat} {ls : Array Slot} {xac : Int → Int} {xdy : Int → Int} {xam : Int → Int} {xgo : Int → Int} {xfl : Int → Int} {xch : Int → Int} {xle : Int → Int} {xar : Int → Int} {xlg : Int → Int} {xn : Int} {xlo : Int} {xmk : Int} {xba : Int} {xwc : Int} {xwl : Int} {xwa : Int}, decode bytes pc = .ok (.return_, 1) → bkG z A s.heap xac xdy xam xgo xfl xch xle xar xlg xn xlo xmk xba xwc xwl xwa H locs → post (bkC xac xdy xam xgo xfl xch xle xar xlg xn xlo xmk xba xwc xwl xwa) → W p l e R s m args below meth c H locs 0 0 Q (F0 m pc ls [])) → bkG z A s.heap (k_ac u) (k_dy u) (k_am u) (k_go u) (k_fl u) (k_ch u) (k_le u) (k_ar u) (k_lg u) (k_n u) (k_lo u) (k_mk u) (k_ba u) (k_wc u) (k_wl u) (k_wa u) s.heap [] → ∀ ls : Array Slot, lv_has ls maxL (lv_args 0 (.ref z.2.1 :: as)) → W p l e R s m args below meth c s.heap [] 0 0 Q (F0 m 0 ls [])) : bkV l y bytes maxL rm z u as post := by
  intro sz
  refine Met.ofW (cc := bytes) (maxL := maxL) (ret := none) hy rfl ?_
  intro p e s m args below meth c s₁ B hml hv
  obtain ⟨rfl, hsz, hP, hK, hD0⟩ := hv
  have hx := B.exec
  have hb := B.bytes
  have hr := B.returns
  have hts := atoms_spec (ws := ws_ y bytes maxL none) B.pre
  have hts : ∀ w ∈ lw_all, w.before _ s = true := fun w h => hts w (List.mem_cons_of_mem _ h)
  have hown : s.vm.findClass y.cls = some m.cls := findClass_of_methodNamed B.named
  rw [hc] at hown
  have hlocks := B.notSynchronized
  subst hsz
  have hD := hD0.self (sz := s.heap.size)
  generalize hAe : va_A (bkW z u) s.heap.size = A at hD ⊢
  have hA : ∀ q : Nat, s.heap.size ≤ q → A q := fun q h => by rw [← hAe]; exact Or.inr h
  have hl := lv_entry (.ref z.2.1 :: as) (n := maxL) hlen
  rw [lg_entry_eq]
  generalize (lg_sl (.ref z.2.1 :: as) ++ List.replicate (maxL - (lg_sl (.ref z.2.1 :: as)).length) Slot.unset).toArray = ls at hl ⊢
  refine body p e _ s m _ below meth c A _ rfl (And.intro hx (And.intro hb (And.intro hts (And.intro hown (And.intro hK hA))))) hml ?_ (And.intro hP (And.intro hD va_S.rf)) ls hl
  intro H locs pc ls xac xdy xam xgo xfl xch xle xar xlg xn xlo xmk xba xwc xwl xwa hdg w hpost
  exact W.vret hx hb hr (fun t ht hW => ⟨⟨bkC xac xdy xam xgo xfl xch xle xar xlg xn xlo xmk xba xwc xwl xwa, rfl, hpost, by rw [ht]; exact w.1, va_K.moved hW.alike hK, w.2.1⟩, w.2.2.F ht⟩) w.2.2.2.2 hdg
end bkN
section bkC
variable {p : Program} {l : Launch} {e : Env} {R : Room} {s : State} {m : MethodId} {args : Array Value} {below : List Frame} {meth : Method} {c : Code} {H : Heap} {locs : List Loc} {cells slots : Nat} {Q : State → Prop}
variable {cc : ByteArray} {pc : Nat} {ls : Array Slot} {rest : List Value} {A : Nat → Prop} {H0 : Heap}
variable {z : bkZ} {xac : Int → Int} {xdy : Int → Int} {xam : Int → Int} {xgo : Int → Int} {xfl : Int → Int} {xch : Int → Int} {xle : Int → Int} {xar : Int → Int} {xlg : Int → Int} {xn : Int} {xlo : Int} {xmk : Int} {xba : Int} {xwc : Int} {xwl : Int} {xwa : Int} {y : MethodName} {bytes : ByteArray} {maxL nL n index : Nat} {rm : Room} {as st0 : List Value}
theorem bk_call {ret : FieldType} {post : Int → bkS → Prop} (E : bkE z A p c cc s m args) (hml : c.maxLocals = nL) (w : bkG z A s.heap xac xdy xam xgo xfl xch xle xar xlg xn xlo xmk xba xwc xwl xwa H locs) (hM : bkM l y bytes maxL ret rm z (bkC xac xdy xam xgo xfl xch xle xar xlg xn xlo xmk xba xwc xwl xwa) as post) (h1 : Cond.methodLink RX0 index y ∈ lw_all) (h2 : Cond.instanceMethod y ∈ lw_all) (h3 : Cond.selects RX0 y y ∈ lw_all) (h5 : Cond.code y bytes maxL (some ret) ∈ lw_all) (hrc : rm.cells = 0) (hrs : rm.slots = 0) (hd : y.cls = RX0 ∧ y.cls ≠ "java/lang/invoke/MethodHandle" ∧ y.cls ≠ "java/lang/invoke/VarHandle" ∧ (parseMethodDescriptor y.desc).map (fun d => d.parameters.length) = some n) (hR : rm.frames + 1 ≤ R.frames ∧ 8 + (maxL + 11) + rm.locals ≤ R.locals) (hn : as.length = n) (hls : ls.size = nL) (hst : st0 = as.reverse ++ .ref z.2.1 :: rest) (hW : (rest.map fun v => v.category).sum ≤ 8) (hdg : decode cc pc = .ok (.invokevirtual index, 3)) (kk : ∀ (k : Int) (u' : bkS) (H1 : Heap) (locs1 : List Loc), post k u' → bkH z A s.heap u' H1 locs1 → W p l e R s m args below meth c H1 locs1 0 0 Q (F0 m (pc + 3) ls (.int (zi k) :: rest))) : W p l e R s m args below meth c H locs 0 0 Q (F0 m pc ls st0) := by
  obtain ⟨hx, hb, hts, hown, hK, hA⟩ := E
  obtain ⟨hP, hD, hS⟩ : bkH z A s.heap (bkC xac xdy xam xgo xfl xch xle xar xlg xn xlo xmk xba xwc xwl xwa) H locs := w
  have hFc : ∀ q, va_A (bkW z (bkC xac xdy xam xgo xfl xch xle xar xlg xn xlo xmk xba xwc xwl xwa)) H.size q → A q := va_free (wc := bkW z (bkC xac xdy xam xgo xfl xch xle xar xlg xn xlo xmk xba xwc xwl xwa)) hD hS hA [0, 1, 2, 3, 4, 5, 6, 7, 8, 9] rfl
  refine va_calli (va_runV (As := as) (rest := rest) ⟨hx, hb, hml, hown, hts⟩ (hM H.size) (cwV n hts (lw_V h1 h2 h3 q20 h5) rfl hrc hrs hd hR) ⟨fun a U g mk q => by obtain ⟨q0, q1, qP, qK, qD⟩ := q; exact ⟨q0, q1, qP, va_K.moved (u := U) (U := U.calling g mk a) (Vm.Alike.refl U.vm) qK, qD⟩, va_recv hK hP (ci := 0) (q0 := 0) rfl rfl, fun U hU hW => ⟨rfl, by rw [hU], by rw [hU]; exact hP, va_K.moved hW.alike hK, hD.weaken (fun _ _ _ _ => trivial)⟩⟩ rfl hn hls hst (lv_room hW) hdg ⟨Nat.zero_le _, Nat.zero_le _⟩) hS (fun q _ h => hFc q h) hFc (fun r u' t H1 locs1 ht hvm hw hB hz1 hk1 hS => ?_)
  obtain ⟨k, rfl, hw⟩ := hw
  obtain ⟨hP1, hK1, hD1⟩ := hB
  rw [ht] at hP1
  exact kk k u' H1 locs1 hw (And.intro hP1 (And.intro (hD1.weaken (fun _ _ _ h => hFc _ h)) hS))
theorem bk_callV {post : bkS → Prop} (E : bkE z A p c cc s m args) (hml : c.maxLocals = nL) (w : bkG z A s.heap xac xdy xam xgo xfl xch xle xar xlg xn xlo xmk xba xwc xwl xwa H locs) (hM : bkV l y bytes maxL rm z (bkC xac xdy xam xgo xfl xch xle xar xlg xn xlo xmk xba xwc xwl xwa) as post) (h1 : Cond.methodLink RX0 index y ∈ lw_all) (h2 : Cond.instanceMethod y ∈ lw_all) (h3 : Cond.selects RX0 y y ∈ lw_all) (h5 : Cond.code y bytes maxL none ∈ lw_all) (hrc : rm.cells = 0) (hrs : rm.slots = 0) (hd : y.cls = RX0 ∧ y.cls ≠ "java/lang/invoke/MethodHandle" ∧ y.cls ≠ "java/lang/invoke/VarHandle" ∧ (parseMethodDescriptor y.desc).map (fun d => d.parameters.length) = some n) (hR : rm.frames + 1 ≤ R.frames ∧ 8 + (maxL + 11) + rm.locals ≤ R.locals) (hn : as.length = n) (hls : ls.size = nL) (hst : st0 = as.reverse ++ .ref z.2.1 :: rest) (hW : (rest.map fun v => v.category).sum ≤ 8) (hdg : decode cc pc = .ok (.invokevirtual index, 3)) (kk : ∀ (u' : bkS) (H1 : Heap) (locs1 : List Loc), post u' → bkH z A s.heap u' H1 locs1 → W p l e R s m args below meth c H1 locs1 0 0 Q (F0 m (pc + 3) ls rest)) : W p l e R s m args below meth c H locs 0 0 Q (F0 m pc ls st0) := by
  obtain ⟨hx, hb, hts, hown, hK, hA⟩ := E
  obtain ⟨hP, hD, hS⟩ : bkH z A s.heap (bkC xac xdy xam xgo xfl xch xle xar xlg xn xlo xmk xba xwc xwl xwa) H locs := w
  have hFc : ∀ q, va_A (bkW z (bkC xac xdy xam xgo xfl xch xle xar xlg xn xlo xmk xba xwc xwl xwa)) H.size q → A q := va_free (wc := bkW z (bkC xac xdy xam xgo xfl xch xle xar xlg xn xlo xmk xba xwc xwl xwa)) hD hS hA [0, 1, 2, 3, 4, 5, 6, 7, 8, 9] rfl
  refine va_callv (va_runV (As := as) (rest := rest) ⟨hx, hb, hml, hown, hts⟩ (hM H.size) (cwV n hts (lw_V h1 h2 h3 q20 h5) rfl hrc hrs hd hR) ⟨fun a U g mk q => by obtain ⟨q0, q1, qP, qK, qD⟩ := q; exact ⟨q0, q1, qP, va_K.moved (u := U) (U := U.calling g mk a) (Vm.Alike.refl U.vm) qK, qD⟩, va_recv hK hP (ci := 0) (q0 := 0) rfl rfl, fun U hU hW => ⟨rfl, by rw [hU], by rw [hU]; exact hP, va_K.moved hW.alike hK, hD.weaken (fun _ _ _ _ => trivial)⟩⟩ rfl hn hls hst (lv_room hW) hdg ⟨Nat.zero_le _, Nat.zero_le _⟩) hS (fun q _ h => hFc q h) hFc (fun u' t H1 locs1 ht hvm hw hB hz1 hk1 hS => ?_)
  obtain ⟨hP1, hK1, hD1⟩ := hB
  rw [ht] at hP1
  exact kk u' H1 locs1 hw (And.intro hP1 (And.intro (hD1.weaken (fun _ _ _ h => hFc _ h)) hS))
theorem bk_callS {ret : FieldType} {post : Int → Prop} (E : bkE z A p c cc s m args) (hml : c.maxLocals = nL) (hM : stM l y bytes maxL ret rm as post) (h1 : Cond.methodLink RX0 index y ∈ lw_all) (h2 : Cond.static y ∈ lw_all) (h5 : Cond.code y bytes maxL (some ret) ∈ lw_all) (hrc : rm.cells = 0) (hrs : rm.slots = 0) (hcl : y.cls = RX0) (hd : y.cls ≠ "java/lang/invoke/MethodHandle" ∧ y.cls ≠ "java/lang/invoke/VarHandle" ∧ (parseMethodDescriptor y.desc).map (fun d => d.parameters.length) = some n) (hR : rm.frames + 1 ≤ R.frames ∧ 8 + (maxL + 11) + rm.locals ≤ R.locals) (hn : as.length = n) (hls : ls.size = nL) (hst : st0 = as.reverse ++ rest) (hW : (rest.map fun v => v.category).sum ≤ 8) (hdg : decode cc pc = .ok (.invokestatic index, 3)) (kk : ∀ k : Int, post k → W p l e R s m args below meth c H locs 0 0 Q (F0 m (pc + 3) ls (.int (zi k) :: rest))) : W p l e R s m args below meth c H locs 0 0 Q (F0 m pc ls st0) := by
  obtain ⟨hx, hb, hts, hown, hK, hA⟩ := E
  refine vp_callSi (W.runS (As := as) (rest := rest) ⟨hx, hb, hml, hown, hts⟩ hM (va_cwS n hts (lw_S h1 h2 (by rw [hcl]; exact q20) h5) rfl hrc hrs hd hR) ⟨fun a U g mk q => ⟨q.1, trivial⟩, fun U hU hW => ⟨rfl, trivial⟩⟩ rfl hn hls hst (lv_room hW) hdg ⟨Nat.zero_le _, Nat.zero_le _⟩) (fun r hr => ?_)
  obtain ⟨k, rfl, hr⟩ := hr
  exact kk k hr
end bkC
end
section
/-! BackdatedBookModel: its cells, and the rows of its fields and arrays -/
/-- where it stands: classes and slots, its address, its arrays' addresses, the array classes -/
abbrev mdZ : Type := va_G × Nat × (Nat → Nat) × ClassId × ClassId
/-- what it holds: n, ac, dy, am, of, fl, ba, nb, ob -/
abbrev mdS : Type := Int × (Int → Int) × (Int → Int) × (Int → Int) × (Int → Int) × (Int → Int) × Int × Int × (Int → Int)
def m_n (u : mdS) : Int := u.1
def m_ac (u : mdS) : Int → Int := u.2.1
def m_dy (u : mdS) : Int → Int := u.2.2.1
def m_am (u : mdS) : Int → Int := u.2.2.2.1
def m_of (u : mdS) : Int → Int := u.2.2.2.2.1
def m_fl (u : mdS) : Int → Int := u.2.2.2.2.2.1
def m_ba (u : mdS) : Int := u.2.2.2.2.2.2.1
def m_nb (u : mdS) : Int := u.2.2.2.2.2.2.2.1
def m_ob (u : mdS) : Int → Int := u.2.2.2.2.2.2.2.2
def mdC (xn : Int) (xac : Int → Int) (xdy : Int → Int) (xam : Int → Int) (xof : Int → Int) (xfl : Int → Int) (xba : Int) (xnb : Int) (xob : Int → Int) : mdS := (xn, xac, xdy, xam, xof, xfl, xba, xnb, xob)
def mdX (z : mdZ) (xn : Int) (xac : Int → Int) (xdy : Int → Int) (xam : Int → Int) (xof : Int → Int) (xfl : Int → Int) (xba : Int) (xnb : Int) (xob : Int → Int) : va_W := [(z.2.1, .inr (1, [.int (zi xn), .ref (z.2.2.1 0), .ref (z.2.2.1 1), .ref (z.2.2.1 2), .ref (z.2.2.1 3), .ref (z.2.2.1 4), .int (zi xba), .int (zi xnb), .ref (z.2.2.1 5)])), (z.2.2.1 0, .inl (z.2.2.2.1, 60, .inl (zc xac))), (z.2.2.1 1, .inl (z.2.2.2.1, 60, .inl (zc xdy))), (z.2.2.1 2, .inl (z.2.2.2.1, 60, .inl (zc xam))), (z.2.2.1 3, .inl (z.2.2.2.2, 60, .inl (zc xof))), (z.2.2.1 4, .inl (z.2.2.2.1, 4, .inl (zc xfl))), (z.2.2.1 5, .inl (z.2.2.2.2, 60, .inl (zc xob)))]
def mdW (z : mdZ) (u : mdS) : va_W := mdX z (m_n u) (m_ac u) (m_dy u) (m_am u) (m_of u) (m_fl u) (m_ba u) (m_nb u) (m_ob u)
def mdE (z : mdZ) (A : Nat → Prop) (p : Program) (c : Code) (cc : ByteArray) (s : State) (m : MethodId) (args : Array Value) : Prop := p.tables.exec = Jvm.exec ∧ c.code = cc ∧ (∀ w ∈ lw_all, w.before args s = true) ∧ s.vm.findClass RX1 = some m.cls ∧ va_K z.1 vwCl [(z.2.2.2.1, .int), (z.2.2.2.2, .boolean)] s ∧ ∀ q : Nat, s.heap.size ≤ q → A q
def mdH (z : mdZ) (A : Nat → Prop) (H0 : Heap) (u : mdS) (H : Heap) (locs : List Loc) : Prop := va_P z.1 vwCl (mdW z u) H ∧ va_D A (mdW z u) ∧ va_S A H0 H locs
/-- the same by its parts -/
def mdG (z : mdZ) (A : Nat → Prop) (H0 : Heap) (xn : Int) (xac : Int → Int) (xdy : Int → Int) (xam : Int → Int) (xof : Int → Int) (xfl : Int → Int) (xba : Int) (xnb : Int) (xob : Int → Int) (H : Heap) (locs : List Loc) : Prop := va_P z.1 vwCl (mdX z xn xac xdy xam xof xfl xba xnb xob) H ∧ va_D A (mdX z xn xac xdy xam xof xfl xba xnb xob) ∧ va_S A H0 H locs
def mdPc (z : mdZ) (u : mdS) (sz : Nat) (as : List Value) : Array Value → State → Prop := va_Pc (.ref z.2.1 :: as) (fun U => U.heap.size = sz ∧ va_P z.1 vwCl (mdW z u) U.heap ∧ va_K z.1 vwCl [(z.2.2.2.1, .int), (z.2.2.2.2, .boolean)] U ∧ va_D (fun _ => True) (mdW z u))
def mdB (z : mdZ) (A : Nat → Prop) (u : mdS) (t : State) : Prop := va_P z.1 vwCl (mdW z u) t.heap ∧ va_K z.1 vwCl [(z.2.2.2.1, .int), (z.2.2.2.2, .boolean)] t ∧ va_D A (mdW z u)
/-- a method's contract: from any heap that holds u at z it returns an int k and leaves u', 'post k u'' -/
def mdM (l : Launch) (y : MethodName) (bytes : ByteArray) (maxL : Nat) (ret : FieldType) (rm : Room) (z : mdZ) (u : mdS) (as : List Value) (post : Int → mdS → Prop) : Prop := ∀ sz : Nat, Met l y (ws_ y bytes maxL (some ret)) rm (mdPc z u sz as) (va_Qi (fun (r : Int32) (u' : mdS) => ∃ k : Int, r = zi k ∧ post k u') (mdB z (va_A (mdW z u) sz)) (va_A (mdW z u) sz)) 0 0 (va_A (mdW z u) sz)
/-- the same of a method without an answer -/
def mdV (l : Launch) (y : MethodName) (bytes : ByteArray) (maxL : Nat) (rm : Room) (z : mdZ) (u : mdS) (as : List Value) (post : mdS → Prop) : Prop := ∀ sz : Nat, Met l y (ws_ y bytes maxL none) rm (mdPc z u sz as) (va_Qv (fun (u' : mdS) => post u') (mdB z (va_A (mdW z u) sz)) (va_A (mdW z u) sz)) 0 0 (va_A (mdW z u) sz)
section mdR
variable {p : Program} {l : Launch} {e : Env} {R : Room} {s : State} {m : MethodId} {args : Array Value} {below : List Frame} {meth : Method} {c : Code} {H : Heap} {locs : List Loc} {cells slots : Nat} {Q : State → Prop}
variable {cc : ByteArray} {pc : Nat} {ls : Array Slot} {rest : List Value} {A : Nat → Prop} {H0 : Heap}
variable {z : mdZ} {xn : Int} {xac : Int → Int} {xdy : Int → Int} {xam : Int → Int} {xof : Int → Int} {xfl : Int → Int} {xba : Int} {xnb : Int} {xob : Int → Int}
theorem mg_n (E : mdE z A p c cc s m args) (w : mdG z A H0 xn xac xdy xam xof xfl xba xnb xob H locs) {v : Int} (hv : xn = v) (hdg : decode cc pc = .ok (.getfield 29, 3)) (kk : W p l e R s m args below meth c H locs cells slots Q (F0 m (pc + 3) ls (.int (zi v) :: rest))) : W p l e R s m args below meth c H locs cells slots Q (F0 m pc ls (.ref z.2.1 :: rest)) := by
  subst hv
  exact va_get (D := z.1) (ci := 1) (v := .int (zi xn)) (C := RX1) (T := TX1) (N := 9) E.1 E.2.1 E.2.2.1 in_X1 E.2.2.2.1 E.2.2.2.2.1 w.1 0 rfl rfl 0 (by decide) (E.2.2.1 _ q216) (fun _ h9 => h9) rfl hdg kk
theorem mp_n (E : mdE z A p c cc s m args) (w : mdG z A H0 xn xac xdy xam xof xfl xba xnb xob H locs) {x : Int} (hdg : decode cc pc = .ok (.putfield 29, 3)) (kk : ∀ (H1 : Heap) (locs1 : List Loc), mdG z A H0 (x) xac xdy xam xof xfl xba xnb xob H1 locs1 → W p l e R s m args below meth c H1 locs1 cells slots Q (F0 m (pc + 3) ls rest)) : W p l e R s m args below meth c H locs cells slots Q (F0 m pc ls (.int (zi x) :: .ref z.2.1 :: rest)) :=
  va_put (D := z.1) (ci := 1) (v := .int (zi x)) (ty := .int) (C := RX1) (T := TX1) (N := 9) E.1 E.2.1 E.2.2.1 in_X1 tyX1 tyX1_ok nmX1 E.2.2.2.1 E.2.2.2.2.1 w.1 w.2.1 w.2.2 0 rfl rfl 0 (by decide) (E.2.2.1 _ q216) (fun _ h9 => h9) rfl (by decide +kernel) rfl rfl (Nat.le_of_ble_eq_true rfl) hdg (fun H1 locs1 hP hD hS => kk H1 locs1 (And.intro hP (And.intro hD hS)))
theorem mg_ac (E : mdE z A p c cc s m args) (w : mdG z A H0 xn xac xdy xam xof xfl xba xnb xob H locs) (hdg : decode cc pc = .ok (.getfield 7, 3)) (kk : W p l e R s m args below meth c H locs cells slots Q (F0 m (pc + 3) ls (.ref (z.2.2.1 0) :: rest))) : W p l e R s m args below meth c H locs cells slots Q (F0 m pc ls (.ref z.2.1 :: rest)) :=
  va_get (D := z.1) (ci := 1) (v := .ref (z.2.2.1 0)) (C := RX1) (T := TX1) (N := 9) E.1 E.2.1 E.2.2.1 in_X1 E.2.2.2.1 E.2.2.2.2.1 w.1 0 rfl rfl 1 (by decide) (E.2.2.1 _ q217) (fun _ h9 => h9) rfl hdg kk
theorem mg_dy (E : mdE z A p c cc s m args) (w : mdG z A H0 xn xac xdy xam xof xfl xba xnb xob H locs) (hdg : decode cc pc = .ok (.getfield 13, 3)) (kk : W p l e R s m args below meth c H locs cells slots Q (F0 m (pc + 3) ls (.ref (z.2.2.1 1) :: rest))) : W p l e R s m args below meth c H locs cells slots Q (F0 m pc ls (.ref z.2.1 :: rest)) :=
  va_get (D := z.1) (ci := 1) (v := .ref (z.2.2.1 1)) (C := RX1) (T := TX1) (N := 9) E.1 E.2.1 E.2.2.1 in_X1 E.2.2.2.1 E.2.2.2.2.1 w.1 0 rfl rfl 2 (by decide) (E.2.2.1 _ q218) (fun _ h9 => h9) rfl hdg kk
theorem mg_am (E : mdE z A p c cc s m args) (w : mdG z A H0 xn xac xdy xam xof xfl xba xnb xob H locs) (hdg : decode cc pc = .ok (.getfield 16, 3)) (kk : W p l e R s m args below meth c H locs cells slots Q (F0 m (pc + 3) ls (.ref (z.2.2.1 2) :: rest))) : W p l e R s m args below meth c H locs cells slots Q (F0 m pc ls (.ref z.2.1 :: rest)) :=
  va_get (D := z.1) (ci := 1) (v := .ref (z.2.2.1 2)) (C := RX1) (T := TX1) (N := 9) E.1 E.2.1 E.2.2.1 in_X1 E.2.2.2.1 E.2.2.2.2.1 w.1 0 rfl rfl 3 (by decide) (E.2.2.1 _ q219) (fun _ h9 => h9) rfl hdg kk
theorem mg_of (E : mdE z A p c cc s m args) (w : mdG z A H0 xn xac xdy xam xof xfl xba xnb xob H locs) (hdg : decode cc pc = .ok (.getfield 19, 3)) (kk : W p l e R s m args below meth c H locs cells slots Q (F0 m (pc + 3) ls (.ref (z.2.2.1 3) :: rest))) : W p l e R s m args below meth c H locs cells slots Q (F0 m pc ls (.ref z.2.1 :: rest)) :=
  va_get (D := z.1) (ci := 1) (v := .ref (z.2.2.1 3)) (C := RX1) (T := TX1) (N := 9) E.1 E.2.1 E.2.2.1 in_X1 E.2.2.2.1 E.2.2.2.2.1 w.1 0 rfl rfl 4 (by decide) (E.2.2.1 _ q220) (fun _ h9 => h9) rfl hdg kk
theorem mg_fl (E : mdE z A p c cc s m args) (w : mdG z A H0 xn xac xdy xam xof xfl xba xnb xob H locs) (hdg : decode cc pc = .ok (.getfield 23, 3)) (kk : W p l e R s m args below meth c H locs cells slots Q (F0 m (pc + 3) ls (.ref (z.2.2.1 4) :: rest))) : W p l e R s m args below meth c H locs cells slots Q (F0 m pc ls (.ref z.2.1 :: rest)) :=
  va_get (D := z.1) (ci := 1) (v := .ref (z.2.2.1 4)) (C := RX1) (T := TX1) (N := 9) E.1 E.2.1 E.2.2.1 in_X1 E.2.2.2.1 E.2.2.2.2.1 w.1 0 rfl rfl 5 (by decide) (E.2.2.1 _ q221) (fun _ h9 => h9) rfl hdg kk
theorem mg_ba (E : mdE z A p c cc s m args) (w : mdG z A H0 xn xac xdy xam xof xfl xba xnb xob H locs) {v : Int} (hv : xba = v) (hdg : decode cc pc = .ok (.getfield 51, 3)) (kk : W p l e R s m args below meth c H locs cells slots Q (F0 m (pc + 3) ls (.int (zi v) :: rest))) : W p l e R s m args below meth c H locs cells slots Q (F0 m pc ls (.ref z.2.1 :: rest)) := by
  subst hv
  exact va_get (D := z.1) (ci := 1) (v := .int (zi xba)) (C := RX1) (T := TX1) (N := 9) E.1 E.2.1 E.2.2.1 in_X1 E.2.2.2.1 E.2.2.2.2.1 w.1 0 rfl rfl 6 (by decide) (E.2.2.1 _ q222) (fun _ h9 => h9) rfl hdg kk
theorem mp_ba (E : mdE z A p c cc s m args) (w : mdG z A H0 xn xac xdy xam xof xfl xba xnb xob H locs) {x : Int} (hx : x = 0 ∨ x = 1) (hdg : decode cc pc = .ok (.putfield 51, 3)) (kk : ∀ (H1 : Heap) (locs1 : List Loc), mdG z A H0 xn xac xdy xam xof xfl (x) xnb xob H1 locs1 → W p l e R s m args below meth c H1 locs1 cells slots Q (F0 m (pc + 3) ls rest)) : W p l e R s m args below meth c H locs cells slots Q (F0 m pc ls (.int (zi x) :: .ref z.2.1 :: rest)) :=
  va_put (D := z.1) (ci := 1) (v := .int (zi x)) (ty := .boolean) (C := RX1) (T := TX1) (N := 9) E.1 E.2.1 E.2.2.1 in_X1 tyX1 tyX1_ok nmX1 E.2.2.2.1 E.2.2.2.2.1 w.1 w.2.1 w.2.2 0 rfl rfl 6 (by decide) (E.2.2.1 _ q222) (fun _ h9 => h9) rfl (by decide +kernel) (by rcases hx with rfl | rfl <;> decide) (by rcases hx with rfl | rfl <;> decide) (Nat.le_of_ble_eq_true rfl) hdg (fun H1 locs1 hP hD hS => kk H1 locs1 (And.intro hP (And.intro hD hS)))
theorem mg_nb (E : mdE z A p c cc s m args) (w : mdG z A H0 xn xac xdy xam xof xfl xba xnb xob H locs) {v : Int} (hv : xnb = v) (hdg : decode cc pc = .ok (.getfield 62, 3)) (kk : W p l e R s m args below meth c H locs cells slots Q (F0 m (pc + 3) ls (.int (zi v) :: rest))) : W p l e R s m args below meth c H locs cells slots Q (F0 m pc ls (.ref z.2.1 :: rest)) := by
  subst hv
  exact va_get (D := z.1) (ci := 1) (v := .int (zi xnb)) (C := RX1) (T := TX1) (N := 9) E.1 E.2.1 E.2.2.1 in_X1 E.2.2.2.1 E.2.2.2.2.1 w.1 0 rfl rfl 7 (by decide) (E.2.2.1 _ q223) (fun _ h9 => h9) rfl hdg kk
theorem mp_nb (E : mdE z A p c cc s m args) (w : mdG z A H0 xn xac xdy xam xof xfl xba xnb xob H locs) {x : Int} (hdg : decode cc pc = .ok (.putfield 62, 3)) (kk : ∀ (H1 : Heap) (locs1 : List Loc), mdG z A H0 xn xac xdy xam xof xfl xba (x) xob H1 locs1 → W p l e R s m args below meth c H1 locs1 cells slots Q (F0 m (pc + 3) ls rest)) : W p l e R s m args below meth c H locs cells slots Q (F0 m pc ls (.int (zi x) :: .ref z.2.1 :: rest)) :=
  va_put (D := z.1) (ci := 1) (v := .int (zi x)) (ty := .int) (C := RX1) (T := TX1) (N := 9) E.1 E.2.1 E.2.2.1 in_X1 tyX1 tyX1_ok nmX1 E.2.2.2.1 E.2.2.2.2.1 w.1 w.2.1 w.2.2 0 rfl rfl 7 (by decide) (E.2.2.1 _ q223) (fun _ h9 => h9) rfl (by decide +kernel) rfl rfl (Nat.le_of_ble_eq_true rfl) hdg (fun H1 locs1 hP hD hS => kk H1 locs1 (And.intro hP (And.intro hD hS)))
theorem mg_ob (E : mdE z A p c cc s m args) (w : mdG z A H0 xn xac xdy xam xof xfl xba xnb xob H locs) (hdg : decode cc pc = .ok (.getfield 26, 3)) (kk : W p l e R s m args below meth c H locs cells slots Q (F0 m (pc + 3) ls (.ref (z.2.2.1 5) :: rest))) : W p l e R s m args below meth c H locs cells slots Q (F0 m pc ls (.ref z.2.1 :: rest)) :=
  va_get (D := z.1) (ci := 1) (v := .ref (z.2.2.1 5)) (C := RX1) (T := TX1) (N := 9) E.1 E.2.1 E.2.2.1 in_X1 E.2.2.2.1 E.2.2.2.2.1 w.1 0 rfl rfl 8 (by decide) (E.2.2.1 _ q224) (fun _ h9 => h9) rfl hdg kk
theorem ml_ac (E : mdE z A p c cc s m args) (w : mdG z A H0 xn xac xdy xam xof xfl xba xnb xob H locs) {i v : Int} (hi : 0 ≤ i ∧ i < 60) (hv : xac i = v) (hdg : decode cc pc = .ok (.iaload, 1)) (kk : W p l e R s m args below meth c H locs cells slots Q (F0 m (pc + 1) ls (.int (zi v) :: rest))) : W p l e R s m args below meth c H locs cells slots Q (F0 m pc ls (.int (zi i) :: .ref (z.2.2.1 0) :: rest)) := by
  subst hv
  refine va_iald E.1 E.2.1 E.2.2.2.2.1 w.1 1 0 rfl rfl (zi_in (by omega) (by decide)) hdg ?_
  rw [zi_clamp (by omega), show zc xac i.toNat = zi (xac i) from by show zi _ = _; rw [Int.toNat_of_nonneg hi.1]]
  exact kk
theorem ms_ac (E : mdE z A p c cc s m args) (w : mdG z A H0 xn xac xdy xam xof xfl xba xnb xob H locs) {i x : Int} (hi : 0 ≤ i ∧ i < 60) (hdg : decode cc pc = .ok (.iastore, 1)) (kk : ∀ (H1 : Heap) (locs1 : List Loc), mdG z A H0 xn (up xac i x) xdy xam xof xfl xba xnb xob H1 locs1 → W p l e R s m args below meth c H1 locs1 cells slots Q (F0 m (pc + 1) ls rest)) : W p l e R s m args below meth c H locs cells slots Q (F0 m pc ls (.int (zi x) :: .int (zi i) :: .ref (z.2.2.1 0) :: rest)) := by
  refine va_iast E.1 E.2.1 E.2.2.2.2.1 w.1 w.2.1 w.2.2 1 0 rfl rfl (zi_in (by omega) (by decide)) hdg (fun H1 locs1 hP hD hS => ?_)
  rw [zi_clamp (by omega), zc_upd _ _ hi.1] at hP hD
  exact kk H1 locs1 (And.intro hP (And.intro hD hS))
theorem ml_dy (E : mdE z A p c cc s m args) (w : mdG z A H0 xn xac xdy xam xof xfl xba xnb xob H locs) {i v : Int} (hi : 0 ≤ i ∧ i < 60) (hv : xdy i = v) (hdg : decode cc pc = .ok (.iaload, 1)) (kk : W p l e R s m args below meth c H locs cells slots Q (F0 m (pc + 1) ls (.int (zi v) :: rest))) : W p l e R s m args below meth c H locs cells slots Q (F0 m pc ls (.int (zi i) :: .ref (z.2.2.1 1) :: rest)) := by
  subst hv
  refine va_iald E.1 E.2.1 E.2.2.2.2.1 w.1 2 0 rfl rfl (zi_in (by omega) (by decide)) hdg ?_
  rw [zi_clamp (by omega), show zc xdy i.toNat = zi (xdy i) from by show zi _ = _; rw [Int.toNat_of_nonneg hi.1]]
  exact kk
theorem ms_dy (E : mdE z A p c cc s m args) (w : mdG z A H0 xn xac xdy xam xof xfl xba xnb xob H locs) {i x : Int} (hi : 0 ≤ i ∧ i < 60) (hdg : decode cc pc = .ok (.iastore, 1)) (kk : ∀ (H1 : Heap) (locs1 : List Loc), mdG z A H0 xn xac (up xdy i x) xam xof xfl xba xnb xob H1 locs1 → W p l e R s m args below meth c H1 locs1 cells slots Q (F0 m (pc + 1) ls rest)) : W p l e R s m args below meth c H locs cells slots Q (F0 m pc ls (.int (zi x) :: .int (zi i) :: .ref (z.2.2.1 1) :: rest)) := by
  refine va_iast E.1 E.2.1 E.2.2.2.2.1 w.1 w.2.1 w.2.2 2 0 rfl rfl (zi_in (by omega) (by decide)) hdg (fun H1 locs1 hP hD hS => ?_)
  rw [zi_clamp (by omega), zc_upd _ _ hi.1] at hP hD
  exact kk H1 locs1 (And.intro hP (And.intro hD hS))
theorem ml_am (E : mdE z A p c cc s m args) (w : mdG z A H0 xn xac xdy xam xof xfl xba xnb xob H locs) {i v : Int} (hi : 0 ≤ i ∧ i < 60) (hv : xam i = v) (hdg : decode cc pc = .ok (.iaload, 1)) (kk : W p l e R s m args below meth c H locs cells slots Q (F0 m (pc + 1) ls (.int (zi v) :: rest))) : W p l e R s m args below meth c H locs cells slots Q (F0 m pc ls (.int (zi i) :: .ref (z.2.2.1 2) :: rest)) := by
  subst hv
  refine va_iald E.1 E.2.1 E.2.2.2.2.1 w.1 3 0 rfl rfl (zi_in (by omega) (by decide)) hdg ?_
  rw [zi_clamp (by omega), show zc xam i.toNat = zi (xam i) from by show zi _ = _; rw [Int.toNat_of_nonneg hi.1]]
  exact kk
theorem ms_am (E : mdE z A p c cc s m args) (w : mdG z A H0 xn xac xdy xam xof xfl xba xnb xob H locs) {i x : Int} (hi : 0 ≤ i ∧ i < 60) (hdg : decode cc pc = .ok (.iastore, 1)) (kk : ∀ (H1 : Heap) (locs1 : List Loc), mdG z A H0 xn xac xdy (up xam i x) xof xfl xba xnb xob H1 locs1 → W p l e R s m args below meth c H1 locs1 cells slots Q (F0 m (pc + 1) ls rest)) : W p l e R s m args below meth c H locs cells slots Q (F0 m pc ls (.int (zi x) :: .int (zi i) :: .ref (z.2.2.1 2) :: rest)) := by
  refine va_iast E.1 E.2.1 E.2.2.2.2.1 w.1 w.2.1 w.2.2 3 0 rfl rfl (zi_in (by omega) (by decide)) hdg (fun H1 locs1 hP hD hS => ?_)
  rw [zi_clamp (by omega), zc_upd _ _ hi.1] at hP hD
  exact kk H1 locs1 (And.intro hP (And.intro hD hS))
theorem ml_of (E : mdE z A p c cc s m args) (w : mdG z A H0 xn xac xdy xam xof xfl xba xnb xob H locs) {i v : Int} (hi : 0 ≤ i ∧ i < 60) (hv : xof i = v) (hdg : decode cc pc = .ok (.baload, 1)) (kk : W p l e R s m args below meth c H locs cells slots Q (F0 m (pc + 1) ls (.int (zi v) :: rest))) : W p l e R s m args below meth c H locs cells slots Q (F0 m pc ls (.int (zi i) :: .ref (z.2.2.1 3) :: rest)) := by
  subst hv
  refine va_zald E.1 E.2.1 E.2.2.2.2.1 w.1 4 1 rfl rfl (zi_in (by omega) (by decide)) hdg ?_
  rw [zi_clamp (by omega), show zc xof i.toNat = zi (xof i) from by show zi _ = _; rw [Int.toNat_of_nonneg hi.1]]
  exact kk
theorem ms_of (E : mdE z A p c cc s m args) (w : mdG z A H0 xn xac xdy xam xof xfl xba xnb xob H locs) {i x : Int} (hi : 0 ≤ i ∧ i < 60) (hx : x = 0 ∨ x = 1) (hdg : decode cc pc = .ok (.bastore, 1)) (kk : ∀ (H1 : Heap) (locs1 : List Loc), mdG z A H0 xn xac xdy xam (up xof i x) xfl xba xnb xob H1 locs1 → W p l e R s m args below meth c H1 locs1 cells slots Q (F0 m (pc + 1) ls rest)) : W p l e R s m args below meth c H locs cells slots Q (F0 m pc ls (.int (zi x) :: .int (zi i) :: .ref (z.2.2.1 3) :: rest)) := by
  refine va_zast E.1 E.2.1 E.2.2.2.2.1 w.1 w.2.1 w.2.2 4 1 rfl rfl (zi_in (by omega) (by decide)) hdg (fun H1 locs1 hP hD hS => ?_)
  rw [show vp_nar .boolean (zi x) = zi x from by rcases hx with rfl | rfl <;> decide, zi_clamp (by omega), zc_upd _ _ hi.1] at hP hD
  exact kk H1 locs1 (And.intro hP (And.intro hD hS))
theorem ml_fl (E : mdE z A p c cc s m args) (w : mdG z A H0 xn xac xdy xam xof xfl xba xnb xob H locs) {i v : Int} (hi : 0 ≤ i ∧ i < 4) (hv : xfl i = v) (hdg : decode cc pc = .ok (.iaload, 1)) (kk : W p l e R s m args below meth c H locs cells slots Q (F0 m (pc + 1) ls (.int (zi v) :: rest))) : W p l e R s m args below meth c H locs cells slots Q (F0 m pc ls (.int (zi i) :: .ref (z.2.2.1 4) :: rest)) := by
  subst hv
  refine va_iald E.1 E.2.1 E.2.2.2.2.1 w.1 5 0 rfl rfl (zi_in (by omega) (by decide)) hdg ?_
  rw [zi_clamp (by omega), show zc xfl i.toNat = zi (xfl i) from by show zi _ = _; rw [Int.toNat_of_nonneg hi.1]]
  exact kk
theorem ms_fl (E : mdE z A p c cc s m args) (w : mdG z A H0 xn xac xdy xam xof xfl xba xnb xob H locs) {i x : Int} (hi : 0 ≤ i ∧ i < 4) (hdg : decode cc pc = .ok (.iastore, 1)) (kk : ∀ (H1 : Heap) (locs1 : List Loc), mdG z A H0 xn xac xdy xam xof (up xfl i x) xba xnb xob H1 locs1 → W p l e R s m args below meth c H1 locs1 cells slots Q (F0 m (pc + 1) ls rest)) : W p l e R s m args below meth c H locs cells slots Q (F0 m pc ls (.int (zi x) :: .int (zi i) :: .ref (z.2.2.1 4) :: rest)) := by
  refine va_iast E.1 E.2.1 E.2.2.2.2.1 w.1 w.2.1 w.2.2 5 0 rfl rfl (zi_in (by omega) (by decide)) hdg (fun H1 locs1 hP hD hS => ?_)
  rw [zi_clamp (by omega), zc_upd _ _ hi.1] at hP hD
  exact kk H1 locs1 (And.intro hP (And.intro hD hS))
theorem ml_ob (E : mdE z A p c cc s m args) (w : mdG z A H0 xn xac xdy xam xof xfl xba xnb xob H locs) {i v : Int} (hi : 0 ≤ i ∧ i < 60) (hv : xob i = v) (hdg : decode cc pc = .ok (.baload, 1)) (kk : W p l e R s m args below meth c H locs cells slots Q (F0 m (pc + 1) ls (.int (zi v) :: rest))) : W p l e R s m args below meth c H locs cells slots Q (F0 m pc ls (.int (zi i) :: .ref (z.2.2.1 5) :: rest)) := by
  subst hv
  refine va_zald E.1 E.2.1 E.2.2.2.2.1 w.1 6 1 rfl rfl (zi_in (by omega) (by decide)) hdg ?_
  rw [zi_clamp (by omega), show zc xob i.toNat = zi (xob i) from by show zi _ = _; rw [Int.toNat_of_nonneg hi.1]]
  exact kk
theorem ms_ob (E : mdE z A p c cc s m args) (w : mdG z A H0 xn xac xdy xam xof xfl xba xnb xob H locs) {i x : Int} (hi : 0 ≤ i ∧ i < 60) (hx : x = 0 ∨ x = 1) (hdg : decode cc pc = .ok (.bastore, 1)) (kk : ∀ (H1 : Heap) (locs1 : List Loc), mdG z A H0 xn xac xdy xam xof xfl xba xnb (up xob i x) H1 locs1 → W p l e R s m args below meth c H1 locs1 cells slots Q (F0 m (pc + 1) ls rest)) : W p l e R s m args below meth c H locs cells slots Q (F0 m pc ls (.int (zi x) :: .int (zi i) :: .ref (z.2.2.1 5) :: rest)) := by
  refine va_zast E.1 E.2.1 E.2.2.2.2.1 w.1 w.2.1 w.2.2 6 1 rfl rfl (zi_in (by omega) (by decide)) hdg (fun H1 locs1 hP hD hS => ?_)
  rw [show vp_nar .boolean (zi x) = zi x from by rcases hx with rfl | rfl <;> decide, zi_clamp (by omega), zc_upd _ _ hi.1] at hP hD
  exact kk H1 locs1 (And.intro hP (And.intro hD hS))
end mdR
section mdN
variable {l : Launch} {y : MethodName} {bytes : ByteArray} {maxL : Nat} {rm : Room} {z : mdZ} {u : mdS} {as : List Value}
theorem md_enter {ret : FieldType} {post : Int → mdS → Prop} (hy : plainName y.cls = true) (hc : y.cls = RX1) (hlen : (lg_sl (.ref z.2.1 :: as)).length ≤ maxL) (body : ∀ (p : Program) (e : Env) (R : Room) (s : State) (m : MethodId) (args : Array Value) (below : List Frame) (meth : Method) (c : Code) (A : Nat → Prop) (Q : State → Prop), R = rm → mdE z A p c bytes s m args → c.maxLocals = maxL → (∀ {H : Heap} {locs : List Loc} {pc : Nat} {ls : Array Slot} {k : Int} {xn : Int} {xac : Int → Int} {xdy : Int → Int} {xam : Int → Int} {xof : Int → Int} {xfl : Int → Int} {xba : Int} {xnb : Int} {xob : Int → Int}, decode bytes pc = .ok (.ireturn, 1) → mdG z A s.heap xn xac xdy xam xof xfl xba xnb xob H locs → post k (mdC xn xac xdy xam xof xfl xba xnb xob) → narrow ret (.int (zi k)) = .int (zi k) → W p l e R s m args below meth c H locs 0 0 Q (F0 m pc ls [.int (zi k)])) → mdG z A s.heap (m_n u) (m_ac u) (m_dy u) (m_am u) (m_of u) (m_fl u) (m_ba u) (m_nb u) (m_ob u) s.heap [] → ∀ ls : Array Slot, lv_has ls maxL (lv_args 0 (.ref z.2.1 :: as)) → W p l e R s m args below meth c s.heap [] 0 0 Q (F0 m 0 ls [])) : mdM l y bytes maxL ret rm z u as post := by
  intro sz
  refine Met.ofW (cc := bytes) (maxL := maxL) (ret := (some ret)) hy rfl ?_
  intro p e s m args below meth c s₁ B hml hv
  obtain ⟨rfl, hsz, hP, hK, hD0⟩ := hv
  have hx := B.exec
  have hb := B.bytes
  have hr := B.returns
  have hts := atoms_spec (ws := ws_ y bytes maxL (some ret)) B.pre
  have hts : ∀ w ∈ lw_all, w.before _ s = true := fun w h => hts w (List.mem_cons_of_mem _ h)
  have hown : s.vm.findClass y.cls = some m.cls := findClass_of_methodNamed B.named
  rw [hc] at hown
  have hlocks := B.notSynchronized
  subst hsz
  have hD := hD0.self (sz := s.heap.size)
  generalize hAe : va_A (mdW z u) s.heap.size = A at hD ⊢
  have hA : ∀ q : Nat, s.heap.size ≤ q → A q := fun q h => by rw [← hAe]; exact Or.inr h
  have hl := lv_entry (.ref z.2.1 :: as) (n := maxL) hlen
  rw [lg_entry_eq]
  generalize (lg_sl (.ref z.2.1 :: as) ++ List.replicate (maxL - (lg_sl (.ref z.2.1 :: as)).length) Slot.unset).toArray = ls at hl ⊢
  refine body p e _ s m _ below meth c A _ rfl (And.intro hx (And.intro hb (And.intro hts (And.intro hown (And.intro hK hA))))) hml ?_ (And.intro hP (And.intro hD va_S.rf)) ls hl
  intro H locs pc ls k xn xac xdy xam xof xfl xba xnb xob hdg w hpost hn
  exact W.zret (v := zi k) hx hb hr hn (fun t ht hW => ⟨⟨zi k, mdC xn xac xdy xam xof xfl xba xnb xob, rfl, ⟨k, rfl, hpost⟩, by rw [ht]; exact w.1, va_K.moved hW.alike hK, w.2.1⟩, w.2.2.F ht⟩) w.2.2.2.2 hdg
theorem md_enterV {post : mdS → Prop} (hy : plainName y.cls = true) (hc : y.cls = RX1) (hlen : (lg_sl (.ref z.2.1 :: as)).length ≤ maxL) (body : ∀ (p : Program) (e : Env) (R : Room) (s : State) (m : MethodId) (args : Array Value) (below : List Frame) (meth : Method) (c : Code) (A : Nat → Prop) (Q : State → Prop), R = rm → mdE z A p c bytes s m args → c.maxLocals = maxL → (∀ {H : Heap} {locs : List Loc} {pc : Nat} {ls : Array Slot} {xn : Int} {xac : Int → Int} {xdy : Int → Int} {xam : Int → Int} {xof : Int → Int} {xfl : Int → Int} {xba : Int} {xnb : Int} {xob : Int → Int}, decode bytes pc = .ok (.return_, 1) → mdG z A s.heap xn xac xdy xam xof xfl xba xnb xob H locs → post (mdC xn xac xdy xam xof xfl xba xnb xob) → W p l e R s m args below meth c H locs 0 0 Q (F0 m pc ls [])) → mdG z A s.heap (m_n u) (m_ac u) (m_dy u) (m_am u) (m_of u) (m_fl u) (m_ba u) (m_nb u) (m_ob u) s.heap [] → ∀ ls : Array Slot, lv_has ls maxL (lv_args 0 (.ref z.2.1 :: as)) → W p l e R s m args below meth c s.heap [] 0 0 Q (F0 m 0 ls [])) : mdV l y bytes maxL rm z u as post := by
  intro sz
  refine Met.ofW (cc := bytes) (maxL := maxL) (ret := none) hy rfl ?_
  intro p e s m args below meth c s₁ B hml hv
  obtain ⟨rfl, hsz, hP, hK, hD0⟩ := hv
  have hx := B.exec
  have hb := B.bytes
  have hr := B.returns
  have hts := atoms_spec (ws := ws_ y bytes maxL none) B.pre
  have hts : ∀ w ∈ lw_all, w.before _ s = true := fun w h => hts w (List.mem_cons_of_mem _ h)
  have hown : s.vm.findClass y.cls = some m.cls := findClass_of_methodNamed B.named
  rw [hc] at hown
  have hlocks := B.notSynchronized
  subst hsz
  have hD := hD0.self (sz := s.heap.size)
  generalize hAe : va_A (mdW z u) s.heap.size = A at hD ⊢
  have hA : ∀ q : Nat, s.heap.size ≤ q → A q := fun q h => by rw [← hAe]; exact Or.inr h
  have hl := lv_entry (.ref z.2.1 :: as) (n := maxL) hlen
  rw [lg_entry_eq]
  generalize (lg_sl (.ref z.2.1 :: as) ++ List.replicate (maxL - (lg_sl (.ref z.2.1 :: as)).length) Slot.unset).toArray = ls at hl ⊢
  refine body p e _ s m _ below meth c A _ rfl (And.intro hx (And.intro hb (And.intro hts (And.intro hown (And.intro hK hA))))) hml ?_ (And.intro hP (And.intro hD va_S.rf)) ls hl
  intro H locs pc ls xn xac xdy xam xof xfl xba xnb xob hdg w hpost
  exact W.vret hx hb hr (fun t ht hW => ⟨⟨mdC xn xac xdy xam xof xfl xba xnb xob, rfl, hpost, by rw [ht]; exact w.1, va_K.moved hW.alike hK, w.2.1⟩, w.2.2.F ht⟩) w.2.2.2.2 hdg
end mdN
section mdC
variable {p : Program} {l : Launch} {e : Env} {R : Room} {s : State} {m : MethodId} {args : Array Value} {below : List Frame} {meth : Method} {c : Code} {H : Heap} {locs : List Loc} {cells slots : Nat} {Q : State → Prop}
variable {cc : ByteArray} {pc : Nat} {ls : Array Slot} {rest : List Value} {A : Nat → Prop} {H0 : Heap}
variable {z : mdZ} {xn : Int} {xac : Int → Int} {xdy : Int → Int} {xam : Int → Int} {xof : Int → Int} {xfl : Int → Int} {xba : Int} {xnb : Int} {xob : Int → Int} {y : MethodName} {bytes : ByteArray} {maxL nL n index : Nat} {rm : Room} {as st0 : List Value}
theorem md_call {ret : FieldType} {post : Int → mdS → Prop} (E : mdE z A p c cc s m args) (hml : c.maxLocals = nL) (w : mdG z A s.heap xn xac xdy xam xof xfl xba xnb xob H locs) (hM : mdM l y bytes maxL ret rm z (mdC xn xac xdy xam xof xfl xba xnb xob) as post) (h1 : Cond.methodLink RX1 index y ∈ lw_all) (h2 : Cond.instanceMethod y ∈ lw_all) (h3 : Cond.selects RX1 y y ∈ lw_all) (h5 : Cond.code y bytes maxL (some ret) ∈ lw_all) (hrc : rm.cells = 0) (hrs : rm.slots = 0) (hd : y.cls = RX1 ∧ y.cls ≠ "java/lang/invoke/MethodHandle" ∧ y.cls ≠ "java/lang/invoke/VarHandle" ∧ (parseMethodDescriptor y.desc).map (fun d => d.parameters.length) = some n) (hR : rm.frames + 1 ≤ R.frames ∧ 8 + (maxL + 11) + rm.locals ≤ R.locals) (hn : as.length = n) (hls : ls.size = nL) (hst : st0 = as.reverse ++ .ref z.2.1 :: rest) (hW : (rest.map fun v => v.category).sum ≤ 8) (hdg : decode cc pc = .ok (.invokevirtual index, 3)) (kk : ∀ (k : Int) (u' : mdS) (H1 : Heap) (locs1 : List Loc), post k u' → mdH z A s.heap u' H1 locs1 → W p l e R s m args below meth c H1 locs1 0 0 Q (F0 m (pc + 3) ls (.int (zi k) :: rest))) : W p l e R s m args below meth c H locs 0 0 Q (F0 m pc ls st0) := by
  obtain ⟨hx, hb, hts, hown, hK, hA⟩ := E
  obtain ⟨hP, hD, hS⟩ : mdH z A s.heap (mdC xn xac xdy xam xof xfl xba xnb xob) H locs := w
  have hFc : ∀ q, va_A (mdW z (mdC xn xac xdy xam xof xfl xba xnb xob)) H.size q → A q := va_free (wc := mdW z (mdC xn xac xdy xam xof xfl xba xnb xob)) hD hS hA [0, 1, 2, 3, 4, 5, 6] rfl
  refine va_calli (va_runV (As := as) (rest := rest) ⟨hx, hb, hml, hown, hts⟩ (hM H.size) (cwV n hts (lw_V h1 h2 h3 q21 h5) rfl hrc hrs hd hR) ⟨fun a U g mk q => by obtain ⟨q0, q1, qP, qK, qD⟩ := q; exact ⟨q0, q1, qP, va_K.moved (u := U) (U := U.calling g mk a) (Vm.Alike.refl U.vm) qK, qD⟩, va_recv hK hP (ci := 1) (q0 := 0) rfl rfl, fun U hU hW => ⟨rfl, by rw [hU], by rw [hU]; exact hP, va_K.moved hW.alike hK, hD.weaken (fun _ _ _ _ => trivial)⟩⟩ rfl hn hls hst (lv_room hW) hdg ⟨Nat.zero_le _, Nat.zero_le _⟩) hS (fun q _ h => hFc q h) hFc (fun r u' t H1 locs1 ht hvm hw hB hz1 hk1 hS => ?_)
  obtain ⟨k, rfl, hw⟩ := hw
  obtain ⟨hP1, hK1, hD1⟩ := hB
  rw [ht] at hP1
  exact kk k u' H1 locs1 hw (And.intro hP1 (And.intro (hD1.weaken (fun _ _ _ h => hFc _ h)) hS))
theorem md_callV {post : mdS → Prop} (E : mdE z A p c cc s m args) (hml : c.maxLocals = nL) (w : mdG z A s.heap xn xac xdy xam xof xfl xba xnb xob H locs) (hM : mdV l y bytes maxL rm z (mdC xn xac xdy xam xof xfl xba xnb xob) as post) (h1 : Cond.methodLink RX1 index y ∈ lw_all) (h2 : Cond.instanceMethod y ∈ lw_all) (h3 : Cond.selects RX1 y y ∈ lw_all) (h5 : Cond.code y bytes maxL none ∈ lw_all) (hrc : rm.cells = 0) (hrs : rm.slots = 0) (hd : y.cls = RX1 ∧ y.cls ≠ "java/lang/invoke/MethodHandle" ∧ y.cls ≠ "java/lang/invoke/VarHandle" ∧ (parseMethodDescriptor y.desc).map (fun d => d.parameters.length) = some n) (hR : rm.frames + 1 ≤ R.frames ∧ 8 + (maxL + 11) + rm.locals ≤ R.locals) (hn : as.length = n) (hls : ls.size = nL) (hst : st0 = as.reverse ++ .ref z.2.1 :: rest) (hW : (rest.map fun v => v.category).sum ≤ 8) (hdg : decode cc pc = .ok (.invokevirtual index, 3)) (kk : ∀ (u' : mdS) (H1 : Heap) (locs1 : List Loc), post u' → mdH z A s.heap u' H1 locs1 → W p l e R s m args below meth c H1 locs1 0 0 Q (F0 m (pc + 3) ls rest)) : W p l e R s m args below meth c H locs 0 0 Q (F0 m pc ls st0) := by
  obtain ⟨hx, hb, hts, hown, hK, hA⟩ := E
  obtain ⟨hP, hD, hS⟩ : mdH z A s.heap (mdC xn xac xdy xam xof xfl xba xnb xob) H locs := w
  have hFc : ∀ q, va_A (mdW z (mdC xn xac xdy xam xof xfl xba xnb xob)) H.size q → A q := va_free (wc := mdW z (mdC xn xac xdy xam xof xfl xba xnb xob)) hD hS hA [0, 1, 2, 3, 4, 5, 6] rfl
  refine va_callv (va_runV (As := as) (rest := rest) ⟨hx, hb, hml, hown, hts⟩ (hM H.size) (cwV n hts (lw_V h1 h2 h3 q21 h5) rfl hrc hrs hd hR) ⟨fun a U g mk q => by obtain ⟨q0, q1, qP, qK, qD⟩ := q; exact ⟨q0, q1, qP, va_K.moved (u := U) (U := U.calling g mk a) (Vm.Alike.refl U.vm) qK, qD⟩, va_recv hK hP (ci := 1) (q0 := 0) rfl rfl, fun U hU hW => ⟨rfl, by rw [hU], by rw [hU]; exact hP, va_K.moved hW.alike hK, hD.weaken (fun _ _ _ _ => trivial)⟩⟩ rfl hn hls hst (lv_room hW) hdg ⟨Nat.zero_le _, Nat.zero_le _⟩) hS (fun q _ h => hFc q h) hFc (fun u' t H1 locs1 ht hvm hw hB hz1 hk1 hS => ?_)
  obtain ⟨hP1, hK1, hD1⟩ := hB
  rw [ht] at hP1
  exact kk u' H1 locs1 hw (And.intro hP1 (And.intro (hD1.weaken (fun _ _ _ h => hFc _ h)) hS))
end mdC
end
section
/-! THE MATHS: sums of entries, running sums, nodes, the tree (no program in sight) -/
/-- f 0 + .. + f (n - 1) -/
def es (f : Int → Int) : Nat → Int
  | 0 => 0
  | n + 1 => es f n + f (n : Int)
theorem es_congr {f g : Int → Int} : ∀ n : Nat, (∀ e : Int, 0 ≤ e → e < n → f e = g e) → es f n = es g n := by
  intro n
  induction n with
  | zero => intro _; rfl
  | succ n ih =>
    intro h
    show es f n + f (n : Int) = es g n + g (n : Int)
    rw [ih (fun e h1 h2 => h e h1 (by omega)), h n (by omega) (by omega)]
theorem es_bound {f : Int → Int} : ∀ n : Nat, (∀ e : Int, 0 ≤ e → e < n → -10000 ≤ f e ∧ f e ≤ 10000) → -(10000 * (n : Int)) ≤ es f n ∧ es f n ≤ 10000 * (n : Int) := by
  intro n
  induction n with
  | zero => intro _; simp [es]
  | succ n ih =>
    intro h
    have h1 := ih (fun e a b => h e a (by omega))
    have h2 := h n (by omega) (by omega)
    show -(10000 * ((n + 1 : Nat) : Int)) ≤ es f n + f (n : Int) ∧ es f n + f (n : Int) ≤ 10000 * ((n + 1 : Nat) : Int)
    omega
theorem es_bit {f : Int → Int} : ∀ n : Nat, (∀ e : Int, 0 ≤ e → e < n → 0 ≤ f e ∧ f e ≤ 1) → 0 ≤ es f n ∧ es f n ≤ (n : Int) := by
  intro n
  induction n with
  | zero => intro _; simp [es]
  | succ n ih =>
    intro h
    have h1 := ih (fun e a b => h e a (by omega))
    have h2 := h n (by omega) (by omega)
    show 0 ≤ es f n + f (n : Int) ∧ es f n + f (n : Int) ≤ ((n + 1 : Nat) : Int)
    omega
theorem es_set {f g : Int → Int} (j : Int) (hj : 0 ≤ j) (h : ∀ e : Int, e ≠ j → f e = g e) : ∀ n : Nat, j < n → es f n = es g n + (f j - g j) := by
  intro n
  induction n with
  | zero => intro h1; omega
  | succ n ih =>
    intro h1
    show es f n + f (n : Int) = es g n + g (n : Int) + (f j - g j)
    by_cases q : j = n
    · rw [es_congr (g := g) n (fun e h2 h3 => h e (by omega)), q]
      omega
    · rw [ih (by omega), h n (by omega)]
      omega
/-- what an entry adds to the balance of account a on the days before k -/
def ew (ac dy am of : Int → Int) (a k e : Int) : Int := if of e = 0 ∧ ac e = a ∧ dy e < k then am e else 0
/-- the balance of account a on day k - 1 -/
def pb (n : Int) (ac dy am of : Int → Int) (a k : Int) : Int := es (ew ac dy am of a k) n.toNat
theorem pb_congr {n : Int} {ac dy am of ac' dy' am' of' : Int → Int} (h : ∀ e, 0 ≤ e → e < n → ac e = ac' e ∧ dy e = dy' e ∧ am e = am' e ∧ of e = of' e) (a k : Int) : pb n ac dy am of a k = pb n ac' dy' am' of' a k := by
  refine es_congr _ (fun e h1 h2 => ?_)
  obtain ⟨e1, e2, e3, e4⟩ := h e h1 (by omega)
  unfold ew
  rw [e1, e2, e3, e4]
theorem pb_bound {n : Int} {ac dy am of : Int → Int} (hn : n ≤ 60) (h : ∀ e, 0 ≤ e → e < n → -10000 ≤ am e ∧ am e ≤ 10000) (a k : Int) : -600000 ≤ pb n ac dy am of a k ∧ pb n ac dy am of a k ≤ 600000 := by
  have h1 := es_bound (f := ew ac dy am of a k) n.toNat (fun e h1 h2 => by
    have := h e h1 (by omega)
    unfold ew
    split <;> omega)
  unfold pb
  omega
theorem pb_0 {n : Int} {ac dy am of : Int → Int} (h : ∀ e, 0 ≤ e → e < n → 0 ≤ dy e) (a : Int) : pb n ac dy am of a 0 = 0 := by
  unfold pb
  rw [es_congr (g := fun _ => 0) _ (fun e h1 h2 => by
    have := h e h1 (by omega)
    unfold ew
    rw [if_neg (by omega)])]
  generalize n.toNat = m
  induction m with
  | zero => rfl
  | succ m ih => show es _ m + 0 = 0; omega
theorem pb_tail {n : Int} {ac dy am of : Int → Int} (h : ∀ e, 0 ≤ e → e < n → dy e < 48) (a k : Int) (hk : 48 ≤ k) : pb n ac dy am of a k = pb n ac dy am of a 48 := by
  refine es_congr _ (fun e h1 h2 => ?_)
  have := h e h1 (by omega)
  unfold ew
  by_cases q : of e = 0 ∧ ac e = a
  · rw [if_pos ⟨q.1, q.2, by omega⟩, if_pos ⟨q.1, q.2, by omega⟩]
  · rw [if_neg (fun z => q ⟨z.1, z.2.1⟩), if_neg (fun z => q ⟨z.1, z.2.1⟩)]
theorem pb_succ {n : Int} (hn : 0 ≤ n) (ac dy am of : Int → Int) (a k : Int) : pb (n + 1) ac dy am of a k = pb n ac dy am of a k + ew ac dy am of a k n := by
  unfold pb
  have e1 : (n + 1).toNat = n.toNat + 1 := by omega
  rw [e1]
  show es _ n.toNat + ew ac dy am of a k (n.toNat : Int) = _
  rw [Int.toNat_of_nonneg hn]
theorem pb_push {n : Int} (hn : 0 ≤ n) (ac dy am of : Int → Int) (b d x a k : Int) : pb (n + 1) (up ac n b) (up dy n d) (up am n x) (up of n 0) a k = pb n ac dy am of a k + (if b = a ∧ d < k then x else 0) := by
  rw [pb_succ hn, pb_congr (ac' := ac) (dy' := dy) (am' := am) (of' := of) (fun e h1 h2 => ⟨up_n _ _ (by omega), up_n _ _ (by omega), up_n _ _ (by omega), up_n _ _ (by omega)⟩)]
  unfold ew
  rw [up_s, up_s, up_s, up_s]
  simp
/-- an entry is cancelled -/
theorem pb_off {n : Int} {ac dy am of : Int → Int} {e : Int} (h0 : 0 ≤ e) (h1 : e < n) (ho : of e = 0) (a k : Int) : pb n ac dy am (up of e 1) a k = pb n ac dy am of a k + (if ac e = a ∧ dy e < k then -(am e) else 0) := by
  unfold pb
  rw [es_set (g := ew ac dy am of a k) e h0 (fun i hi => by unfold ew; rw [up_n _ _ hi]) n.toNat (by omega)]
  unfold ew
  rw [up_s, ho]
  by_cases q : ac e = a ∧ dy e < k
  · rw [if_neg (by omega), if_pos ⟨rfl, q⟩, if_pos q]
    omega
  · rw [if_neg (by omega), if_neg (fun z => q z.2), if_neg q]
    omega
/-- an entry comes back -/
theorem pb_on {n : Int} {ac dy am of : Int → Int} {e : Int} (h0 : 0 ≤ e) (h1 : e < n) (ho : of e = 1) (a k : Int) : pb n ac dy am (up of e 0) a k = pb n ac dy am of a k + (if ac e = a ∧ dy e < k then am e else 0) := by
  unfold pb
  rw [es_set (g := ew ac dy am of a k) e h0 (fun i hi => by unfold ew; rw [up_n _ _ hi]) n.toNat (by omega)]
  unfold ew
  rw [up_s, ho]
  by_cases q : ac e = a ∧ dy e < k
  · rw [if_pos ⟨rfl, q⟩, if_neg (by omega), if_pos q]
    omega
  · rw [if_neg (fun z => q z.2), if_neg (by omega), if_neg q]
    omega
/-- p 1 + .. + p n -/
def gs (p : Int → Int) : Nat → Int
  | 0 => 0
  | n + 1 => gs p n + p ((n : Int) + 1)
theorem gs_succ (p : Int → Int) {y : Int} (hy : 0 ≤ y) : gs p (y + 1).toNat = gs p y.toNat + p (y + 1) := by
  have e1 : (y + 1).toNat = y.toNat + 1 := by omega
  rw [e1]
  show gs p y.toNat + p ((y.toNat : Int) + 1) = _
  rw [Int.toNat_of_nonneg hy]
/-- the sum of the running sums over the days x .. y - 1, from 0 at their start -/
def aa (p : Int → Int) (x y : Int) : Int := gs p y.toNat - gs p x.toNat - (y - x) * p x
theorem aa_self (p : Int → Int) (x : Int) : aa p x x = 0 := by
  unfold aa
  rw [Int.sub_self, Int.sub_self, Int.zero_mul]
  omega
theorem aa_step (p : Int → Int) (x : Int) {y : Int} (hy : 0 ≤ y) : aa p x (y + 1) = aa p x y + (p (y + 1) - p x) := by
  unfold aa
  rw [gs_succ p hy, show y + 1 - x = (y - x) + 1 by omega, Int.add_mul]
  omega
theorem aa_join (p : Int → Int) (x y z : Int) : aa p x y + aa p y z + (p y - p x) * (z - y) = aa p x z := by
  unfold aa
  grind
theorem aa_congr {p q : Int → Int} {x : Int} (hx : 0 ≤ x) : ∀ n : Nat, (∀ k, x < k → k ≤ x + n → q k - q x = p k - p x) → aa q x (x + n) = aa p x (x + n) := by
  intro n
  induction n with
  | zero =>
    intro _
    rw [show x + ((0 : Nat) : Int) = x by omega, aa_self, aa_self]
  | succ n ih =>
    intro h
    rw [show x + ((n + 1 : Nat) : Int) = (x + n) + 1 by omega, aa_step q x (by omega), aa_step p x (by omega), ih (fun k h1 h2 => h k h1 (by omega)), h (x + n + 1) (by omega) (by omega)]
/-- the least running sum over the days x .. y - 1 -/
def mn (p : Int → Int) (x y m : Int) : Prop := (∀ k, x < k → k ≤ y → m ≤ p k - p x) ∧ ∃ k, x < k ∧ k ≤ y ∧ m = p k - p x
theorem mn_join {p : Int → Int} {x y z m1 m2 m : Int} (h1 : mn p x y m1) (h2 : mn p y z m2) (a : m ≤ m1) (b : m ≤ (p y - p x) + m2) (c : m = m1 ∨ m = (p y - p x) + m2) (hxy : x ≤ y) (hyz : y ≤ z) : mn p x z m := by
  refine ⟨fun k h3 h4 => ?_, ?_⟩
  · rcases Int.lt_or_le y k with q | q
    · have := h2.1 k q h4
      omega
    · have := h1.1 k h3 q
      omega
  · rcases c with c | c
    · obtain ⟨k, k1, k2, k3⟩ := h1.2
      exact ⟨k, k1, by omega, by omega⟩
    · obtain ⟨k, k1, k2, k3⟩ := h2.2
      exact ⟨k, by omega, k2, by omega⟩
theorem mn_bound {p : Int → Int} {x y m : Int} (h : mn p x y m) (hb : ∀ k, 0 ≤ k → k ≤ 64 → -600000 ≤ p k ∧ p k ≤ 600000) (hx : 0 ≤ x) (hy : y ≤ 64) : -1200000 ≤ m ∧ m ≤ 1200000 := by
  obtain ⟨k, k1, k2, k3⟩ := h.2
  have e1 := hb k (by omega) (by omega)
  have e2 := hb x (by omega) (by omega)
  omega
theorem mn_eq {p : Int → Int} {x y m m' : Int} (h : mn p x y m) (h' : mn p x y m') : m = m' := by
  obtain ⟨k, k1, k2, k3⟩ := h.2
  obtain ⟨j, j1, j2, j3⟩ := h'.2
  have := h.1 j j1 j2
  have := h'.1 k k1 k2
  omega
/-- what a node over the days x .. y - 1 keeps -/
def nd (p : Int → Int) (x y c m r : Int) : Prop := c = p y - p x ∧ mn p x y m ∧ r = aa p x y
theorem nd_join {p : Int → Int} {x y z c1 m1 r1 c2 m2 r2 m : Int} (h1 : nd p x y c1 m1 r1) (h2 : nd p y z c2 m2 r2) (a : m ≤ m1) (b : m ≤ c1 + m2) (c : m = m1 ∨ m = c1 + m2) (hxy : x ≤ y) (hyz : y ≤ z) : nd p x z (c1 + c2) m (r1 + r2 + c1 * (z - y)) := by
  obtain ⟨e1, g1, f1⟩ := h1
  obtain ⟨e2, g2, f2⟩ := h2
  subst e1
  refine ⟨by omega, mn_join g1 g2 a b c hxy hyz, ?_⟩
  rw [f1, f2, aa_join]
theorem nd_leaf {p : Int → Int} {x : Int} (hx : 0 ≤ x) {c : Int} (hc : c = p (x + 1) - p x) : nd p x (x + 1) c c c := by
  refine ⟨hc, ⟨fun k h1 h2 => ?_, x + 1, by omega, by omega, hc⟩, ?_⟩
  · rw [show k = x + 1 by omega]
    omega
  · rw [aa_step p x hx, aa_self]
    omega
theorem nd_congr {p q : Int → Int} {x y c m r : Int} (hx : 0 ≤ x) (hxy : x < y) (h : ∀ k, x < k → k ≤ y → q k - q x = p k - p x) (hn : nd p x y c m r) : nd q x y c m r := by
  obtain ⟨e1, ⟨g1, k, k1, k2, k3⟩, f1⟩ := hn
  refine ⟨?_, ⟨fun k h1 h2 => ?_, k, k1, k2, ?_⟩, ?_⟩
  · rw [h y hxy (by omega)]
    exact e1
  · rw [h k h1 h2]
    exact g1 k h1 h2
  · rw [h k k1 k2]
    exact k3
  · have := aa_congr (p := p) (q := q) hx (y - x).toNat (fun k h1 h2 => h k h1 (by omega))
    rw [show x + ((y - x).toNat : Int) = y by omega] at this
    rw [this]
    exact f1
/-- the tree: the node j at height h stands over the days j * 2 ^ h - 64 .. -/
def okn (h : Nat) (j : Int) : Prop := h ≤ 6 ∧ 64 ≤ j * 2 ^ h ∧ j * 2 ^ h + 2 ^ h ≤ 128
def tr (ch le ar : Int → Int) (P : Int → Int → Int) : Prop := ∀ (a : Int) (h : Nat) (j : Int), 0 ≤ a → a < 4 → okn h j → nd (P a) (j * 2 ^ h - 64) (j * 2 ^ h - 64 + 2 ^ h) (ch (128 * a + j)) (le (128 * a + j)) (ar (128 * a + j))
theorem pw (h : Nat) (hh : h ≤ 6) : (2 : Int) ^ h = 1 ∧ h = 0 ∨ (2 : Int) ^ h = 2 ∧ h = 1 ∨ (2 : Int) ^ h = 4 ∧ h = 2 ∨ (2 : Int) ^ h = 8 ∧ h = 3 ∨ (2 : Int) ^ h = 16 ∧ h = 4 ∨ (2 : Int) ^ h = 32 ∧ h = 5 ∨ (2 : Int) ^ h = 64 ∧ h = 6 := by
  rcases (show h = 0 ∨ h = 1 ∨ h = 2 ∨ h = 3 ∨ h = 4 ∨ h = 5 ∨ h = 6 by omega) with rfl | rfl | rfl | rfl | rfl | rfl | rfl <;> decide
theorem pw_pos (h : Nat) : (0 : Int) < 2 ^ h := Int.pow_pos (by decide)
theorem pw_s (h : Nat) : (2 : Int) ^ (h + 1) = 2 * 2 ^ h := by rw [Int.pow_succ, Int.mul_comm]
theorem okn_j {h : Nat} {j : Int} (hn : okn h j) : 1 ≤ j ∧ j ≤ 127 := by
  obtain ⟨h1, h2, h3⟩ := hn
  rcases pw h h1 with ⟨e, -⟩ | ⟨e, -⟩ | ⟨e, -⟩ | ⟨e, -⟩ | ⟨e, -⟩ | ⟨e, -⟩ | ⟨e, -⟩ <;> rw [e] at h2 h3 <;> omega
theorem okn_inj {h h' : Nat} {j : Int} (hn : okn h j) (hn' : okn h' j) : h = h' := by
  obtain ⟨h1, h2, h3⟩ := hn
  obtain ⟨h1', h2', h3'⟩ := hn'
  rcases pw h h1 with ⟨e, f⟩ | ⟨e, f⟩ | ⟨e, f⟩ | ⟨e, f⟩ | ⟨e, f⟩ | ⟨e, f⟩ | ⟨e, f⟩ <;> rw [e] at h2 h3 <;>
  rcases pw h' h1' with ⟨e', f'⟩ | ⟨e', f'⟩ | ⟨e', f'⟩ | ⟨e', f'⟩ | ⟨e', f'⟩ | ⟨e', f'⟩ | ⟨e', f'⟩ <;> rw [e'] at h2' h3' <;> omega
/-- the children of a node -/
theorem okn_l {h : Nat} {j : Int} (hn : okn (h + 1) j) : okn h (2 * j) ∧ okn h (2 * j + 1) ∧ (2 * j) * 2 ^ h = j * 2 ^ (h + 1) ∧ (2 * j + 1) * 2 ^ h = j * 2 ^ (h + 1) + 2 ^ h := by
  obtain ⟨h1, h2, h3⟩ := hn
  have e1 : (2 * j) * 2 ^ h = j * 2 ^ (h + 1) := by rw [pw_s, Int.mul_comm 2 j, Int.mul_assoc]
  have e2 : (2 * j + 1) * 2 ^ h = j * 2 ^ (h + 1) + 2 ^ h := by rw [Int.add_mul, e1, Int.one_mul]
  have e3 := pw_pos h
  have e4 := pw_s h
  refine ⟨⟨by omega, by omega, by omega⟩, ⟨by omega, by omega, by omega⟩, e1, e2⟩
/-- an entry's change on the tree's running sums -/
def bump (P : Int → Int → Int) (a d x : Int) : Int → Int → Int := fun b k => P b k + (if a = b ∧ d < k then x else 0)
theorem bump_ne (P : Int → Int → Int) {a b : Int} (d x k : Int) (h : a ≠ b) : bump P a d x b k = P b k := by
  unfold bump
  rw [if_neg (fun z => h z.1)]
  omega
theorem bump_lo (P : Int → Int → Int) (a b : Int) {d k : Int} (x : Int) (h : k ≤ d) : bump P a d x b k = P b k := by
  unfold bump
  rw [if_neg (by omega)]
  omega
theorem bump_hi (P : Int → Int → Int) (a : Int) {d k : Int} (x : Int) (h : d < k) : bump P a d x a k = P a k + x := by
  unfold bump
  rw [if_pos ⟨rfl, h⟩]
/-- the tree on its way: the nodes above height i over day d are still to be worked out -/
def trI (ch le ar : Int → Int) (P : Int → Int → Int) (a0 d : Int) (i : Nat) : Prop := ∀ (a : Int) (h : Nat) (j : Int), 0 ≤ a → a < 4 → okn h j → (a ≠ a0 ∨ h ≤ i ∨ ¬ (j * 2 ^ h ≤ 64 + d ∧ 64 + d < j * 2 ^ h + 2 ^ h)) → nd (P a) (j * 2 ^ h - 64) (j * 2 ^ h - 64 + 2 ^ h) (ch (128 * a + j)) (le (128 * a + j)) (ar (128 * a + j))
theorem trI_6 {ch le ar : Int → Int} {P : Int → Int → Int} {a0 d : Int} (h : trI ch le ar P a0 d 6) : tr ch le ar P := fun a k j h1 h2 h3 => h a k j h1 h2 h3 (Or.inr (Or.inl h3.1))
theorem trI_0 {ch le ar : Int → Int} {P : Int → Int → Int} {a0 d x : Int} (ht : tr ch le ar P) (ha : 0 ≤ a0 ∧ a0 < 4) (hd : 0 ≤ d ∧ d < 64) {c : Int} (hc : c = ch (128 * a0 + (64 + d)) + x) : trI (up ch (128 * a0 + (64 + d)) c) (up le (128 * a0 + (64 + d)) c) (up ar (128 * a0 + (64 + d)) c) (bump P a0 d x) a0 d 0 := by
  intro a h j h1 h2 h3 h4
  have hj := okn_j h3
  have hp := pw_pos h
  by_cases q : 128 * a + j = 128 * a0 + (64 + d)
  · have qa : a = a0 := by omega
    have qj : j = 64 + d := by omega
    subst qa
    have q0 : okn 0 j := ⟨by omega, by simp; omega, by simp; omega⟩
    have qh := okn_inj h3 q0
    subst qh
    rw [q, up_s, up_s, up_s, qj]
    have t := (ht a 0 j h1 h2 h3).1
    rw [q, qj] at t
    have e1 : (64 + d) * 2 ^ 0 - 64 = d := by simp; omega
    rw [e1] at t ⊢
    have e2 : d + 2 ^ 0 = d + 1 := by simp
    rw [e2] at t ⊢
    refine nd_leaf hd.1 ?_
    rw [bump_hi P a x (by omega), bump_lo P a a x (by omega), hc, t]
    omega
  · rw [up_n _ _ q, up_n _ _ q, up_n _ _ q]
    have t := ht a h j h1 h2 h3
    have z1 := h3.2.1
    by_cases qa : a = a0
    · subst qa
      have h5 : ¬ (j * 2 ^ h ≤ 64 + d ∧ 64 + d < j * 2 ^ h + 2 ^ h) := by
        rcases h4 with h4 | h4 | h4
        · exact absurd rfl h4
        · have : h = 0 := by omega
          subst this
          simp
          omega
        · exact h4
      refine nd_congr (by omega) (by omega) (fun k k1 k2 => ?_) t
      by_cases z : d < j * 2 ^ h - 64
      · rw [bump_hi P a x (by omega), bump_hi P a x (by omega)]
        omega
      · rw [bump_lo P a a x (by omega), bump_lo P a a x (by omega)]
    · refine nd_congr (by omega) (by omega) (fun k k1 k2 => ?_) t
      rw [bump_ne P d x k (Ne.symm qa), bump_ne P d x _ (Ne.symm qa)]
/-- one level up -/
theorem trI_up {ch le ar : Int → Int} {P : Int → Int → Int} {a0 d : Int} {i : Nat} {j m : Int} (ht : trI ch le ar P a0 d i) (ha : 0 ≤ a0 ∧ a0 < 4) (hj : okn (i + 1) j) (hd : j * 2 ^ (i + 1) ≤ 64 + d ∧ 64 + d < j * 2 ^ (i + 1) + 2 ^ (i + 1))
    (h1 : m ≤ le (128 * a0 + 2 * j)) (h2 : m ≤ ch (128 * a0 + 2 * j) + le (128 * a0 + 2 * j + 1)) (h3 : m = le (128 * a0 + 2 * j) ∨ m = ch (128 * a0 + 2 * j) + le (128 * a0 + 2 * j + 1)) :
    trI (up ch (128 * a0 + j) (ch (128 * a0 + 2 * j) + ch (128 * a0 + 2 * j + 1))) (up le (128 * a0 + j) m) (up ar (128 * a0 + j) (ar (128 * a0 + 2 * j) + ar (128 * a0 + 2 * j + 1) + ch (128 * a0 + 2 * j) * 2 ^ i)) P a0 d (i + 1) := by
  obtain ⟨c1, c2, c3, c4⟩ := okn_l hj
  have hp := pw_pos i
  have hs := pw_s i
  intro a h k g1 g2 g3 g4
  by_cases q : 128 * a + k = 128 * a0 + j
  · have z1 := okn_j g3
    have z2 := okn_j hj
    have qa : a = a0 := by omega
    have qk : k = j := by omega
    subst qa
    subst qk
    have qh := okn_inj g3 hj
    subst qh
    rw [up_s, up_s, up_s]
    have tl := ht a i (2 * k) g1 g2 c1 (Or.inr (Or.inl (Nat.le_refl _)))
    have tr' := ht a i (2 * k + 1) g1 g2 c2 (Or.inr (Or.inl (Nat.le_refl _)))
    rw [c3] at tl
    rw [c4, show k * 2 ^ (i + 1) + 2 ^ i - 64 = k * 2 ^ (i + 1) - 64 + 2 ^ i by omega, ← Int.add_assoc] at tr'
    have t := nd_join tl tr' h1 h2 h3 (by omega) (by omega)
    rw [show k * 2 ^ (i + 1) - 64 + 2 ^ i + 2 ^ i = k * 2 ^ (i + 1) - 64 + 2 ^ (i + 1) by omega, show k * 2 ^ (i + 1) - 64 + 2 ^ (i + 1) - (k * 2 ^ (i + 1) - 64 + 2 ^ i) = 2 ^ i by omega] at t
    exact t
  · rw [up_n _ _ q, up_n _ _ q, up_n _ _ q]
    refine ht a h k g1 g2 g3 ?_
    rcases g4 with g4 | g4 | g4
    · exact Or.inl g4
    · by_cases z : h ≤ i
      · exact Or.inr (Or.inl z)
      · have zh : h = i + 1 := by omega
        by_cases za : a = a0
        · refine Or.inr (Or.inr (fun zz => q ?_))
          subst zh
          have y1 : k = j := by
            rcases Int.lt_trichotomy k j with y | y | y
            · have : k * 2 ^ (i + 1) + 2 ^ (i + 1) ≤ j * 2 ^ (i + 1) := by
                have := Int.mul_le_mul_of_nonneg_right (show k + 1 ≤ j by omega) (Int.le_of_lt (pw_pos (i + 1)))
                rw [Int.add_mul, Int.one_mul] at this
                exact this
              omega
            · exact y
            · have : j * 2 ^ (i + 1) + 2 ^ (i + 1) ≤ k * 2 ^ (i + 1) := by
                have := Int.mul_le_mul_of_nonneg_right (show j + 1 ≤ k by omega) (Int.le_of_lt (pw_pos (i + 1)))
                rw [Int.add_mul, Int.one_mul] at this
                exact this
              omega
          omega
        · exact Or.inl za
    · exact Or.inr (Or.inr g4)
/-- the widest node from x on that doesn't reach behind t - 1 (widest), and how many of them up to t (walk) -/
def wl (x t : Nat) : Nat → Nat → Nat
  | 0, h => h
  | n + 1, h => if x / 2 ^ h % 2 = 0 ∧ x + 2 ^ (h + 1) ≤ t then wl x t n (h + 1) else h
def wf (x t : Nat) : Nat := wl x t 6 0
def sn (t : Nat) : Nat → Nat → Nat
  | 0, _ => 0
  | n + 1, x => if x < t then sn t n (x + 2 ^ wf x t) + 1 else 0
theorem wf_ok : ∀ t, t < 49 → ∀ x, x < t → (x % 2 ^ wf x t = 0 ∧ x + 2 ^ wf x t ≤ t ∧ wf x t ≤ 5) ∧ sn t 15 x = sn t 15 (x + 2 ^ wf x t) + 1 := by decide +kernel
theorem sn_le : ∀ t, t < 49 → ∀ x, x < 49 → sn t 15 x ≤ 14 := by decide +kernel
theorem sn_0 {t x : Nat} (h : sn t 15 x = 0) : t ≤ x := by
  by_cases q : x < t
  · have : sn t 15 x = sn t 14 (x + 2 ^ wf x t) + 1 := if_pos q
    omega
  · omega
/-- the same over Int -/
theorem wf_z {x t : Int} (hx : 0 ≤ x) (hxt : x < t) (ht : t ≤ 48) : wf x.toNat t.toNat ≤ 5 ∧ (∃ j : Int, j = (64 + x) / 2 ^ wf x.toNat t.toNat ∧ j * 2 ^ wf x.toNat t.toNat = 64 + x ∧ okn (wf x.toNat t.toNat) j) ∧ x + 2 ^ wf x.toNat t.toNat ≤ t ∧ sn t.toNat 15 x.toNat = sn t.toNat 15 (x + 2 ^ wf x.toNat t.toNat).toNat + 1 := by
  obtain ⟨⟨h1, h2, h3⟩, h4⟩ := wf_ok t.toNat (by omega) x.toNat (by omega)
  have hp : ((2 ^ wf x.toNat t.toNat : Nat) : Int) = 2 ^ wf x.toNat t.toNat := Int.natCast_pow 2 _
  generalize wf x.toNat t.toNat = h at h1 h2 h3 h4 hp ⊢
  have e0 : x + 2 ^ h ≤ t := by
    rw [← hp]
    omega
  have e1 : (x + 2 ^ h).toNat = x.toNat + 2 ^ h := by
    rw [← hp]
    omega
  refine ⟨h3, ⟨(64 + x) / 2 ^ h, rfl, ?_, ?_⟩, e0, by rw [e1]; exact h4⟩
  · have e2 : ((x.toNat % 2 ^ h : Nat) : Int) = x % 2 ^ h := by
      rw [Int.natCast_emod, hp, Int.toNat_of_nonneg hx]
    rw [h1] at e2
    rcases pw h (by omega) with ⟨e, -⟩ | ⟨e, -⟩ | ⟨e, -⟩ | ⟨e, -⟩ | ⟨e, -⟩ | ⟨e, -⟩ | ⟨e, -⟩ <;> rw [e] at e2 ⊢ <;> omega
  · have e2 : ((x.toNat % 2 ^ h : Nat) : Int) = x % 2 ^ h := by
      rw [Int.natCast_emod, hp, Int.toNat_of_nonneg hx]
    rw [h1] at e2
    unfold okn
    rcases pw h (by omega) with ⟨e, -⟩ | ⟨e, -⟩ | ⟨e, -⟩ | ⟨e, -⟩ | ⟨e, -⟩ | ⟨e, -⟩ | ⟨e, -⟩ <;> rw [e] at e2 e0 ⊢ <;> omega
end
section
/-! BackdatedBook: its static checks, isEntry, widest -/
set_option maxHeartbeats 4000000 in
set_option maxRecDepth 100000 in
theorem bk_isAccount (l : Launch) (a : Int) (ha : -2147483648 ≤ a ∧ a ≤ 2147483647) : stM l yX0_isAccount cX0_isAccount 1 .boolean ({ frames := 0, cells := 0, slots := 0, locals := 0 }) [.int (zi a)] (fun k => (k = 1 ∧ (0 ≤ a ∧ a < 4)) ∨ (k = 0 ∧ ¬ (0 ≤ a ∧ a < 4))) := by
  refine st_enter (by decide) (Nat.le_of_ble_eq_true rfl) ?_
  intro p e R s m args below meth c Q hx hb rt ls hl
  have hl : lv_has ls 1 [(0, .int (zi a))] := hl
  refine lv_iload_n hx hb dX0_isAccount_0 rfl (lv_at hl 0 rfl) ?_
  refine zr_if_lt (tgt := 13) hx hb dX0_isAccount_1 (by decide) (by omega) (fun c_1 => ?_) (fun c_1 => ?_)
  · skip
    refine zr_iconst hx hb dX0_isAccount_13 ?_
    exact rt dX0_isAccount_14 (by omega) (by decide)
  · skip
    refine lv_iload_n hx hb dX0_isAccount_4 rfl (lv_at hl 0 rfl) ?_
    refine zr_iconst hx hb dX0_isAccount_5 ?_
    refine zr_icmp_ge (tgt := 13) hx hb dX0_isAccount_6 (by decide) (by omega) (by omega) (fun c_6 => ?_) (fun c_6 => ?_)
    · skip
      refine zr_iconst hx hb dX0_isAccount_13 ?_
      exact rt dX0_isAccount_14 (by omega) (by decide)
    · skip
      refine zr_iconst hx hb dX0_isAccount_9 ?_
      refine lv_goto (tgt := 14) hx hb dX0_isAccount_10 (by decide) ?_
      exact rt dX0_isAccount_14 (by omega) (by decide)
set_option maxHeartbeats 4000000 in
set_option maxRecDepth 100000 in
theorem bk_isDay (l : Launch) (d : Int) (hd : -2147483648 ≤ d ∧ d ≤ 2147483647) : stM l yX0_isDay cX0_isDay 1 .boolean ({ frames := 0, cells := 0, slots := 0, locals := 0 }) [.int (zi d)] (fun k => (k = 1 ∧ (0 ≤ d ∧ d < 48)) ∨ (k = 0 ∧ ¬ (0 ≤ d ∧ d < 48))) := by
  refine st_enter (by decide) (Nat.le_of_ble_eq_true rfl) ?_
  intro p e R s m args below meth c Q hx hb rt ls hl
  have hl : lv_has ls 1 [(0, .int (zi d))] := hl
  refine lv_iload_n hx hb dX0_isDay_0 rfl (lv_at hl 0 rfl) ?_
  refine zr_if_lt (tgt := 14) hx hb dX0_isDay_1 (by decide) (by omega) (fun c_1 => ?_) (fun c_1 => ?_)
  · skip
    refine zr_iconst hx hb dX0_isDay_14 ?_
    exact rt dX0_isDay_15 (by omega) (by decide)
  · skip
    refine lv_iload_n hx hb dX0_isDay_4 rfl (lv_at hl 0 rfl) ?_
    refine zr_bipush hx hb dX0_isDay_5 (by decide) ?_
    refine zr_icmp_ge (tgt := 14) hx hb dX0_isDay_7 (by decide) (by omega) (by omega) (fun c_7 => ?_) (fun c_7 => ?_)
    · skip
      refine zr_iconst hx hb dX0_isDay_14 ?_
      exact rt dX0_isDay_15 (by omega) (by decide)
    · skip
      refine zr_iconst hx hb dX0_isDay_10 ?_
      refine lv_goto (tgt := 15) hx hb dX0_isDay_11 (by decide) ?_
      exact rt dX0_isDay_15 (by omega) (by decide)
set_option maxHeartbeats 4000000 in
set_option maxRecDepth 100000 in
theorem bk_isStretch (l : Launch) (f : Int) (t : Int) (hf : -2147483648 ≤ f ∧ f ≤ 2147483647) (ht : -2147483648 ≤ t ∧ t ≤ 2147483647) : stM l yX0_isStretch cX0_isStretch 2 .boolean ({ frames := 0, cells := 0, slots := 0, locals := 0 }) [.int (zi f), .int (zi t)] (fun k => (k = 1 ∧ (0 ≤ f ∧ f ≤ t ∧ t < 48)) ∨ (k = 0 ∧ ¬ (0 ≤ f ∧ f ≤ t ∧ t < 48))) := by
  refine st_enter (by decide) (Nat.le_of_ble_eq_true rfl) ?_
  intro p e R s m args below meth c Q hx hb rt ls hl
  have hl : lv_has ls 2 [(0, .int (zi f)), (1, .int (zi t))] := hl
  refine lv_iload_n hx hb dX0_isStretch_0 rfl (lv_at hl 0 rfl) ?_
  refine zr_if_lt (tgt := 19) hx hb dX0_isStretch_1 (by decide) (by omega) (fun c_1 => ?_) (fun c_1 => ?_)
  · skip
    refine zr_iconst hx hb dX0_isStretch_19 ?_
    exact rt dX0_isStretch_20 (by omega) (by decide)
  · skip
    refine lv_iload_n hx hb dX0_isStretch_4 rfl (lv_at hl 0 rfl) ?_
    refine lv_iload_n hx hb dX0_isStretch_5 rfl (lv_at hl 1 rfl) ?_
    refine zr_icmp_gt (tgt := 19) hx hb dX0_isStretch_6 (by decide) (by omega) (by omega) (fun c_6 => ?_) (fun c_6 => ?_)
    · skip
      refine zr_iconst hx hb dX0_isStretch_19 ?_
      exact rt dX0_isStretch_20 (by omega) (by decide)
    · skip
      refine lv_iload_n hx hb dX0_isStretch_9 rfl (lv_at hl 1 rfl) ?_
      refine zr_bipush hx hb dX0_isStretch_10 (by decide) ?_
      refine zr_icmp_ge (tgt := 19) hx hb dX0_isStretch_12 (by decide) (by omega) (by omega) (fun c_12 => ?_) (fun c_12 => ?_)
      · skip
        refine zr_iconst hx hb dX0_isStretch_19 ?_
        exact rt dX0_isStretch_20 (by omega) (by decide)
      · skip
        refine zr_iconst hx hb dX0_isStretch_15 ?_
        refine lv_goto (tgt := 20) hx hb dX0_isStretch_16 (by decide) ?_
        exact rt dX0_isStretch_20 (by omega) (by decide)
set_option maxHeartbeats 4000000 in
set_option maxRecDepth 100000 in
theorem bk_isEntry (l : Launch) (z : bkZ) {xac xdy xam xgo xfl xch xle xar xlg : Int → Int} {xn xlo xmk xba xwc xwl xwa : Int} (x : Int) (hx0 : -2147483648 ≤ x ∧ x ≤ 2147483647) (hn : 0 ≤ xn ∧ xn ≤ 60) : bkM l yX0_isEntry cX0_isEntry 2 .boolean ({ frames := 0, cells := 0, slots := 0, locals := 0 }) z (bkC xac xdy xam xgo xfl xch xle xar xlg xn xlo xmk xba xwc xwl xwa) [.int (zi x)] (fun k u' => u' = bkC xac xdy xam xgo xfl xch xle xar xlg xn xlo xmk xba xwc xwl xwa ∧ ((k = 1 ∧ (0 ≤ x ∧ x < xn)) ∨ (k = 0 ∧ ¬ (0 ≤ x ∧ x < xn)))) := by
  refine bk_enter (by decide) rfl (Nat.le_of_ble_eq_true rfl) ?_
  intro p e R s m args below meth c A Q hR E hml rt w ls hl
  have hx := E.1
  have hb := E.2.1
  have hts := E.2.2.1
  have hown := E.2.2.2.1
  have hl : lv_has ls 2 [(0, .ref z.2.1), (1, .int (zi x))] := hl
  have w : bkG z A s.heap xac xdy xam xgo xfl xch xle xar xlg xn xlo xmk xba xwc xwl xwa s.heap [] := w
  refine lv_iload_n hx hb dX0_isEntry_0 rfl (lv_at hl 1 rfl) ?_
  refine zr_if_lt (tgt := 16) hx hb dX0_isEntry_1 (by decide) (by omega) (fun c_1 => ?_) (fun c_1 => ?_)
  · skip
    refine zr_iconst hx hb dX0_isEntry_16 ?_
    exact rt dX0_isEntry_17 w (⟨rfl, by omega⟩) (by decide)
  · skip
    refine lv_iload_n hx hb dX0_isEntry_4 rfl (lv_at hl 1 rfl) ?_
    refine lv_aload_n hx hb dX0_isEntry_5 rfl (lv_at hl 0 rfl) ?_
    refine kg_n E w (v := xn) rfl dX0_isEntry_6 ?_
    refine zr_icmp_ge (tgt := 16) hx hb dX0_isEntry_9 (by decide) (by omega) (by omega) (fun c_9 => ?_) (fun c_9 => ?_)
    · skip
      refine zr_iconst hx hb dX0_isEntry_16 ?_
      exact rt dX0_isEntry_17 w (⟨rfl, by omega⟩) (by decide)
    · skip
      refine zr_iconst hx hb dX0_isEntry_12 ?_
      refine lv_goto (tgt := 17) hx hb dX0_isEntry_13 (by decide) ?_
      exact rt dX0_isEntry_17 w (⟨rfl, by omega⟩) (by decide)
set_option maxHeartbeats 4000000 in
set_option maxRecDepth 100000 in
theorem bk_widest (l : Launch) (x t : Int) (hx0 : 0 ≤ x) (hxt : x ≤ t) (ht : t < 48) : stM l yX0_widest cX0_widest 3 .int ({ frames := 0, cells := 0, slots := 0, locals := 0 }) [.int (zi x), .int (zi t)] (fun k => k = ((wf x.toNat (t + 1).toNat : Nat) : Int)) := by
  refine st_enter (by decide) (Nat.le_of_ble_eq_true rfl) ?_
  intro p e R s m args below meth c Q hx hb rt ls hl
  have hl : lv_has ls 3 [(0, .int (zi x)), (1, .int (zi t))] := hl
  have loop : ∀ (n : Nat) (h : Nat) (ls : Array Slot), h ≤ 6 → 7 ≤ n + h → wl x.toNat (t + 1).toNat (6 - h) h = wf x.toNat (t + 1).toNat → lv_has ls 3 [(0, .int (zi x)), (1, .int (zi t)), (2, .int (zi (h : Int)))] → W p l e R s m args below meth c s.heap [] 0 0 Q (F0 m 2 ls []) := by
    intro n
    induction n with
    | zero =>
      intro h ls h6 hn hi
      exfalso
      omega
    | succ n ih =>
      intro h ls h6 hn hi hl
      refine lv_iload_n hx hb dX0_widest_2 rfl (lv_at hl 2 rfl) ?_
      refine zr_bipush hx hb dX0_widest_3 (by decide) ?_
      refine zr_icmp_ge (tgt := 33) hx hb dX0_widest_5 (by decide) (by omega) (by omega) (fun c_5 => ?_) (fun c_5 => ?_)
      · skip
        have e6 : h = 6 := by omega
        subst e6
        refine lv_iload_n hx hb dX0_widest_33 rfl (lv_at hl 2 rfl) ?_
        exact rt dX0_widest_34 (by first | (rw [← hi]; rfl) | (rw [← hi])) rfl
      · skip
        have hp := pw h (by omega)
        have hp2 : (2 : Int) ^ h ≤ 32 ∧ 1 ≤ (2 : Int) ^ h := by omega
        have hq : ((2 ^ h : Nat) : Int) = 2 ^ h := Int.natCast_pow 2 h
        have hq1 : x / 2 ^ h = ((x.toNat / 2 ^ h : Nat) : Int) := by rw [Int.natCast_ediv, hq, Int.toNat_of_nonneg hx0]
        have hs : (2 : Nat) ^ (h + 1) = 2 * 2 ^ h := by rw [Nat.pow_succ, Nat.mul_comm]
        have hw : wl x.toNat (t + 1).toNat (6 - h) h = if x.toNat / 2 ^ h % 2 = 0 ∧ x.toNat + 2 ^ (h + 1) ≤ (t + 1).toNat then wl x.toNat (t + 1).toNat (6 - (h + 1)) (h + 1) else h := by
          have : 6 - h = (6 - (h + 1)) + 1 := by omega
          rw [this]
          rfl
        refine lv_iload_n hx hb dX0_widest_8 rfl (lv_at hl 0 rfl) ?_
        refine lv_iload_n hx hb dX0_widest_9 rfl (lv_at hl 2 rfl) ?_
        refine zr_ishr hx hb h rfl (by omega) (by omega) dX0_widest_10 ?_
        refine zr_iconst hx hb dX0_widest_11 ?_
        refine zr_iand ((x / 2 ^ h) % 2) hx hb (zi_and1 (x / 2 ^ h)) dX0_widest_12 ?_
        refine zr_if_ne (tgt := 33) hx hb dX0_widest_13 (by decide) (by omega) (fun c_13 => ?_) (fun c_13 => ?_)
        · skip
          rw [if_neg (by omega)] at hw
          rw [hw] at hi
          refine lv_iload_n hx hb dX0_widest_33 rfl (lv_at hl 2 rfl) ?_
          exact rt dX0_widest_34 (by first | (rw [← hi]; rfl) | (rw [← hi])) rfl
        · skip
          
          refine lv_iload_n hx hb dX0_widest_16 rfl (lv_at hl 0 rfl) ?_
          refine zr_iconst hx hb dX0_widest_17 ?_
          refine lv_iload_n hx hb dX0_widest_18 rfl (lv_at hl 2 rfl) ?_
          refine zr_ishl hx hb h rfl (by omega) dX0_widest_19 ?_
          refine zr_iadd hx hb dX0_widest_20 ?_
          refine zr_iconst hx hb dX0_widest_21 ?_
          refine zr_isub hx hb dX0_widest_22 ?_
          refine lv_iload_n hx hb dX0_widest_23 rfl (lv_at hl 1 rfl) ?_
          refine zr_icmp_gt (tgt := 33) hx hb dX0_widest_24 (by decide) (by omega) (by omega) (fun c_24 => ?_) (fun c_24 => ?_)
          · skip
            rw [if_neg (by omega)] at hw
            rw [hw] at hi
            refine lv_iload_n hx hb dX0_widest_33 rfl (lv_at hl 2 rfl) ?_
            exact rt dX0_widest_34 (by first | (rw [← hi]; rfl) | (rw [← hi])) rfl
          · skip
            rw [if_pos (by omega)] at hw
            rw [hw] at hi
            refine lv_iinc (v := zi ((h + 1 : Nat) : Int)) (lv' := [(2, .int (zi ((h + 1 : Nat) : Int))), (0, .int (zi x)), (1, .int (zi t))]) hx hb dX0_widest_27 hl (k := 2) rfl (show zi _ + zi 1 = _ by rw [zi_add]; exact congrArg zi (by omega)) (by decide) rfl (fun ls hl => ?_)
            refine lv_goto (tgt := 2) hx hb dX0_widest_30 (by decide) ?_
            exact ih (h + 1) ls (by omega) (by omega) hi (lv_sub hl [1, 2, 0] rfl)
  refine zr_iconst hx hb dX0_widest_0 ?_
  refine lv_istore_n (lv' := [(2, .int (zi 0)), (0, .int (zi x)), (1, .int (zi t))]) hx hb dX0_widest_1 rfl hl (by decide) rfl (fun ls hl => ?_)
  exact loop 7 0 ls (by omega) (by omega) rfl (lv_sub hl [1, 2, 0] rfl)
end
section
/-! THE BOOK'S TREE in the Book's own words; walk's step -/
/-- the tree stands for the running sums P; P's bounds; the floors' bounds -/
def TB (ch le ar fl : Int → Int) (P : Int → Int → Int) : Prop := tr ch le ar P ∧ (∀ a k, 0 ≤ a → a < 4 → 0 ≤ k → k ≤ 64 → -600000 ≤ P a k ∧ P a k ≤ 600000) ∧ (∀ a, 0 ≤ a → a < 4 → P a 0 = 0) ∧ (∀ a k, 0 ≤ a → a < 4 → 48 ≤ k → k ≤ 64 → P a k = P a 48) ∧ ∀ a, 0 ≤ a → a < 4 → -10000 ≤ fl a ∧ fl a ≤ 10000
/-- a node's three numbers, by its place -/
theorem TB_nd {ch le ar fl : Int → Int} {P : Int → Int → Int} (hT : TB ch le ar fl P) {a x j : Int} {h : Nat} (ha : 0 ≤ a ∧ a < 4) (hj : okn h j) (e : j * 2 ^ h = 64 + x) : nd (P a) x (x + 2 ^ h) (ch (128 * a + j)) (le (128 * a + j)) (ar (128 * a + j)) := by
  have t := hT.1 a h j ha.1 ha.2 hj
  rw [e, show 64 + x - 64 = x by omega] at t
  exact t
theorem TB_le {ch le ar fl : Int → Int} {P : Int → Int → Int} (hT : TB ch le ar fl P) {a x y C M S : Int} (ha : 0 ≤ a ∧ a < 4) (hx : 0 ≤ x) (hxy : x ≤ y) (hy : y ≤ 64) (hn : nd (P a) x y C M S) : (-1200000 ≤ M ∧ M ≤ 1200000) ∧ (-1200000 ≤ C ∧ C ≤ 1200000) := by
  refine ⟨mn_bound hn.2.1 (fun k h1 h2 => hT.2.1 a k ha.1 ha.2 h1 h2) hx hy, ?_⟩
  have e1 := hT.2.1 a x ha.1 ha.2 hx (by omega)
  have e2 := hT.2.1 a y ha.1 ha.2 (by omega) hy
  have e3 := hn.1
  omega
/-- one step of walk -/
theorem wk_step {p : Int → Int} {f x x' y1 y2 y3 C M S m' : Int} (h1 : y1 = p x - p f) (h2 : (x = f ∧ y2 = 2147483647) ∨ mn p f x y2) (h3 : y3 = aa p f x) (hn : nd p x x' C M S) (hfx : f ≤ x) (hx : x < x') (hb : -1200000 ≤ M ∧ M ≤ 1200000) (hm : (m' = y1 + M ∧ y1 + M < y2) ∨ (m' = y2 ∧ y2 ≤ y1 + M)) : y1 + C = p x' - p f ∧ mn p f x' m' ∧ y3 + (S + y1 * (x' - x)) = aa p f x' := by
  obtain ⟨e1, g1, f1⟩ := hn
  refine ⟨by omega, ?_, ?_⟩
  · rcases h2 with ⟨q1, q2⟩ | q
    · subst q1
      have : m' = M := by omega
      rw [this]
      exact g1
    · refine mn_join q g1 ?_ ?_ ?_ hfx (Int.le_of_lt hx)
      · omega
      · omega
      · omega
  · rw [h3, f1, h1, ← Int.add_assoc]
    exact aa_join p f x x'
/-- one step down the tree, to the first day below a bound -/
theorem ds_step {p : Int → Int} {x0 x y z b : Int} {C M : Int} (hx : x0 ≤ x) (hxy : x < y) (hyz : y < z) (h1 : ∀ k, x0 < k → k ≤ x → b ≤ p k) (h2 : ∃ k, x < k ∧ k ≤ z ∧ p k < b) (hC : C = p y - p x) (hM : mn p x y M) :
    (b ≤ p x + M → (∀ k, x0 < k → k ≤ y → b ≤ p k) ∧ ∃ k, y < k ∧ k ≤ z ∧ p k < b) ∧ (p x + M < b → ∃ k, x < k ∧ k ≤ y ∧ p k < b) := by
  refine ⟨fun h => ?_, fun h => ?_⟩
  · have h3 : ∀ k, x0 < k → k ≤ y → b ≤ p k := fun k k1 k2 => by
      rcases Int.lt_or_le x k with q | q
      · have := hM.1 k q k2
        omega
      · exact h1 k k1 q
    refine ⟨h3, ?_⟩
    obtain ⟨k, k1, k2, k3⟩ := h2
    rcases Int.lt_or_le y k with q | q
    · exact ⟨k, q, k2, k3⟩
    · have := h3 k (by omega) q
      omega
  · obtain ⟨k, k1, k2, k3⟩ := hM.2
    exact ⟨k, k1, k2, by omega⟩
/-- one step down the tree, to the last day below a bound -/
theorem lb_step {p : Int → Int} {x y z b : Int} {C M : Int} (hxy : x < y) (hyz : y < z) (hz : z ≤ 64) (h1 : ∀ k, z < k → k ≤ 64 → b ≤ p k) (h2 : ∃ k, x < k ∧ k ≤ z ∧ p k < b) (hC : C = p y - p x) (hM : mn p y z M) :
    (p x + C + M < b → ∃ k, y < k ∧ k ≤ z ∧ p k < b) ∧ (b ≤ p x + C + M → (∀ k, y < k → k ≤ 64 → b ≤ p k) ∧ ∃ k, x < k ∧ k ≤ y ∧ p k < b) := by
  refine ⟨fun h => ?_, fun h => ?_⟩
  · obtain ⟨k, k1, k2, k3⟩ := hM.2
    exact ⟨k, k1, k2, by omega⟩
  · have h3 : ∀ k, y < k → k ≤ 64 → b ≤ p k := fun k k1 k2 => by
      rcases Int.lt_or_le z k with q | q
      · exact h1 k q k2
      · have := hM.1 k k1 q
        omega
    refine ⟨h3, ?_⟩
    obtain ⟨k, k1, k2, k3⟩ := h2
    rcases Int.lt_or_le y k with q | q
    · have := h3 k q (by omega)
      omega
    · exact ⟨k, k1, q, k3⟩
end
section
/-! BackdatedBook: walk, lowestIn -/
set_option maxHeartbeats 4000000 in
set_option maxRecDepth 100000 in
theorem bk_walk (l : Launch) (z : bkZ) {xac xdy xam xgo xfl xch xle xar xlg : Int → Int} {xn xlo xmk xba xwc xwl xwa : Int} (P : Int → Int → Int) (hT : TB xch xle xar xfl P) (a f t : Int) (ha : 0 ≤ a ∧ a < 4) (hf : 0 ≤ f ∧ f ≤ t + 1) (ht : t < 48) : bkV l yX0_walk cX0_walk 10 ({ frames := 1, cells := 0, slots := 0, locals := 22 }) z (bkC xac xdy xam xgo xfl xch xle xar xlg xn xlo xmk xba xwc xwl xwa) [.int (zi a), .int (zi f), .int (zi t)] (fun u' => ∃ y1 y2 y3 : Int, u' = bkC xac xdy xam xgo xfl xch xle xar xlg xn xlo xmk xba y1 y2 y3 ∧ y1 = P a (t + 1) - P a f ∧ (f ≤ t → mn (P a) f (t + 1) y2) ∧ y3 = aa (P a) f (t + 1)) := by
  refine bk_enterV (by decide) rfl (Nat.le_of_ble_eq_true rfl) ?_
  intro p e R s m args below meth c A Q hR E hml rt w ls hl
  have hx := E.1
  have hb := E.2.1
  have hts := E.2.2.1
  have hown := E.2.2.2.1
  have hl : lv_has ls 10 [(0, .ref z.2.1), (1, .int (zi a)), (2, .int (zi f)), (3, .int (zi t))] := hl
  have w : bkG z A s.heap xac xdy xam xgo xfl xch xle xar xlg xn xlo xmk xba xwc xwl xwa s.heap [] := w
  have loop : ∀ (n : Nat) (x i y1 y2 y3 : Int) (H : Heap) (locs : List Loc) (ls : Array Slot), f ≤ x ∧ x ≤ t + 1 → 0 ≤ i ∧ i + (sn (t + 1).toNat 15 x.toNat : Int) ≤ 14 → sn (t + 1).toNat 15 x.toNat + 1 ≤ n → y1 = P a x - P a f → ((x = f ∧ y2 = 2147483647) ∨ mn (P a) f x y2) → y3 = aa (P a) f x → bkG z A s.heap xac xdy xam xgo xfl xch xle xar xlg xn xlo xmk xba y1 y2 y3 H locs → lv_has ls 10 [(0, .ref z.2.1), (1, .int (zi a)), (2, .int (zi f)), (3, .int (zi t)), (4, .int (zi (128 * a))), (5, .int (zi x)), (6, .int (zi i))] → W p l e R s m args below meth c H locs 0 0 Q (F0 m 29 ls []) := by
    intro n
    induction n with
    | zero =>
      intro x i y1 y2 y3 H locs ls i1 i2 hn i3 i4 i5
      exfalso
      omega
    | succ n ih =>
      intro x i y1 y2 y3 H locs ls i1 i2 hn i3 i4 i5 w hl
      have hbx := hT.2.1 a x ha.1 ha.2 (by omega) (by omega)
      have hbf := hT.2.1 a f ha.1 ha.2 (by omega) (by omega)
      have hb2 : -1200000 ≤ y2 ∧ y2 ≤ 2147483647 := by
        rcases i4 with q | q
        · omega
        · have := mn_bound q (fun k h1 h2 => hT.2.1 a k ha.1 ha.2 h1 h2) (by omega) (by omega)
          omega
      refine lv_iload hx hb dX0_walk_29 (lv_at hl 6 rfl) ?_
      refine zr_bipush hx hb dX0_walk_31 (by decide) ?_
      refine zr_icmp_ge (tgt := 154) hx hb dX0_walk_33 (by decide) (by omega) (by omega) (fun c_33 => ?_) (fun c_33 => ?_)
      · skip
        have hx1 : x = t + 1 := by
          have := sn_0 (t := (t + 1).toNat) (x := x.toNat) (by omega)
          omega
        subst hx1
        exact rt dX0_walk_154 w (⟨y1, y2, y3, rfl, i3, fun q => i4.elim (fun q1 => absurd q1.1 (by omega)) id, i5⟩)
      · skip
        
        refine lv_iload hx hb dX0_walk_36 (lv_at hl 5 rfl) ?_
        refine lv_iload_n hx hb dX0_walk_38 rfl (lv_at hl 3 rfl) ?_
        refine zr_icmp_gt (tgt := 154) hx hb dX0_walk_39 (by decide) (by omega) (by omega) (fun c_39 => ?_) (fun c_39 => ?_)
        · skip
          have hx1 : x = t + 1 := by omega
          subst hx1
          exact rt dX0_walk_154 w (⟨y1, y2, y3, rfl, i3, fun q => i4.elim (fun q1 => absurd q1.1 (by omega)) id, i5⟩)
        · skip
          
          refine lv_iload hx hb dX0_walk_42 (lv_at hl 5 rfl) ?_
          refine lv_iload_n hx hb dX0_walk_44 rfl (lv_at hl 3 rfl) ?_
          refine bk_callS (as := [.int (zi x), .int (zi t)]) (rest := []) (n := 2) E hml (bk_widest l x t (by omega) (by omega) (by omega)) q104 q105 q106 rfl rfl rfl (by decide +kernel) (by rw [hR]; exact ⟨Nat.le_of_ble_eq_true rfl, Nat.le_of_ble_eq_true rfl⟩) rfl hl.1 rfl (Nat.le_of_ble_eq_true rfl) dX0_walk_45 (fun k7 hk7 => ?_)
          obtain ⟨hh5, ⟨j, hj0, hj1, hj2⟩, hj3, hj4⟩ := wf_z (x := x) (t := t + 1) (by omega) (by omega) (by omega)
          rw [show wf x.toNat (t + 1).toNat = wf x.toNat (t + 1).toNat from rfl] at hk7
          generalize wf x.toNat (t + 1).toNat = h at hk7 hh5 hj0 hj1 hj2 hj3 hj4
          subst hk7
          have hp := pw_pos h
          have hp6 := pw h (by omega)
          have hjb := okn_j hj2
          have hnd := TB_nd hT ha hj2 hj1
          have hle := TB_le hT ha (by omega) (by omega) (by omega) hnd
          skip
          refine lv_istore (lv' := [(7, .int (zi (h : Int))), (0, .ref z.2.1), (1, .int (zi a)), (2, .int (zi f)), (3, .int (zi t)), (4, .int (zi (128 * a))), (5, .int (zi x)), (6, .int (zi i))]) hx hb dX0_walk_48 hl (by decide) rfl (fun ls hl => ?_)
          refine lv_iload hx hb dX0_walk_50 (lv_at hl 5 rfl) ?_
          refine zr_bipush hx hb dX0_walk_52 (by decide) ?_
          refine lv_iload hx hb dX0_walk_54 (lv_at hl 6 rfl) ?_
          refine zr_iadd hx hb dX0_walk_56 ?_
          refine lv_iload hx hb dX0_walk_57 (lv_at hl 0 rfl) ?_
          refine zr_ishr hx hb h rfl (by omega) (by omega) dX0_walk_59 ?_
          refine zr_top j hj0.symm ?_
          refine zr_iadd hx hb dX0_walk_60 ?_
          refine lv_istore (lv' := [(8, .int (zi ((128 * a) + j))), (7, .int (zi (h : Int))), (0, .ref z.2.1), (1, .int (zi a)), (2, .int (zi f)), (3, .int (zi t)), (4, .int (zi (128 * a))), (5, .int (zi x)), (6, .int (zi i))]) hx hb dX0_walk_61 hl (by decide) rfl (fun ls hl => ?_)
          refine lv_aload_n hx hb dX0_walk_63 rfl (lv_at hl 2 rfl) ?_
          refine kg_wc E w (v := y1) rfl dX0_walk_64 ?_
          refine lv_aload_n hx hb dX0_walk_67 rfl (lv_at hl 2 rfl) ?_
          refine kg_le E w dX0_walk_68 ?_
          refine lv_iload hx hb dX0_walk_71 (lv_at hl 0 rfl) ?_
          refine kl_le E w (v := xle ((128 * a) + j)) (by omega) rfl dX0_walk_73 ?_
          refine zr_iadd hx hb dX0_walk_74 ?_
          refine lv_istore (lv' := [(9, .int (zi (y1 + (xle ((128 * a) + j))))), (8, .int (zi ((128 * a) + j))), (7, .int (zi (h : Int))), (0, .ref z.2.1), (1, .int (zi a)), (2, .int (zi f)), (3, .int (zi t)), (4, .int (zi (128 * a))), (5, .int (zi x)), (6, .int (zi i))]) hx hb dX0_walk_75 hl (by decide) rfl (fun ls hl => ?_)
          refine lv_aload_n hx hb dX0_walk_77 rfl (lv_at hl 3 rfl) ?_
          refine lv_iload hx hb dX0_walk_78 (lv_at hl 0 rfl) ?_
          refine lv_aload_n hx hb dX0_walk_80 rfl (lv_at hl 3 rfl) ?_
          refine kg_wl E w (v := y2) rfl dX0_walk_81 ?_
          refine zr_icmp_ge (tgt := 92) hx hb dX0_walk_84 (by decide) (by omega) (by omega) (fun c_84 => ?_) (fun c_84 => ?_)
          · skip
            have hm : (y2 = y1 + xle (128 * a + j) ∧ y1 + xle (128 * a + j) < y2) ∨ (y2 = y2 ∧ y2 ≤ y1 + xle (128 * a + j)) := Or.inr ⟨rfl, c_84⟩
            refine lv_aload_n hx hb dX0_walk_92 rfl (lv_at hl 3 rfl) ?_
            refine kg_wl E w (v := y2) rfl dX0_walk_93 ?_
            refine kp_wl E w dX0_walk_96 (fun H locs w => ?_)
            refine lv_aload_n hx hb dX0_walk_99 rfl (lv_at hl 3 rfl) ?_
            refine lv_dup hx hb dX0_walk_100 rfl ?_
            refine kg_wa E w (v := y3) rfl dX0_walk_101 ?_
            refine lv_aload_n hx hb dX0_walk_104 rfl (lv_at hl 3 rfl) ?_
            refine kg_ar E w dX0_walk_105 ?_
            refine lv_iload hx hb dX0_walk_108 (lv_at hl 1 rfl) ?_
            refine kl_ar E w (v := xar ((128 * a) + j)) (by omega) rfl dX0_walk_110 ?_
            refine lv_aload_n hx hb dX0_walk_111 rfl (lv_at hl 3 rfl) ?_
            refine kg_wc E w (v := y1) rfl dX0_walk_112 ?_
            refine lv_iload hx hb dX0_walk_115 (lv_at hl 2 rfl) ?_
            refine zr_ishl hx hb h rfl (by omega) dX0_walk_117 ?_
            refine zr_iadd hx hb dX0_walk_118 ?_
            refine zr_iadd hx hb dX0_walk_119 ?_
            refine kp_wa E w dX0_walk_120 (fun H locs w => ?_)
            refine lv_aload_n hx hb dX0_walk_123 rfl (lv_at hl 3 rfl) ?_
            refine lv_dup hx hb dX0_walk_124 rfl ?_
            refine kg_wc E w (v := y1) rfl dX0_walk_125 ?_
            refine lv_aload_n hx hb dX0_walk_128 rfl (lv_at hl 3 rfl) ?_
            refine kg_ch E w dX0_walk_129 ?_
            refine lv_iload hx hb dX0_walk_132 (lv_at hl 1 rfl) ?_
            refine kl_ch E w (v := xch ((128 * a) + j)) (by omega) rfl dX0_walk_134 ?_
            refine zr_iadd hx hb dX0_walk_135 ?_
            refine kp_wc E w dX0_walk_136 (fun H locs w => ?_)
            refine lv_iload hx hb dX0_walk_139 (lv_at hl 8 rfl) ?_
            refine zr_iconst hx hb dX0_walk_141 ?_
            refine lv_iload hx hb dX0_walk_142 (lv_at hl 2 rfl) ?_
            refine zr_ishl hx hb h rfl (by omega) dX0_walk_144 ?_
            refine zr_top (2 ^ h) (Int.one_mul _) ?_
            refine zr_iadd hx hb dX0_walk_145 ?_
            refine lv_istore (lv' := [(5, .int (zi (x + (2 ^ h)))), (9, .int (zi (y1 + (xle ((128 * a) + j))))), (8, .int (zi ((128 * a) + j))), (7, .int (zi (h : Int))), (0, .ref z.2.1), (1, .int (zi a)), (2, .int (zi f)), (3, .int (zi t)), (4, .int (zi (128 * a))), (6, .int (zi i))]) hx hb dX0_walk_146 hl (by decide) rfl (fun ls hl => ?_)
            refine lv_iinc (v := zi (i + 1)) (lv' := [(6, .int (zi (i + 1))), (5, .int (zi (x + (2 ^ h)))), (9, .int (zi (y1 + (xle ((128 * a) + j))))), (8, .int (zi ((128 * a) + j))), (7, .int (zi (h : Int))), (0, .ref z.2.1), (1, .int (zi a)), (2, .int (zi f)), (3, .int (zi t)), (4, .int (zi (128 * a)))]) hx hb dX0_walk_148 hl (k := 9) rfl (zi_add i 1) (by decide) rfl (fun ls hl => ?_)
            refine lv_goto (tgt := 29) hx hb dX0_walk_151 (by decide) ?_
            have hs := wk_step i3 i4 i5 hnd (by omega) (by omega) hle.1 hm
            rw [show x + 2 ^ h - x = 2 ^ h by omega] at hs
            exact ih (x + 2 ^ h) (i + 1) (y1 + (xch ((128 * a) + j))) (y2) (y3 + ((xar ((128 * a) + j)) + (y1 * 2 ^ h))) _ _ ls (by omega) (by omega) (by omega) hs.1 (Or.inr hs.2.1) hs.2.2 w (lv_sub hl [5, 6, 7, 8, 9, 1, 0] rfl)
          · skip
            have hm : (y1 + xle (128 * a + j) = y1 + xle (128 * a + j) ∧ y1 + xle (128 * a + j) < y2) ∨ (y1 + xle (128 * a + j) = y2 ∧ y2 ≤ y1 + xle (128 * a + j)) := Or.inl ⟨rfl, c_84⟩
            refine lv_iload hx hb dX0_walk_87 (lv_at hl 0 rfl) ?_
            refine lv_goto (tgt := 96) hx hb dX0_walk_89 (by decide) ?_
            refine kp_wl E w dX0_walk_96 (fun H locs w => ?_)
            refine lv_aload_n hx hb dX0_walk_99 rfl (lv_at hl 3 rfl) ?_
            refine lv_dup hx hb dX0_walk_100 rfl ?_
            refine kg_wa E w (v := y3) rfl dX0_walk_101 ?_
            refine lv_aload_n hx hb dX0_walk_104 rfl (lv_at hl 3 rfl) ?_
            refine kg_ar E w dX0_walk_105 ?_
            refine lv_iload hx hb dX0_walk_108 (lv_at hl 1 rfl) ?_
            refine kl_ar E w (v := xar ((128 * a) + j)) (by omega) rfl dX0_walk_110 ?_
            refine lv_aload_n hx hb dX0_walk_111 rfl (lv_at hl 3 rfl) ?_
            refine kg_wc E w (v := y1) rfl dX0_walk_112 ?_
            refine lv_iload hx hb dX0_walk_115 (lv_at hl 2 rfl) ?_
            refine zr_ishl hx hb h rfl (by omega) dX0_walk_117 ?_
            refine zr_iadd hx hb dX0_walk_118 ?_
            refine zr_iadd hx hb dX0_walk_119 ?_
            refine kp_wa E w dX0_walk_120 (fun H locs w => ?_)
            refine lv_aload_n hx hb dX0_walk_123 rfl (lv_at hl 3 rfl) ?_
            refine lv_dup hx hb dX0_walk_124 rfl ?_
            refine kg_wc E w (v := y1) rfl dX0_walk_125 ?_
            refine lv_aload_n hx hb dX0_walk_128 rfl (lv_at hl 3 rfl) ?_
            refine kg_ch E w dX0_walk_129 ?_
            refine lv_iload hx hb dX0_walk_132 (lv_at hl 1 rfl) ?_
            refine kl_ch E w (v := xch ((128 * a) + j)) (by omega) rfl dX0_walk_134 ?_
            refine zr_iadd hx hb dX0_walk_135 ?_
            refine kp_wc E w dX0_walk_136 (fun H locs w => ?_)
            refine lv_iload hx hb dX0_walk_139 (lv_at hl 8 rfl) ?_
            refine zr_iconst hx hb dX0_walk_141 ?_
            refine lv_iload hx hb dX0_walk_142 (lv_at hl 2 rfl) ?_
            refine zr_ishl hx hb h rfl (by omega) dX0_walk_144 ?_
            refine zr_top (2 ^ h) (Int.one_mul _) ?_
            refine zr_iadd hx hb dX0_walk_145 ?_
            refine lv_istore (lv' := [(5, .int (zi (x + (2 ^ h)))), (9, .int (zi (y1 + (xle ((128 * a) + j))))), (8, .int (zi ((128 * a) + j))), (7, .int (zi (h : Int))), (0, .ref z.2.1), (1, .int (zi a)), (2, .int (zi f)), (3, .int (zi t)), (4, .int (zi (128 * a))), (6, .int (zi i))]) hx hb dX0_walk_146 hl (by decide) rfl (fun ls hl => ?_)
            refine lv_iinc (v := zi (i + 1)) (lv' := [(6, .int (zi (i + 1))), (5, .int (zi (x + (2 ^ h)))), (9, .int (zi (y1 + (xle ((128 * a) + j))))), (8, .int (zi ((128 * a) + j))), (7, .int (zi (h : Int))), (0, .ref z.2.1), (1, .int (zi a)), (2, .int (zi f)), (3, .int (zi t)), (4, .int (zi (128 * a)))]) hx hb dX0_walk_148 hl (k := 9) rfl (zi_add i 1) (by decide) rfl (fun ls hl => ?_)
            refine lv_goto (tgt := 29) hx hb dX0_walk_151 (by decide) ?_
            have hs := wk_step i3 i4 i5 hnd (by omega) (by omega) hle.1 hm
            rw [show x + 2 ^ h - x = 2 ^ h by omega] at hs
            exact ih (x + 2 ^ h) (i + 1) (y1 + (xch ((128 * a) + j))) (y1 + (xle ((128 * a) + j))) (y3 + ((xar ((128 * a) + j)) + (y1 * 2 ^ h))) _ _ ls (by omega) (by omega) (by omega) hs.1 (Or.inr hs.2.1) hs.2.2 w (lv_sub hl [5, 6, 7, 8, 9, 1, 0] rfl)
  refine zr_sipush hx hb dX0_walk_0 (by decide) ?_
  refine lv_iload_n hx hb dX0_walk_3 rfl (lv_at hl 1 rfl) ?_
  refine zr_imul hx hb dX0_walk_4 ?_
  refine lv_istore (lv' := [(4, .int (zi (128 * a))), (0, .ref z.2.1), (1, .int (zi a)), (2, .int (zi f)), (3, .int (zi t))]) hx hb dX0_walk_5 hl (by decide) rfl (fun ls hl => ?_)
  refine lv_iload_n hx hb dX0_walk_7 rfl (lv_at hl 3 rfl) ?_
  refine lv_istore (lv' := [(5, .int (zi f)), (4, .int (zi (128 * a))), (0, .ref z.2.1), (1, .int (zi a)), (2, .int (zi f)), (3, .int (zi t))]) hx hb dX0_walk_8 hl (by decide) rfl (fun ls hl => ?_)
  refine lv_aload_n hx hb dX0_walk_10 rfl (lv_at hl 2 rfl) ?_
  refine zr_iconst hx hb dX0_walk_11 ?_
  refine kp_wc E w dX0_walk_12 (fun H locs w => ?_)
  refine lv_aload_n hx hb dX0_walk_15 rfl (lv_at hl 2 rfl) ?_
  refine zr_ldc hx hb (2147483647) hown (hts _ q103) (by decide) dX0_walk_16 ?_
  refine kp_wl E w dX0_walk_18 (fun H locs w => ?_)
  refine lv_aload_n hx hb dX0_walk_21 rfl (lv_at hl 2 rfl) ?_
  refine zr_iconst hx hb dX0_walk_22 ?_
  refine kp_wa E w dX0_walk_23 (fun H locs w => ?_)
  refine zr_iconst hx hb dX0_walk_26 ?_
  refine lv_istore (lv' := [(6, .int (zi 0)), (5, .int (zi f)), (4, .int (zi (128 * a))), (0, .ref z.2.1), (1, .int (zi a)), (2, .int (zi f)), (3, .int (zi t))]) hx hb dX0_walk_27 hl (by decide) rfl (fun ls hl => ?_)
  exact loop 15 f 0 0 2147483647 0 _ _ ls (by omega) (by have := sn_le (t + 1).toNat (by omega) f.toNat (by omega); omega) (by have := sn_le (t + 1).toNat (by omega) f.toNat (by omega); omega) (by omega) (Or.inl ⟨rfl, rfl⟩) (aa_self _ _).symm w (lv_sub hl [3, 4, 5, 6, 2, 1, 0] rfl)
set_option maxHeartbeats 4000000 in
set_option maxRecDepth 100000 in
theorem bk_lowestIn (l : Launch) (z : bkZ) {xac xdy xam xgo xfl xch xle xar xlg : Int → Int} {xn xlo xmk xba xwc xwl xwa : Int} (P : Int → Int → Int) (hT : TB xch xle xar xfl P) (a f t : Int) (ha : 0 ≤ a ∧ a < 4) (hf : 0 ≤ f ∧ f ≤ t) (ht : t < 48) : bkM l yX0_lowestIn cX0_lowestIn 5 .int ({ frames := 2, cells := 0, slots := 0, locals := 51 }) z (bkC xac xdy xam xgo xfl xch xle xar xlg xn xlo xmk xba xwc xwl xwa) [.int (zi a), .int (zi f), .int (zi t)] (fun k u' => (∃ y1 y2 y3 : Int, u' = bkC xac xdy xam xgo xfl xch xle xar xlg xn xlo xmk xba y1 y2 y3) ∧ (∀ j, f < j → j ≤ t + 1 → k ≤ P a j) ∧ ∃ j, f < j ∧ j ≤ t + 1 ∧ k = P a j) := by
  refine bk_enter (by decide) rfl (Nat.le_of_ble_eq_true rfl) ?_
  intro p e R s m args below meth c A Q hR E hml rt w ls hl
  have hx := E.1
  have hb := E.2.1
  have hts := E.2.2.1
  have hown := E.2.2.2.1
  have hl : lv_has ls 5 [(0, .ref z.2.1), (1, .int (zi a)), (2, .int (zi f)), (3, .int (zi t))] := hl
  have w : bkG z A s.heap xac xdy xam xgo xfl xch xle xar xlg xn xlo xmk xba xwc xwl xwa s.heap [] := w
  refine lv_aload_n hx hb dX0_lowestIn_0 rfl (lv_at hl 0 rfl) ?_
  refine lv_iload_n hx hb dX0_lowestIn_1 rfl (lv_at hl 1 rfl) ?_
  refine zr_iconst hx hb dX0_lowestIn_2 ?_
  refine lv_iload_n hx hb dX0_lowestIn_3 rfl (lv_at hl 2 rfl) ?_
  refine zr_iconst hx hb dX0_lowestIn_4 ?_
  refine zr_isub hx hb dX0_lowestIn_5 ?_
  refine bk_callV (as := [.int (zi a), .int (zi 0), .int (zi (f - 1))]) (rest := []) (n := 3) E hml w (bk_walk l z P hT a 0 (f - 1) ha (by omega) (by omega)) q99 q101 qs2 q102 rfl rfl (by decide +kernel) (by rw [hR]; exact ⟨Nat.le_of_ble_eq_true rfl, Nat.le_of_ble_eq_true rfl⟩) rfl hl.1 rfl (Nat.le_of_ble_eq_true rfl) dX0_lowestIn_6 (fun u1 H locs hw w => ?_)
  obtain ⟨y1, y2, y3, rfl, e1, -, -⟩ := hw
  have w : bkG z A s.heap xac xdy xam xgo xfl xch xle xar xlg xn xlo xmk xba y1 y2 y3 H locs := w
  refine lv_aload_n hx hb dX0_lowestIn_9 rfl (lv_at hl 0 rfl) ?_
  refine kg_wc E w (v := y1) rfl dX0_lowestIn_10 ?_
  refine lv_istore (lv' := [(4, .int (zi y1)), (0, .ref z.2.1), (1, .int (zi a)), (2, .int (zi f)), (3, .int (zi t))]) hx hb dX0_lowestIn_13 hl (by decide) rfl (fun ls hl => ?_)
  refine lv_aload_n hx hb dX0_lowestIn_15 rfl (lv_at hl 1 rfl) ?_
  refine lv_iload_n hx hb dX0_lowestIn_16 rfl (lv_at hl 2 rfl) ?_
  refine lv_iload_n hx hb dX0_lowestIn_17 rfl (lv_at hl 3 rfl) ?_
  refine lv_iload_n hx hb dX0_lowestIn_18 rfl (lv_at hl 4 rfl) ?_
  refine bk_callV (as := [.int (zi a), .int (zi f), .int (zi t)]) (rest := []) (n := 3) E hml w (bk_walk l z P hT a f t ha (by omega) ht) q99 q101 qs2 q102 rfl rfl (by decide +kernel) (by rw [hR]; exact ⟨Nat.le_of_ble_eq_true rfl, Nat.le_of_ble_eq_true rfl⟩) rfl hl.1 rfl (Nat.le_of_ble_eq_true rfl) dX0_lowestIn_19 (fun u2 H locs hw w => ?_)
  obtain ⟨g1, g2, g3, rfl, e2, e3, -⟩ := hw
  have w : bkG z A s.heap xac xdy xam xgo xfl xch xle xar xlg xn xlo xmk xba g1 g2 g3 H locs := w
  refine lv_iload hx hb dX0_lowestIn_22 (lv_at hl 0 rfl) ?_
  refine lv_aload_n hx hb dX0_lowestIn_24 rfl (lv_at hl 1 rfl) ?_
  refine kg_wl E w (v := g2) rfl dX0_lowestIn_25 ?_
  refine zr_iadd hx hb dX0_lowestIn_28 ?_
  have e0 := hT.2.2.1 a ha.1 ha.2
  rw [show f - 1 + 1 = f by omega] at e1
  exact rt dX0_lowestIn_29 w (⟨⟨g1, g2, g3, rfl⟩, fun j j1 j2 => by have := (e3 hf.2).1 j j1 j2; omega, by obtain ⟨j, j1, j2, j3⟩ := (e3 hf.2).2; exact ⟨j, j1, j2, by omega⟩⟩) rfl
end
section
/-! BackdatedBook: descend, search, lastBelow -/
set_option maxHeartbeats 4000000 in
set_option maxRecDepth 100000 in
theorem bk_descend (l : Launch) (z : bkZ) {xac xdy xam xgo xfl xch xle xar xlg : Int → Int} {xn xlo xmk xba xwc xwl xwa : Int} (P : Int → Int → Int) (hT : TB xch xle xar xfl P) (a x j r b : Int) (h : Nat) (ha : 0 ≤ a ∧ a < 4) (hj : okn h j) (hx0 : j * 2 ^ h = 64 + x) (hr : r = P a x) (hb0 : -2147483648 ≤ b ∧ b ≤ 2147483647) (he : ∃ k, x < k ∧ k ≤ x + 2 ^ h ∧ P a k < b) : bkM l yX0_descend cX0_descend 9 .int ({ frames := 0, cells := 0, slots := 0, locals := 0 }) z (bkC xac xdy xam xgo xfl xch xle xar xlg xn xlo xmk xba xwc xwl xwa) [.int (zi a), .int (zi j), .int (zi r), .int (zi b)] (fun k u' => u' = bkC xac xdy xam xgo xfl xch xle xar xlg xn xlo xmk xba xwc xwl xwa ∧ (x ≤ k ∧ k < x + 2 ^ h) ∧ P a (k + 1) < b ∧ ∀ i, x < i → i ≤ k → b ≤ P a i) := by
  refine bk_enter (by decide) rfl (Nat.le_of_ble_eq_true rfl) ?_
  intro p e R s m args below meth c A Q hR E hml rt w ls hl
  have hx := E.1
  have hb := E.2.1
  have hts := E.2.2.1
  have hown := E.2.2.2.1
  have hl : lv_has ls 9 [(0, .ref z.2.1), (1, .int (zi a)), (2, .int (zi j)), (3, .int (zi r)), (4, .int (zi b))] := hl
  have w : bkG z A s.heap xac xdy xam xgo xfl xch xle xar xlg xn xlo xmk xba xwc xwl xwa s.heap [] := w
  have loop : ∀ (n : Nat) (x1 j1 r1 i : Int) (h1 : Nat) (H : Heap) (locs : List Loc) (ls : Array Slot), okn h1 j1 → j1 * 2 ^ h1 = 64 + x1 → r1 = P a x1 → 0 ≤ i ∧ i + (h1 : Int) ≤ 6 → h1 + 1 ≤ n → x ≤ x1 ∧ x1 + 2 ^ h1 ≤ x + 2 ^ h → (∀ k, x < k → k ≤ x1 → b ≤ P a k) → (∃ k, x1 < k ∧ k ≤ x1 + 2 ^ h1 ∧ P a k < b) → bkG z A s.heap xac xdy xam xgo xfl xch xle xar xlg xn xlo xmk xba xwc xwl xwa H locs → lv_has ls 9 [(0, .ref z.2.1), (1, .int (zi a)), (2, .int (zi j)), (3, .int (zi r)), (4, .int (zi b)), (5, .int (zi (128 * a))), (6, .int (zi j1)), (7, .int (zi r1)), (8, .int (zi i))] → W p l e R s m args below meth c H locs 0 0 Q (F0 m 16 ls []) := by
    intro n
    induction n with
    | zero =>
      intro x1 j1 r1 i h1 H locs ls g2 g3 g4 g5 hn g6 g7 g8
      exfalso
      omega
    | succ n ih =>
      intro x1 j1 r1 i h1 H locs ls g2 g3 g4 g5 hn g6 g7 g8 w hl
      have hjb := okn_j g2
      have hp1 := pw_pos h1
      have hp6 := pw h1 g2.1
      have hk2 := g2.2
      have hbx := hT.2.1 a x1 ha.1 ha.2 (by omega) (by omega)
      refine lv_iload hx hb dX0_descend_16 (lv_at hl 8 rfl) ?_
      refine zr_bipush hx hb dX0_descend_18 (by decide) ?_
      refine zr_icmp_ge (tgt := 78) hx hb dX0_descend_20 (by decide) (by omega) (by omega) (fun c_20 => ?_) (fun c_20 => ?_)
      · skip
        have h0 : h1 = 0 := by omega
        subst h0
        have hz : (2 : Int) ^ 0 = 1 := rfl
        rw [hz] at g3 g6 g8
        refine lv_iload hx hb dX0_descend_78 (lv_at hl 6 rfl) ?_
        refine zr_bipush hx hb dX0_descend_80 (by decide) ?_
        refine zr_isub hx hb dX0_descend_82 ?_
        exact rt dX0_descend_83 w (⟨rfl, by omega, by obtain ⟨k, k1, k2, k3⟩ := g8; rw [show j1 - 64 + 1 = k by omega]; exact k3, fun i q1 q2 => g7 i q1 (by omega)⟩) rfl
      · skip
        
        refine lv_iload hx hb dX0_descend_23 (lv_at hl 6 rfl) ?_
        refine zr_bipush hx hb dX0_descend_25 (by decide) ?_
        refine zr_icmp_ge (tgt := 78) hx hb dX0_descend_27 (by decide) (by omega) (by omega) (fun c_27 => ?_) (fun c_27 => ?_)
        · skip
          have h0 : h1 = 0 := by
            have := g2.2.2
            rcases hp6 with q | q | q | q | q | q | q
            · exact q.2
            all_goals (exfalso; rw [q.1] at this; omega)
          subst h0
          have hz : (2 : Int) ^ 0 = 1 := rfl
          rw [hz] at g3 g6 g8
          refine lv_iload hx hb dX0_descend_78 (lv_at hl 6 rfl) ?_
          refine zr_bipush hx hb dX0_descend_80 (by decide) ?_
          refine zr_isub hx hb dX0_descend_82 ?_
          exact rt dX0_descend_83 w (⟨rfl, by omega, by obtain ⟨k, k1, k2, k3⟩ := g8; rw [show j1 - 64 + 1 = k by omega]; exact k3, fun i q1 q2 => g7 i q1 (by omega)⟩) rfl
        · skip
          obtain ⟨h2, rfl⟩ : ∃ h2 : Nat, h1 = h2 + 1 := by
            have := g2.2.1
            rcases hp6 with q | q | q | q | q | q | q
            · exfalso
              rw [q.1] at this
              omega
            all_goals exact ⟨h1 - 1, by omega⟩
          obtain ⟨c1, c2, c3, c4⟩ := okn_l g2
          have hp := pw_pos h2
          have hps := pw_s h2
          have hjb1 := okn_j c1
          have hjb2 := okn_j c2
          have hnd := TB_nd hT (x := x1) ha c1 (by omega)
          have hle := TB_le hT ha (by omega) (by omega) (by omega) hnd
          have hst := ds_step (x0 := x) (x := x1) (y := x1 + 2 ^ h2) (z := x1 + 2 ^ (h2 + 1)) (b := b) (by omega) (by omega) (by omega) g7 g8 hnd.1 hnd.2.1
          refine zr_iconst hx hb dX0_descend_30 ?_
          refine lv_iload hx hb dX0_descend_31 (lv_at hl 6 rfl) ?_
          refine zr_imul hx hb dX0_descend_33 ?_
          refine lv_istore (lv' := [(6, .int (zi (2 * j1))), (0, .ref z.2.1), (1, .int (zi a)), (2, .int (zi j)), (3, .int (zi r)), (4, .int (zi b)), (5, .int (zi (128 * a))), (7, .int (zi r1)), (8, .int (zi i))]) hx hb dX0_descend_34 hl (by decide) rfl (fun ls hl => ?_)
          refine lv_iload hx hb dX0_descend_36 (lv_at hl 7 rfl) ?_
          refine lv_aload_n hx hb dX0_descend_38 rfl (lv_at hl 1 rfl) ?_
          refine kg_le E w dX0_descend_39 ?_
          refine lv_iload hx hb dX0_descend_42 (lv_at hl 6 rfl) ?_
          refine lv_iload hx hb dX0_descend_44 (lv_at hl 0 rfl) ?_
          refine zr_iadd hx hb dX0_descend_46 ?_
          refine kl_le E w (v := xle ((128 * a) + (2 * j1))) (by omega) rfl dX0_descend_47 ?_
          refine zr_iadd hx hb dX0_descend_48 ?_
          refine lv_iload hx hb dX0_descend_49 (lv_at hl 5 rfl) ?_
          refine zr_icmp_lt (tgt := 72) hx hb dX0_descend_51 (by decide) (by omega) (by omega) (fun c_51 => ?_) (fun c_51 => ?_)
          · skip
            have hs2 := hst.2 (by omega)
            refine lv_iinc (v := zi (i + 1)) (lv' := [(8, .int (zi (i + 1))), (6, .int (zi (2 * j1))), (0, .ref z.2.1), (1, .int (zi a)), (2, .int (zi j)), (3, .int (zi r)), (4, .int (zi b)), (5, .int (zi (128 * a))), (7, .int (zi r1))]) hx hb dX0_descend_72 hl (k := 8) rfl (zi_add i 1) (by decide) rfl (fun ls hl => ?_)
            refine lv_goto (tgt := 16) hx hb dX0_descend_75 (by decide) ?_
            exact ih x1 (2 * j1) r1 (i + 1) h2 _ _ ls c1 (by omega) g4 (by omega) (by omega) (by omega) g7 hs2 w (lv_sub hl [2, 3, 4, 5, 6, 7, 1, 8, 0] rfl)
          · skip
            have hs1 := hst.1 (by omega)
            refine lv_iload hx hb dX0_descend_54 (lv_at hl 7 rfl) ?_
            refine lv_aload_n hx hb dX0_descend_56 rfl (lv_at hl 1 rfl) ?_
            refine kg_ch E w dX0_descend_57 ?_
            refine lv_iload hx hb dX0_descend_60 (lv_at hl 6 rfl) ?_
            refine lv_iload hx hb dX0_descend_62 (lv_at hl 0 rfl) ?_
            refine zr_iadd hx hb dX0_descend_64 ?_
            refine kl_ch E w (v := xch ((128 * a) + (2 * j1))) (by omega) rfl dX0_descend_65 ?_
            refine zr_iadd hx hb dX0_descend_66 ?_
            refine lv_istore (lv' := [(7, .int (zi (r1 + (xch ((128 * a) + (2 * j1)))))), (6, .int (zi (2 * j1))), (0, .ref z.2.1), (1, .int (zi a)), (2, .int (zi j)), (3, .int (zi r)), (4, .int (zi b)), (5, .int (zi (128 * a))), (8, .int (zi i))]) hx hb dX0_descend_67 hl (by decide) rfl (fun ls hl => ?_)
            refine lv_iinc (v := zi ((2 * j1) + 1)) (lv' := [(6, .int (zi ((2 * j1) + 1))), (7, .int (zi (r1 + (xch ((128 * a) + (2 * j1)))))), (0, .ref z.2.1), (1, .int (zi a)), (2, .int (zi j)), (3, .int (zi r)), (4, .int (zi b)), (5, .int (zi (128 * a))), (8, .int (zi i))]) hx hb dX0_descend_69 hl (k := 1) rfl (zi_add (2 * j1) 1) (by decide) rfl (fun ls hl => ?_)
            refine lv_iinc (v := zi (i + 1)) (lv' := [(8, .int (zi (i + 1))), (6, .int (zi ((2 * j1) + 1))), (7, .int (zi (r1 + (xch ((128 * a) + (2 * j1)))))), (0, .ref z.2.1), (1, .int (zi a)), (2, .int (zi j)), (3, .int (zi r)), (4, .int (zi b)), (5, .int (zi (128 * a)))]) hx hb dX0_descend_72 hl (k := 8) rfl (zi_add i 1) (by decide) rfl (fun ls hl => ?_)
            refine lv_goto (tgt := 16) hx hb dX0_descend_75 (by decide) ?_
            exact ih (x1 + 2 ^ h2) (2 * j1 + 1) (r1 + xch (128 * a + 2 * j1)) (i + 1) h2 _ _ ls c2 (by omega) (by have := hnd.1; omega) (by omega) (by omega) (by omega) hs1.1 (by rw [show x1 + 2 ^ h2 + 2 ^ h2 = x1 + 2 ^ (h2 + 1) by omega]; exact hs1.2) w (lv_sub hl [3, 4, 5, 6, 7, 8, 1, 2, 0] rfl)
  refine zr_sipush hx hb dX0_descend_0 (by decide) ?_
  refine lv_iload_n hx hb dX0_descend_3 rfl (lv_at hl 1 rfl) ?_
  refine zr_imul hx hb dX0_descend_4 ?_
  refine lv_istore (lv' := [(5, .int (zi (128 * a))), (0, .ref z.2.1), (1, .int (zi a)), (2, .int (zi j)), (3, .int (zi r)), (4, .int (zi b))]) hx hb dX0_descend_5 hl (by decide) rfl (fun ls hl => ?_)
  refine lv_iload_n hx hb dX0_descend_7 rfl (lv_at hl 3 rfl) ?_
  refine lv_istore (lv' := [(6, .int (zi j)), (5, .int (zi (128 * a))), (0, .ref z.2.1), (1, .int (zi a)), (2, .int (zi j)), (3, .int (zi r)), (4, .int (zi b))]) hx hb dX0_descend_8 hl (by decide) rfl (fun ls hl => ?_)
  refine lv_iload_n hx hb dX0_descend_10 rfl (lv_at hl 5 rfl) ?_
  refine lv_istore (lv' := [(7, .int (zi r)), (6, .int (zi j)), (5, .int (zi (128 * a))), (0, .ref z.2.1), (1, .int (zi a)), (2, .int (zi j)), (3, .int (zi r)), (4, .int (zi b))]) hx hb dX0_descend_11 hl (by decide) rfl (fun ls hl => ?_)
  refine zr_iconst hx hb dX0_descend_13 ?_
  refine lv_istore (lv' := [(8, .int (zi 0)), (7, .int (zi r)), (6, .int (zi j)), (5, .int (zi (128 * a))), (0, .ref z.2.1), (1, .int (zi a)), (2, .int (zi j)), (3, .int (zi r)), (4, .int (zi b))]) hx hb dX0_descend_14 hl (by decide) rfl (fun ls hl => ?_)
  exact loop (h + 1) x j r 0 h _ _ ls hj hx0 hr (by have := hj.1; omega) (by omega) (by omega) (fun k k1 k2 => by omega) he w (lv_sub hl [4, 5, 6, 7, 8, 3, 2, 1, 0] rfl)
set_option maxHeartbeats 4000000 in
set_option maxRecDepth 100000 in
theorem bk_search (l : Launch) (z : bkZ) {xac xdy xam xgo xfl xch xle xar xlg : Int → Int} {xn xlo xmk xba xwc xwl xwa : Int} (P : Int → Int → Int) (hT : TB xch xle xar xfl P) (a d b : Int) (ha : 0 ≤ a ∧ a < 4) (hd : 0 ≤ d ∧ d < 48) (hb0 : -2147483648 ≤ b ∧ b ≤ 2147483647) : bkM l yX0_search cX0_search 10 .int ({ frames := 2, cells := 0, slots := 0, locals := 51 }) z (bkC xac xdy xam xgo xfl xch xle xar xlg xn xlo xmk xba xwc xwl xwa) [.int (zi a), .int (zi d), .int (zi b)] (fun k u' => (∃ y1 y2 y3 : Int, u' = bkC xac xdy xam xgo xfl xch xle xar xlg xn xlo xmk xba y1 y2 y3) ∧ ((k = -1 ∧ ∀ j, d < j → j ≤ 48 → b ≤ P a j) ∨ (d ≤ k ∧ k < 48 ∧ P a (k + 1) < b ∧ ∀ j, d < j → j ≤ k → b ≤ P a j))) := by
  refine bk_enter (by decide) rfl (Nat.le_of_ble_eq_true rfl) ?_
  intro p e R s m args below meth c A Q hR E hml rt w ls hl
  have hx := E.1
  have hb := E.2.1
  have hts := E.2.2.1
  have hown := E.2.2.2.1
  have hl : lv_has ls 10 [(0, .ref z.2.1), (1, .int (zi a)), (2, .int (zi d)), (3, .int (zi b))] := hl
  have w : bkG z A s.heap xac xdy xam xgo xfl xch xle xar xlg xn xlo xmk xba xwc xwl xwa s.heap [] := w
  have loop : ∀ (n : Nat) (y1 y2 y3 x i r1 : Int) (H : Heap) (locs : List Loc) (ls : Array Slot), d ≤ x ∧ x ≤ 48 → 0 ≤ i ∧ i + (sn ((47 : Int) + 1).toNat 15 x.toNat : Int) ≤ 14 → sn ((47 : Int) + 1).toNat 15 x.toNat + 1 ≤ n → r1 = P a x → (∀ k, d < k → k ≤ x → b ≤ P a k) → bkG z A s.heap xac xdy xam xgo xfl xch xle xar xlg xn xlo xmk xba y1 y2 y3 H locs → lv_has ls 10 [(0, .ref z.2.1), (1, .int (zi a)), (2, .int (zi d)), (3, .int (zi b)), (4, .int (zi (128 * a))), (5, .int (zi r1)), (6, .int (zi x)), (7, .int (zi i))] → W p l e R s m args below meth c H locs 0 0 Q (F0 m 28 ls []) := by
    intro n
    induction n with
    | zero =>
      intro y1 y2 y3 x i r1 H locs ls i1 i2 hn i3 i4
      exfalso
      omega
    | succ n ih =>
      intro y1 y2 y3 x i r1 H locs ls i1 i2 hn i3 i4 w hl
      have hbx := hT.2.1 a x ha.1 ha.2 (by omega) (by omega)
      refine lv_iload hx hb dX0_search_28 (lv_at hl 7 rfl) ?_
      refine zr_bipush hx hb dX0_search_30 (by decide) ?_
      refine zr_icmp_ge (tgt := 119) hx hb dX0_search_32 (by decide) (by omega) (by omega) (fun c_32 => ?_) (fun c_32 => ?_)
      · skip
        have hx1 : x = 48 := by
          have := sn_0 (t := ((47 : Int) + 1).toNat) (x := x.toNat) (by omega)
          omega
        refine zr_iconst hx hb dX0_search_119 ?_
        exact rt dX0_search_120 w (⟨⟨y1, y2, y3, rfl⟩, Or.inl ⟨rfl, fun j j1 j2 => i4 j j1 (by omega)⟩⟩) rfl
      · skip
        
        refine lv_iload hx hb dX0_search_35 (lv_at hl 6 rfl) ?_
        refine zr_bipush hx hb dX0_search_37 (by decide) ?_
        refine zr_icmp_ge (tgt := 119) hx hb dX0_search_39 (by decide) (by omega) (by omega) (fun c_39 => ?_) (fun c_39 => ?_)
        · skip
          have hx1 : x = 48 := by omega
          refine zr_iconst hx hb dX0_search_119 ?_
          exact rt dX0_search_120 w (⟨⟨y1, y2, y3, rfl⟩, Or.inl ⟨rfl, fun j j1 j2 => i4 j j1 (by omega)⟩⟩) rfl
        · skip
          
          refine lv_iload hx hb dX0_search_42 (lv_at hl 6 rfl) ?_
          refine zr_bipush hx hb dX0_search_44 (by decide) ?_
          refine bk_callS (as := [.int (zi x), .int (zi 47)]) (rest := []) (n := 2) E hml (bk_widest l x 47 (by omega) (by omega) (by omega)) q104 q105 q106 rfl rfl rfl (by decide +kernel) (by rw [hR]; exact ⟨Nat.le_of_ble_eq_true rfl, Nat.le_of_ble_eq_true rfl⟩) rfl hl.1 rfl (Nat.le_of_ble_eq_true rfl) dX0_search_46 (fun k7 hk7 => ?_)
          obtain ⟨hh5, ⟨j, hj0, hj1, hj2⟩, hj3, hj4⟩ := wf_z (x := x) (t := (47 : Int) + 1) (by omega) (by omega) (by omega)
          rw [show wf x.toNat ((47 : Int) + 1).toNat = wf x.toNat ((47 : Int) + 1).toNat from rfl] at hk7
          generalize wf x.toNat ((47 : Int) + 1).toNat = h at hk7 hh5 hj0 hj1 hj2 hj3 hj4
          subst hk7
          have hp := pw_pos h
          have hp6 := pw h (by omega)
          have hjb := okn_j hj2
          have hnd := TB_nd hT ha hj2 hj1
          have hle := TB_le hT ha (by omega) (by omega) (by omega) hnd
          skip
          refine lv_istore (lv' := [(8, .int (zi (h : Int))), (0, .ref z.2.1), (1, .int (zi a)), (2, .int (zi d)), (3, .int (zi b)), (4, .int (zi (128 * a))), (5, .int (zi r1)), (6, .int (zi x)), (7, .int (zi i))]) hx hb dX0_search_49 hl (by decide) rfl (fun ls hl => ?_)
          refine zr_bipush hx hb dX0_search_51 (by decide) ?_
          refine lv_iload hx hb dX0_search_53 (lv_at hl 7 rfl) ?_
          refine zr_iadd hx hb dX0_search_55 ?_
          refine lv_iload hx hb dX0_search_56 (lv_at hl 0 rfl) ?_
          refine zr_ishr hx hb h rfl (by omega) (by omega) dX0_search_58 ?_
          refine zr_top j hj0.symm ?_
          refine lv_istore (lv' := [(9, .int (zi j)), (8, .int (zi (h : Int))), (0, .ref z.2.1), (1, .int (zi a)), (2, .int (zi d)), (3, .int (zi b)), (4, .int (zi (128 * a))), (5, .int (zi r1)), (6, .int (zi x)), (7, .int (zi i))]) hx hb dX0_search_59 hl (by decide) rfl (fun ls hl => ?_)
          refine lv_iload hx hb dX0_search_61 (lv_at hl 7 rfl) ?_
          refine lv_aload_n hx hb dX0_search_63 rfl (lv_at hl 2 rfl) ?_
          refine kg_le E w dX0_search_64 ?_
          refine lv_iload hx hb dX0_search_67 (lv_at hl 6 rfl) ?_
          refine lv_iload hx hb dX0_search_69 (lv_at hl 0 rfl) ?_
          refine zr_iadd hx hb dX0_search_71 ?_
          refine kl_le E w (v := xle ((128 * a) + j)) (by omega) rfl dX0_search_72 ?_
          refine zr_iadd hx hb dX0_search_73 ?_
          refine lv_iload_n hx hb dX0_search_74 rfl (lv_at hl 5 rfl) ?_
          refine zr_icmp_ge (tgt := 89) hx hb dX0_search_75 (by decide) (by omega) (by omega) (fun c_75 => ?_) (fun c_75 => ?_)
          · skip
            
            refine lv_iload hx hb dX0_search_89 (lv_at hl 7 rfl) ?_
            refine lv_aload_n hx hb dX0_search_91 rfl (lv_at hl 2 rfl) ?_
            refine kg_ch E w dX0_search_92 ?_
            refine lv_iload hx hb dX0_search_95 (lv_at hl 6 rfl) ?_
            refine lv_iload hx hb dX0_search_97 (lv_at hl 0 rfl) ?_
            refine zr_iadd hx hb dX0_search_99 ?_
            refine kl_ch E w (v := xch ((128 * a) + j)) (by omega) rfl dX0_search_100 ?_
            refine zr_iadd hx hb dX0_search_101 ?_
            refine lv_istore (lv' := [(5, .int (zi (r1 + (xch ((128 * a) + j))))), (9, .int (zi j)), (8, .int (zi (h : Int))), (0, .ref z.2.1), (1, .int (zi a)), (2, .int (zi d)), (3, .int (zi b)), (4, .int (zi (128 * a))), (6, .int (zi x)), (7, .int (zi i))]) hx hb dX0_search_102 hl (by decide) rfl (fun ls hl => ?_)
            refine lv_iload hx hb dX0_search_104 (lv_at hl 8 rfl) ?_
            refine zr_iconst hx hb dX0_search_106 ?_
            refine lv_iload hx hb dX0_search_107 (lv_at hl 2 rfl) ?_
            refine zr_ishl hx hb h rfl (by omega) dX0_search_109 ?_
            refine zr_top (2 ^ h) (Int.one_mul _) ?_
            refine zr_iadd hx hb dX0_search_110 ?_
            refine lv_istore (lv' := [(6, .int (zi (x + (2 ^ h)))), (5, .int (zi (r1 + (xch ((128 * a) + j))))), (9, .int (zi j)), (8, .int (zi (h : Int))), (0, .ref z.2.1), (1, .int (zi a)), (2, .int (zi d)), (3, .int (zi b)), (4, .int (zi (128 * a))), (7, .int (zi i))]) hx hb dX0_search_111 hl (by decide) rfl (fun ls hl => ?_)
            refine lv_iinc (v := zi (i + 1)) (lv' := [(7, .int (zi (i + 1))), (6, .int (zi (x + (2 ^ h)))), (5, .int (zi (r1 + (xch ((128 * a) + j))))), (9, .int (zi j)), (8, .int (zi (h : Int))), (0, .ref z.2.1), (1, .int (zi a)), (2, .int (zi d)), (3, .int (zi b)), (4, .int (zi (128 * a)))]) hx hb dX0_search_113 hl (k := 9) rfl (zi_add i 1) (by decide) rfl (fun ls hl => ?_)
            refine lv_goto (tgt := 28) hx hb dX0_search_116 (by decide) ?_
            have hx2 : ∀ k, d < k → k ≤ x + 2 ^ h → b ≤ P a k := fun k k1 k2 => by
              rcases Int.lt_or_le x k with q | q
              · have := hnd.2.1.1 k q k2
                omega
              · exact i4 k k1 q
            exact ih y1 y2 y3 (x + 2 ^ h) (i + 1) (r1 + xch (128 * a + j)) _ _ ls (by omega) (by omega) (by omega) (by have := hnd.1; omega) hx2 w (lv_sub hl [5, 6, 7, 8, 9, 2, 1, 0] rfl)
          · skip
            have hex : ∃ k, x < k ∧ k ≤ x + 2 ^ h ∧ P a k < b := by
              obtain ⟨k, k1, k2, k3⟩ := hnd.2.1.2
              exact ⟨k, k1, k2, by omega⟩
            refine lv_aload_n hx hb dX0_search_78 rfl (lv_at hl 2 rfl) ?_
            refine lv_iload_n hx hb dX0_search_79 rfl (lv_at hl 3 rfl) ?_
            refine lv_iload hx hb dX0_search_80 (lv_at hl 0 rfl) ?_
            refine lv_iload hx hb dX0_search_82 (lv_at hl 7 rfl) ?_
            refine lv_iload_n hx hb dX0_search_84 rfl (lv_at hl 5 rfl) ?_
            refine bk_call (as := [.int (zi a), .int (zi j), .int (zi r1), .int (zi b)]) (rest := []) (n := 4) E hml w (bk_descend l z P hT a x j r1 b h ha hj2 hj1 i3 hb0 hex) q189 q191 qs8 q192 rfl rfl (by decide +kernel) (by rw [hR]; exact ⟨Nat.le_of_ble_eq_true rfl, Nat.le_of_ble_eq_true rfl⟩) rfl hl.1 rfl (Nat.le_of_ble_eq_true rfl) dX0_search_85 (fun k9 u9 H locs hw w => ?_)
            obtain ⟨rfl, q1, q2, q3⟩ := hw
            have w : bkG z A s.heap xac xdy xam xgo xfl xch xle xar xlg xn xlo xmk xba y1 y2 y3 H locs := w
            exact rt dX0_search_88 w (⟨⟨y1, y2, y3, rfl⟩, Or.inr ⟨by omega, by omega, q2, fun j j1 j2 => (Int.lt_or_le x j).elim (fun q => q3 j q j2) (fun q => i4 j j1 q)⟩⟩) rfl
  refine zr_sipush hx hb dX0_search_0 (by decide) ?_
  refine lv_iload_n hx hb dX0_search_3 rfl (lv_at hl 1 rfl) ?_
  refine zr_imul hx hb dX0_search_4 ?_
  refine lv_istore (lv' := [(4, .int (zi (128 * a))), (0, .ref z.2.1), (1, .int (zi a)), (2, .int (zi d)), (3, .int (zi b))]) hx hb dX0_search_5 hl (by decide) rfl (fun ls hl => ?_)
  refine lv_aload_n hx hb dX0_search_7 rfl (lv_at hl 1 rfl) ?_
  refine lv_iload_n hx hb dX0_search_8 rfl (lv_at hl 2 rfl) ?_
  refine zr_iconst hx hb dX0_search_9 ?_
  refine lv_iload_n hx hb dX0_search_10 rfl (lv_at hl 3 rfl) ?_
  refine zr_iconst hx hb dX0_search_11 ?_
  refine zr_isub hx hb dX0_search_12 ?_
  refine bk_callV (as := [.int (zi a), .int (zi 0), .int (zi (d - 1))]) (rest := []) (n := 3) E hml w (bk_walk l z P hT a 0 (d - 1) ha (by omega) (by omega)) q99 q101 qs2 q102 rfl rfl (by decide +kernel) (by rw [hR]; exact ⟨Nat.le_of_ble_eq_true rfl, Nat.le_of_ble_eq_true rfl⟩) rfl hl.1 rfl (Nat.le_of_ble_eq_true rfl) dX0_search_13 (fun u1 H locs hw w => ?_)
  obtain ⟨y1, y2, y3, rfl, e1, -, -⟩ := hw
  have w : bkG z A s.heap xac xdy xam xgo xfl xch xle xar xlg xn xlo xmk xba y1 y2 y3 H locs := w
  refine lv_aload_n hx hb dX0_search_16 rfl (lv_at hl 1 rfl) ?_
  refine kg_wc E w (v := y1) rfl dX0_search_17 ?_
  refine lv_istore (lv' := [(5, .int (zi y1)), (4, .int (zi (128 * a))), (0, .ref z.2.1), (1, .int (zi a)), (2, .int (zi d)), (3, .int (zi b))]) hx hb dX0_search_20 hl (by decide) rfl (fun ls hl => ?_)
  refine lv_iload_n hx hb dX0_search_22 rfl (lv_at hl 4 rfl) ?_
  refine lv_istore (lv' := [(6, .int (zi d)), (5, .int (zi y1)), (4, .int (zi (128 * a))), (0, .ref z.2.1), (1, .int (zi a)), (2, .int (zi d)), (3, .int (zi b))]) hx hb dX0_search_23 hl (by decide) rfl (fun ls hl => ?_)
  refine zr_iconst hx hb dX0_search_25 ?_
  refine lv_istore (lv' := [(7, .int (zi 0)), (6, .int (zi d)), (5, .int (zi y1)), (4, .int (zi (128 * a))), (0, .ref z.2.1), (1, .int (zi a)), (2, .int (zi d)), (3, .int (zi b))]) hx hb dX0_search_26 hl (by decide) rfl (fun ls hl => ?_)
  have e0 := hT.2.2.1 a ha.1 ha.2
  rw [show d - 1 + 1 = d by omega] at e1
  exact loop 15 y1 y2 y3 d 0 y1 _ _ ls (by omega) (by have := sn_le ((47 : Int) + 1).toNat (by omega) d.toNat (by omega); omega) (by have := sn_le ((47 : Int) + 1).toNat (by omega) d.toNat (by omega); omega) (by omega) (fun k k1 k2 => by omega) w (lv_sub hl [4, 5, 6, 7, 3, 2, 1, 0] rfl)
set_option maxHeartbeats 4000000 in
set_option maxRecDepth 100000 in
theorem bk_lastBelow (l : Launch) (z : bkZ) {xac xdy xam xgo xfl xch xle xar xlg : Int → Int} {xn xlo xmk xba xwc xwl xwa : Int} (P : Int → Int → Int) (hT : TB xch xle xar xfl P) (a b : Int) (ha : 0 ≤ a ∧ a < 4) (hb0 : -2147483648 ≤ b ∧ b ≤ 2147483647) : bkM l yX0_lastBelow cX0_lastBelow 9 .int ({ frames := 0, cells := 0, slots := 0, locals := 0 }) z (bkC xac xdy xam xgo xfl xch xle xar xlg xn xlo xmk xba xwc xwl xwa) [.int (zi a), .int (zi b)] (fun k u' => u' = bkC xac xdy xam xgo xfl xch xle xar xlg xn xlo xmk xba xwc xwl xwa ∧ ((k = -1 ∧ ∀ j, 0 < j → j ≤ 48 → b ≤ P a j) ∨ (0 ≤ k ∧ k < 48 ∧ P a (k + 1) < b ∧ ∀ j, k + 1 < j → j ≤ 48 → b ≤ P a j))) := by
  refine bk_enter (by decide) rfl (Nat.le_of_ble_eq_true rfl) ?_
  intro p e R s m args below meth c A Q hR E hml rt w ls hl
  have hx := E.1
  have hb := E.2.1
  have hts := E.2.2.1
  have hown := E.2.2.2.1
  have hl : lv_has ls 9 [(0, .ref z.2.1), (1, .int (zi a)), (2, .int (zi b))] := hl
  have w : bkG z A s.heap xac xdy xam xgo xfl xch xle xar xlg xn xlo xmk xba xwc xwl xwa s.heap [] := w
  have r1 : okn 6 1 := by unfold okn; decide
  have rnd := TB_nd hT (x := 0) ha r1 (by decide)
  have hz6 : (0 : Int) + 2 ^ 6 = 64 := by decide
  rw [hz6] at rnd
  have rle := TB_le hT ha (by omega) (by omega) (by omega) rnd
  have r0 := hT.2.2.1 a ha.1 ha.2
  have loop : ∀ (n : Nat) (x1 j1 r1 i : Int) (h1 : Nat) (H : Heap) (locs : List Loc) (ls : Array Slot), okn h1 j1 → j1 * 2 ^ h1 = 64 + x1 → r1 = P a x1 → 0 ≤ i ∧ i + (h1 : Int) = 6 → h1 + 1 ≤ n → (∀ k, x1 + 2 ^ h1 < k → k ≤ 64 → b ≤ P a k) → (∃ k, x1 < k ∧ k ≤ x1 + 2 ^ h1 ∧ P a k < b) → bkG z A s.heap xac xdy xam xgo xfl xch xle xar xlg xn xlo xmk xba xwc xwl xwa H locs → lv_has ls 9 [(0, .ref z.2.1), (1, .int (zi a)), (2, .int (zi b)), (3, .int (zi (128 * a))), (4, .int (zi j1)), (5, .int (zi r1)), (6, .int (zi i))] → W p l e R s m args below meth c H locs 0 0 Q (F0 m 29 ls []) := by
    intro n
    induction n with
    | zero =>
      intro x1 j1 r1 i h1 H locs ls g2 g3 g4 g5 hn g7 g8
      exfalso
      omega
    | succ n ih =>
      intro x1 j1 r1 i h1 H locs ls g2 g3 g4 g5 hn g7 g8 w hl
      have hjb := okn_j g2
      have hp1 := pw_pos h1
      have hk2 := g2.2
      have hbx := hT.2.1 a x1 ha.1 ha.2 (by omega) (by omega)
      refine lv_iload hx hb dX0_lastBelow_29 (lv_at hl 6 rfl) ?_
      refine zr_bipush hx hb dX0_lastBelow_31 (by decide) ?_
      refine zr_icmp_ge (tgt := 97) hx hb dX0_lastBelow_33 (by decide) (by omega) (by omega) (fun c_33 => ?_) (fun c_33 => ?_)
      · skip
        have h0 : h1 = 0 := by omega
        subst h0
        have hz : (2 : Int) ^ 0 = 1 := rfl
        rw [hz] at g3 g7 g8
        refine lv_iload hx hb dX0_lastBelow_97 (lv_at hl 4 rfl) ?_
        refine zr_bipush hx hb dX0_lastBelow_99 (by decide) ?_
        refine zr_isub hx hb dX0_lastBelow_101 ?_
        refine lv_istore (lv' := [(6, .int (zi (j1 - 64))), (0, .ref z.2.1), (1, .int (zi a)), (2, .int (zi b)), (3, .int (zi (128 * a))), (4, .int (zi j1)), (5, .int (zi r1))]) hx hb dX0_lastBelow_102 hl (by decide) rfl (fun ls hl => ?_)
        refine lv_iload hx hb dX0_lastBelow_104 (lv_at hl 0 rfl) ?_
        refine zr_bipush hx hb dX0_lastBelow_106 (by decide) ?_
        refine zr_icmp_le (tgt := 116) hx hb dX0_lastBelow_108 (by decide) (by omega) (by omega) (fun c_108 => ?_) (fun c_108 => ?_)
        · skip
          
          refine lv_iload hx hb dX0_lastBelow_116 (lv_at hl 0 rfl) ?_
          exact rt dX0_lastBelow_118 w (⟨rfl, Or.inr ⟨by omega, by omega, by obtain ⟨k, k1, k2, k3⟩ := g8; rw [show j1 - 64 + 1 = k by omega]; exact k3, fun j q1 q2 => g7 j (by omega) (by omega)⟩⟩) rfl
        · skip
          
          refine zr_bipush hx hb dX0_lastBelow_111 (by decide) ?_
          refine lv_goto (tgt := 118) hx hb dX0_lastBelow_113 (by decide) ?_
          exact rt dX0_lastBelow_118 w (⟨rfl, Or.inr ⟨by omega, by omega, by obtain ⟨k, k1, k2, k3⟩ := g8; have := hT.2.2.2.1 a k ha.1 ha.2 (by omega) (by omega); rw [show (47 : Int) + 1 = 48 from rfl]; omega, fun j q1 q2 => by omega⟩⟩) rfl
      · skip
        obtain ⟨h2, rfl⟩ : ∃ h2 : Nat, h1 = h2 + 1 := ⟨h1 - 1, by omega⟩
        obtain ⟨c1, c2, c3, c4⟩ := okn_l g2
        have hp := pw_pos h2
        have hps := pw_s h2
        have hjb1 := okn_j c1
        have hjb2 := okn_j c2
        have hnd := TB_nd hT (x := x1) ha c1 (by omega)
        have hle := TB_le hT ha (by omega) (by omega) (by omega) hnd
        have hnd2 := TB_nd hT (x := x1 + 2 ^ h2) ha c2 (by omega)
        rw [show x1 + 2 ^ h2 + 2 ^ h2 = x1 + 2 ^ (h2 + 1) by omega, ← Int.add_assoc] at hnd2
        have hle2 := TB_le hT ha (by omega) (by omega) (by omega) hnd2
        have hst := lb_step (x := x1) (y := x1 + 2 ^ h2) (z := x1 + 2 ^ (h2 + 1)) (b := b) (by omega) (by omega) (by omega) g7 g8 hnd.1 hnd2.2.1
        refine zr_iconst hx hb dX0_lastBelow_36 ?_
        refine lv_iload hx hb dX0_lastBelow_37 (lv_at hl 4 rfl) ?_
        refine zr_imul hx hb dX0_lastBelow_39 ?_
        refine lv_istore (lv' := [(7, .int (zi (2 * j1))), (0, .ref z.2.1), (1, .int (zi a)), (2, .int (zi b)), (3, .int (zi (128 * a))), (4, .int (zi j1)), (5, .int (zi r1)), (6, .int (zi i))]) hx hb dX0_lastBelow_40 hl (by decide) rfl (fun ls hl => ?_)
        refine lv_iload hx hb dX0_lastBelow_42 (lv_at hl 6 rfl) ?_
        refine lv_aload_n hx hb dX0_lastBelow_44 rfl (lv_at hl 1 rfl) ?_
        refine kg_ch E w dX0_lastBelow_45 ?_
        refine lv_iload_n hx hb dX0_lastBelow_48 rfl (lv_at hl 4 rfl) ?_
        refine lv_iload hx hb dX0_lastBelow_49 (lv_at hl 0 rfl) ?_
        refine zr_iadd hx hb dX0_lastBelow_51 ?_
        refine kl_ch E w (v := xch ((128 * a) + (2 * j1))) (by omega) rfl dX0_lastBelow_52 ?_
        refine zr_iadd hx hb dX0_lastBelow_53 ?_
        refine lv_istore (lv' := [(8, .int (zi (r1 + (xch ((128 * a) + (2 * j1)))))), (7, .int (zi (2 * j1))), (0, .ref z.2.1), (1, .int (zi a)), (2, .int (zi b)), (3, .int (zi (128 * a))), (4, .int (zi j1)), (5, .int (zi r1)), (6, .int (zi i))]) hx hb dX0_lastBelow_54 hl (by decide) rfl (fun ls hl => ?_)
        refine lv_iload hx hb dX0_lastBelow_56 (lv_at hl 0 rfl) ?_
        refine lv_aload_n hx hb dX0_lastBelow_58 rfl (lv_at hl 2 rfl) ?_
        refine kg_le E w dX0_lastBelow_59 ?_
        refine lv_iload_n hx hb dX0_lastBelow_62 rfl (lv_at hl 5 rfl) ?_
        refine lv_iload hx hb dX0_lastBelow_63 (lv_at hl 1 rfl) ?_
        refine zr_iadd hx hb dX0_lastBelow_65 ?_
        refine zr_iconst hx hb dX0_lastBelow_66 ?_
        refine zr_iadd hx hb dX0_lastBelow_67 ?_
        refine kl_le E w (v := xle (((128 * a) + (2 * j1)) + 1)) (by omega) rfl dX0_lastBelow_68 ?_
        refine zr_iadd hx hb dX0_lastBelow_69 ?_
        refine lv_iload_n hx hb dX0_lastBelow_70 rfl (lv_at hl 4 rfl) ?_
        refine zr_icmp_ge (tgt := 87) hx hb dX0_lastBelow_71 (by decide) (by omega) (by omega) (fun c_71 => ?_) (fun c_71 => ?_)
        · skip
          have hs2 := hst.2 (by omega)
          refine lv_iload hx hb dX0_lastBelow_87 (lv_at hl 1 rfl) ?_
          refine lv_istore (lv' := [(4, .int (zi (2 * j1))), (8, .int (zi (r1 + (xch ((128 * a) + (2 * j1)))))), (7, .int (zi (2 * j1))), (0, .ref z.2.1), (1, .int (zi a)), (2, .int (zi b)), (3, .int (zi (128 * a))), (5, .int (zi r1)), (6, .int (zi i))]) hx hb dX0_lastBelow_89 hl (by decide) rfl (fun ls hl => ?_)
          refine lv_iinc (v := zi (i + 1)) (lv' := [(6, .int (zi (i + 1))), (4, .int (zi (2 * j1))), (8, .int (zi (r1 + (xch ((128 * a) + (2 * j1)))))), (7, .int (zi (2 * j1))), (0, .ref z.2.1), (1, .int (zi a)), (2, .int (zi b)), (3, .int (zi (128 * a))), (5, .int (zi r1))]) hx hb dX0_lastBelow_91 hl (k := 8) rfl (zi_add i 1) (by decide) rfl (fun ls hl => ?_)
          refine lv_goto (tgt := 29) hx hb dX0_lastBelow_94 (by decide) ?_
          exact ih x1 (2 * j1) r1 (i + 1) h2 _ _ ls c1 (by omega) g4 (by omega) (by omega) hs2.1 hs2.2 w (lv_sub hl [4, 5, 6, 7, 1, 8, 0] rfl)
        · skip
          have hs1 := hst.1 (by omega)
          refine lv_iload hx hb dX0_lastBelow_74 (lv_at hl 0 rfl) ?_
          refine lv_istore (lv' := [(5, .int (zi (r1 + (xch ((128 * a) + (2 * j1)))))), (8, .int (zi (r1 + (xch ((128 * a) + (2 * j1)))))), (7, .int (zi (2 * j1))), (0, .ref z.2.1), (1, .int (zi a)), (2, .int (zi b)), (3, .int (zi (128 * a))), (4, .int (zi j1)), (6, .int (zi i))]) hx hb dX0_lastBelow_76 hl (by decide) rfl (fun ls hl => ?_)
          refine lv_iload hx hb dX0_lastBelow_78 (lv_at hl 2 rfl) ?_
          refine zr_iconst hx hb dX0_lastBelow_80 ?_
          refine zr_iadd hx hb dX0_lastBelow_81 ?_
          refine lv_istore (lv' := [(4, .int (zi ((2 * j1) + 1))), (5, .int (zi (r1 + (xch ((128 * a) + (2 * j1)))))), (8, .int (zi (r1 + (xch ((128 * a) + (2 * j1)))))), (7, .int (zi (2 * j1))), (0, .ref z.2.1), (1, .int (zi a)), (2, .int (zi b)), (3, .int (zi (128 * a))), (6, .int (zi i))]) hx hb dX0_lastBelow_82 hl (by decide) rfl (fun ls hl => ?_)
          refine lv_goto (tgt := 91) hx hb dX0_lastBelow_84 (by decide) ?_
          refine lv_iinc (v := zi (i + 1)) (lv' := [(6, .int (zi (i + 1))), (4, .int (zi ((2 * j1) + 1))), (5, .int (zi (r1 + (xch ((128 * a) + (2 * j1)))))), (8, .int (zi (r1 + (xch ((128 * a) + (2 * j1)))))), (7, .int (zi (2 * j1))), (0, .ref z.2.1), (1, .int (zi a)), (2, .int (zi b)), (3, .int (zi (128 * a)))]) hx hb dX0_lastBelow_91 hl (k := 8) rfl (zi_add i 1) (by decide) rfl (fun ls hl => ?_)
          refine lv_goto (tgt := 29) hx hb dX0_lastBelow_94 (by decide) ?_
          exact ih (x1 + 2 ^ h2) (2 * j1 + 1) (r1 + xch (128 * a + 2 * j1)) (i + 1) h2 _ _ ls c2 (by omega) (by have := hnd.1; omega) (by omega) (by omega) (by rw [show x1 + 2 ^ h2 + 2 ^ h2 = x1 + 2 ^ (h2 + 1) by omega]; exact g7) (by rw [show x1 + 2 ^ h2 + 2 ^ h2 = x1 + 2 ^ (h2 + 1) by omega]; exact hs1) w (lv_sub hl [5, 6, 7, 8, 1, 2, 0] rfl)
  refine zr_sipush hx hb dX0_lastBelow_0 (by decide) ?_
  refine lv_iload_n hx hb dX0_lastBelow_3 rfl (lv_at hl 1 rfl) ?_
  refine zr_imul hx hb dX0_lastBelow_4 ?_
  refine lv_istore_n (lv' := [(3, .int (zi (128 * a))), (0, .ref z.2.1), (1, .int (zi a)), (2, .int (zi b))]) hx hb dX0_lastBelow_5 rfl hl (by decide) rfl (fun ls hl => ?_)
  refine zr_iconst hx hb dX0_lastBelow_6 ?_
  refine lv_istore (lv' := [(4, .int (zi 1)), (3, .int (zi (128 * a))), (0, .ref z.2.1), (1, .int (zi a)), (2, .int (zi b))]) hx hb dX0_lastBelow_7 hl (by decide) rfl (fun ls hl => ?_)
  refine zr_iconst hx hb dX0_lastBelow_9 ?_
  refine lv_istore (lv' := [(5, .int (zi 0)), (4, .int (zi 1)), (3, .int (zi (128 * a))), (0, .ref z.2.1), (1, .int (zi a)), (2, .int (zi b))]) hx hb dX0_lastBelow_10 hl (by decide) rfl (fun ls hl => ?_)
  refine lv_aload_n hx hb dX0_lastBelow_12 rfl (lv_at hl 3 rfl) ?_
  refine kg_le E w dX0_lastBelow_13 ?_
  refine lv_iload_n hx hb dX0_lastBelow_16 rfl (lv_at hl 2 rfl) ?_
  refine zr_iconst hx hb dX0_lastBelow_17 ?_
  refine zr_iadd hx hb dX0_lastBelow_18 ?_
  refine kl_le E w (v := xle ((128 * a) + 1)) (by omega) rfl dX0_lastBelow_19 ?_
  refine lv_iload_n hx hb dX0_lastBelow_20 rfl (lv_at hl 5 rfl) ?_
  refine zr_icmp_lt (tgt := 26) hx hb dX0_lastBelow_21 (by decide) (by omega) (by omega) (fun c_21 => ?_) (fun c_21 => ?_)
  · skip
    have hex : ∃ k, (0 : Int) < k ∧ k ≤ 0 + 2 ^ 6 ∧ P a k < b := by
      rw [hz6]
      obtain ⟨k, k1, k2, k3⟩ := rnd.2.1.2
      exact ⟨k, k1, k2, by omega⟩
    refine zr_iconst hx hb dX0_lastBelow_26 ?_
    refine lv_istore (lv' := [(6, .int (zi 0)), (5, .int (zi 0)), (4, .int (zi 1)), (3, .int (zi (128 * a))), (0, .ref z.2.1), (1, .int (zi a)), (2, .int (zi b))]) hx hb dX0_lastBelow_27 hl (by decide) rfl (fun ls hl => ?_)
    exact loop 7 0 1 0 0 6 _ _ ls r1 (by decide) r0.symm (by omega) (by omega) (fun k k1 k2 => by rw [hz6] at k1; omega) hex w (lv_sub hl [4, 5, 6, 3, 2, 1, 0] rfl)
  · skip
    
    refine zr_iconst hx hb dX0_lastBelow_24 ?_
    exact rt dX0_lastBelow_25 w (⟨rfl, Or.inl ⟨rfl, fun j j1 j2 => by have := rnd.2.1.1 j j1 (by omega); omega⟩⟩) rfl
end
section
/-! BackdatedBook: add -/
theorem okn_up {i : Nat} {j d : Int} (hi : i < 6) (hj : okn i j) (hd : j * 2 ^ i ≤ 64 + d ∧ 64 + d < j * 2 ^ i + 2 ^ i) : okn (i + 1) (j / 2) ∧ (j / 2) * 2 ^ (i + 1) ≤ 64 + d ∧ 64 + d < (j / 2) * 2 ^ (i + 1) + 2 ^ (i + 1) := by
  obtain ⟨h1, h2, h3⟩ := hj
  unfold okn
  rw [pw_s]
  rcases pw i (by omega) with ⟨e, f⟩ | ⟨e, f⟩ | ⟨e, f⟩ | ⟨e, f⟩ | ⟨e, f⟩ | ⟨e, f⟩ | ⟨e, f⟩ <;> rw [e] at hd h2 h3 ⊢ <;> omega
set_option maxHeartbeats 4000000 in
set_option maxRecDepth 100000 in
theorem bk_add (l : Launch) (z : bkZ) {xac xdy xam xgo xfl xch xle xar xlg : Int → Int} {xn xlo xmk xba xwc xwl xwa : Int} (P : Int → Int → Int) (hT : tr (xch) (xle) (xar) P) (a d x : Int) (ha : 0 ≤ a ∧ a < 4) (hd : 0 ≤ d ∧ d < 48) (hB : ∀ k, 0 ≤ k → k ≤ 64 → -600000 ≤ bump P a d x a k ∧ bump P a d x a k ≤ 600000) : bkV l yX0_add cX0_add 10 ({ frames := 0, cells := 0, slots := 0, locals := 0 }) z (bkC xac xdy xam xgo xfl xch xle xar xlg xn xlo xmk xba xwc xwl xwa) [.int (zi a), .int (zi d), .int (zi x)] (fun u' => ∃ g1 g2 g3 : Int → Int, u' = bkC xac xdy xam xgo xfl g1 g2 g3 xlg xn xlo xmk xba xwc xwl xwa ∧ tr g1 g2 g3 (bump P a d x)) := by
  refine bk_enterV (by decide) rfl (Nat.le_of_ble_eq_true rfl) ?_
  intro p e R s m args below meth c A Q hR E hml rt w ls hl
  have hx := E.1
  have hb := E.2.1
  have hts := E.2.2.1
  have hown := E.2.2.2.1
  have hl : lv_has ls 10 [(0, .ref z.2.1), (1, .int (zi a)), (2, .int (zi d)), (3, .int (zi x))] := hl
  have w : bkG z A s.heap xac xdy xam xgo xfl xch xle xar xlg xn xlo xmk xba xwc xwl xwa s.heap [] := w
  have loop : ∀ (n : Nat) (g1 g2 g3 : Int → Int) (j : Int) (i : Nat) (H : Heap) (locs : List Loc) (ls : Array Slot), i ≤ 6 → 7 ≤ n + i → okn i j → j * 2 ^ i ≤ 64 + d ∧ 64 + d < j * 2 ^ i + 2 ^ i → trI g1 g2 g3 (bump P a d x) a d i → bkG z A s.heap xac xdy xam xgo xfl g1 g2 g3 xlg xn xlo xmk xba xwc xwl xwa H locs → lv_has ls 10 [(0, .ref z.2.1), (1, .int (zi a)), (2, .int (zi d)), (3, .int (zi x)), (4, .int (zi (128 * a))), (5, .int (zi j)), (6, .int (zi (2 ^ i))), (7, .int (zi (i : Int)))] → W p l e R s m args below meth c H locs 0 0 Q (F0 m 73 ls []) := by
    intro n
    induction n with
    | zero =>
      intro g1 g2 g3 j i H locs ls g6 hn g2_ g3_ g4
      exfalso
      omega
    | succ n ih =>
      intro g1 g2 g3 j i H locs ls g6 hn g2_ g3_ g4 w hl
      refine lv_iload hx hb dX0_add_73 (lv_at hl 7 rfl) ?_
      refine zr_bipush hx hb dX0_add_75 (by decide) ?_
      refine zr_icmp_ge (tgt := 225) hx hb dX0_add_77 (by decide) (by omega) (by omega) (fun c_77 => ?_) (fun c_77 => ?_)
      · skip
        have e6 : i = 6 := by omega
        subst e6
        exact rt dX0_add_225 w (⟨g1, g2, g3, rfl, trI_6 g4⟩)
      · skip
        have hup := okn_up (i := i) (by omega) g2_ g3_
        have hjb0 := okn_j g2_
        refine lv_iload hx hb dX0_add_80 (lv_at hl 5 rfl) ?_
        refine zr_iconst hx hb dX0_add_82 ?_
        obtain ⟨j2, hj2⟩ : ∃ j2 : Int, j2 = j / 2 := ⟨_, rfl⟩
        rw [← hj2] at hup
        refine zr_ishr hx hb 1 rfl (by decide) (by omega) dX0_add_83 ?_
        refine zr_top j2 (by rw [show (2 : Int) ^ 1 = 2 from rfl]; exact hj2.symm) ?_
        refine lv_istore (lv' := [(5, .int (zi j2)), (0, .ref z.2.1), (1, .int (zi a)), (2, .int (zi d)), (3, .int (zi x)), (4, .int (zi (128 * a))), (6, .int (zi (2 ^ i))), (7, .int (zi (i : Int)))]) hx hb dX0_add_84 hl (by decide) rfl (fun ls hl => ?_)
        obtain ⟨hj3, hd3⟩ := hup
        obtain ⟨c1, c2, c3, c4⟩ := okn_l hj3
        have hjb := okn_j hj3
        have hjb1 := okn_j c1
        have hjb2 := okn_j c2
        have n1 := g4 a i (2 * j2) ha.1 ha.2 c1 (Or.inr (Or.inl (Nat.le_refl _)))
        have n2 := g4 a i (2 * j2 + 1) ha.1 ha.2 c2 (Or.inr (Or.inl (Nat.le_refl _)))
        rw [← Int.add_assoc] at n2
        have z1 := c1.2
        have z2 := c2.2
        have hp := pw_pos i
        have b1 := mn_bound n1.2.1 hB (by omega) (by omega)
        have b2 := mn_bound n2.2.1 hB (by omega) (by omega)
        have b3 := hB (2 * j2 * 2 ^ i - 64) (by omega) (by omega)
        have b4 := hB (2 * j2 * 2 ^ i - 64 + 2 ^ i) (by omega) (by omega)
        have b5 := n1.1
        refine lv_iload hx hb dX0_add_86 (lv_at hl 5 rfl) ?_
        refine zr_iconst hx hb dX0_add_88 ?_
        refine lv_iload hx hb dX0_add_89 (lv_at hl 0 rfl) ?_
        refine zr_imul hx hb dX0_add_91 ?_
        refine zr_iadd hx hb dX0_add_92 ?_
        refine lv_istore (lv' := [(8, .int (zi ((128 * a) + (2 * j2)))), (5, .int (zi j2)), (0, .ref z.2.1), (1, .int (zi a)), (2, .int (zi d)), (3, .int (zi x)), (4, .int (zi (128 * a))), (6, .int (zi (2 ^ i))), (7, .int (zi (i : Int)))]) hx hb dX0_add_93 hl (by decide) rfl (fun ls hl => ?_)
        refine lv_aload_n hx hb dX0_add_95 rfl (lv_at hl 2 rfl) ?_
        refine kg_ch E w dX0_add_96 ?_
        refine lv_iload hx hb dX0_add_99 (lv_at hl 0 rfl) ?_
        refine kl_ch E w (v := g1 ((128 * a) + (2 * j2))) (by omega) rfl dX0_add_101 ?_
        refine lv_aload_n hx hb dX0_add_102 rfl (lv_at hl 2 rfl) ?_
        refine kg_le E w dX0_add_103 ?_
        refine lv_iload hx hb dX0_add_106 (lv_at hl 0 rfl) ?_
        refine zr_iconst hx hb dX0_add_108 ?_
        refine zr_iadd hx hb dX0_add_109 ?_
        refine kl_le E w (v := g2 (((128 * a) + (2 * j2)) + 1)) (by omega) rfl dX0_add_110 ?_
        refine zr_iadd hx hb dX0_add_111 ?_
        refine lv_istore (lv' := [(9, .int (zi ((g1 ((128 * a) + (2 * j2))) + (g2 (((128 * a) + (2 * j2)) + 1))))), (8, .int (zi ((128 * a) + (2 * j2)))), (5, .int (zi j2)), (0, .ref z.2.1), (1, .int (zi a)), (2, .int (zi d)), (3, .int (zi x)), (4, .int (zi (128 * a))), (6, .int (zi (2 ^ i))), (7, .int (zi (i : Int)))]) hx hb dX0_add_112 hl (by decide) rfl (fun ls hl => ?_)
        refine lv_aload_n hx hb dX0_add_114 rfl (lv_at hl 3 rfl) ?_
        refine kg_ch E w dX0_add_115 ?_
        refine lv_iload hx hb dX0_add_118 (lv_at hl 7 rfl) ?_
        refine lv_iload hx hb dX0_add_120 (lv_at hl 2 rfl) ?_
        refine zr_iadd hx hb dX0_add_122 ?_
        refine lv_aload_n hx hb dX0_add_123 rfl (lv_at hl 3 rfl) ?_
        refine kg_ch E w dX0_add_124 ?_
        refine lv_iload hx hb dX0_add_127 (lv_at hl 1 rfl) ?_
        refine kl_ch E w (v := g1 ((128 * a) + (2 * j2))) (by omega) rfl dX0_add_129 ?_
        refine lv_aload_n hx hb dX0_add_130 rfl (lv_at hl 3 rfl) ?_
        refine kg_ch E w dX0_add_131 ?_
        refine lv_iload hx hb dX0_add_134 (lv_at hl 1 rfl) ?_
        refine zr_iconst hx hb dX0_add_136 ?_
        refine zr_iadd hx hb dX0_add_137 ?_
        refine kl_ch E w (v := g1 (((128 * a) + (2 * j2)) + 1)) (by omega) rfl dX0_add_138 ?_
        refine zr_iadd hx hb dX0_add_139 ?_
        refine ks_ch E w (by omega) dX0_add_140 (fun H locs w => ?_)
        refine lv_aload_n hx hb dX0_add_141 rfl (lv_at hl 3 rfl) ?_
        refine kg_le E w dX0_add_142 ?_
        refine lv_iload hx hb dX0_add_145 (lv_at hl 7 rfl) ?_
        refine lv_iload hx hb dX0_add_147 (lv_at hl 2 rfl) ?_
        refine zr_iadd hx hb dX0_add_149 ?_
        refine lv_aload_n hx hb dX0_add_150 rfl (lv_at hl 3 rfl) ?_
        refine kg_le E w dX0_add_151 ?_
        refine lv_iload hx hb dX0_add_154 (lv_at hl 1 rfl) ?_
        refine kl_le E w (v := g2 ((128 * a) + (2 * j2))) (by omega) rfl dX0_add_156 ?_
        refine lv_iload hx hb dX0_add_157 (lv_at hl 0 rfl) ?_
        refine zr_icmp_ge (tgt := 172) hx hb dX0_add_159 (by decide) (by omega) (by omega) (fun c_159 => ?_) (fun c_159 => ?_)
        · skip
          have hm := trI_up (m := g1 (128 * a + 2 * j2) + g2 (128 * a + 2 * j2 + 1)) g4 ha hj3 hd3 c_159 (Int.le_refl _) (Or.inr rfl)
          refine lv_iload hx hb dX0_add_172 (lv_at hl 0 rfl) ?_
          refine ks_le E w (by omega) dX0_add_174 (fun H locs w => ?_)
          refine lv_aload_n hx hb dX0_add_175 rfl (lv_at hl 3 rfl) ?_
          refine kg_ar E w dX0_add_176 ?_
          refine lv_iload hx hb dX0_add_179 (lv_at hl 7 rfl) ?_
          refine lv_iload hx hb dX0_add_181 (lv_at hl 2 rfl) ?_
          refine zr_iadd hx hb dX0_add_183 ?_
          refine lv_aload_n hx hb dX0_add_184 rfl (lv_at hl 3 rfl) ?_
          refine kg_ar E w dX0_add_185 ?_
          refine lv_iload hx hb dX0_add_188 (lv_at hl 1 rfl) ?_
          refine kl_ar E w (v := g3 ((128 * a) + (2 * j2))) (by omega) rfl dX0_add_190 ?_
          refine lv_aload_n hx hb dX0_add_191 rfl (lv_at hl 3 rfl) ?_
          refine kg_ar E w dX0_add_192 ?_
          refine lv_iload hx hb dX0_add_195 (lv_at hl 1 rfl) ?_
          refine zr_iconst hx hb dX0_add_197 ?_
          refine zr_iadd hx hb dX0_add_198 ?_
          refine kl_ar E w (v := g3 (((128 * a) + (2 * j2)) + 1)) (by omega) rfl dX0_add_199 ?_
          refine zr_iadd hx hb dX0_add_200 ?_
          refine lv_aload_n hx hb dX0_add_201 rfl (lv_at hl 3 rfl) ?_
          refine kg_ch E w dX0_add_202 ?_
          refine lv_iload hx hb dX0_add_205 (lv_at hl 1 rfl) ?_
          refine kl_ch E w (v := g1 (128 * a + 2 * j2)) (by omega) (up_n _ _ (by omega)) dX0_add_207 ?_
          refine lv_iload hx hb dX0_add_208 (lv_at hl 8 rfl) ?_
          refine zr_imul hx hb dX0_add_210 ?_
          refine zr_iadd hx hb dX0_add_211 ?_
          refine ks_ar E w (by omega) dX0_add_212 (fun H locs w => ?_)
          refine zr_iconst hx hb dX0_add_213 ?_
          refine lv_iload hx hb dX0_add_214 (lv_at hl 8 rfl) ?_
          refine zr_imul hx hb dX0_add_216 ?_
          refine zr_top (2 ^ (i + 1)) (pw_s i).symm ?_
          refine lv_istore (lv' := [(6, .int (zi (2 ^ (i + 1)))), (9, .int (zi ((g1 ((128 * a) + (2 * j2))) + (g2 (((128 * a) + (2 * j2)) + 1))))), (8, .int (zi ((128 * a) + (2 * j2)))), (5, .int (zi j2)), (0, .ref z.2.1), (1, .int (zi a)), (2, .int (zi d)), (3, .int (zi x)), (4, .int (zi (128 * a))), (7, .int (zi (i : Int)))]) hx hb dX0_add_217 hl (by decide) rfl (fun ls hl => ?_)
          refine lv_iinc (v := zi ((i + 1 : Nat) : Int)) (lv' := [(7, .int (zi ((i + 1 : Nat) : Int))), (6, .int (zi (2 ^ (i + 1)))), (9, .int (zi ((g1 ((128 * a) + (2 * j2))) + (g2 (((128 * a) + (2 * j2)) + 1))))), (8, .int (zi ((128 * a) + (2 * j2)))), (5, .int (zi j2)), (0, .ref z.2.1), (1, .int (zi a)), (2, .int (zi d)), (3, .int (zi x)), (4, .int (zi (128 * a)))]) hx hb dX0_add_219 hl (k := 9) rfl (show zi _ + zi 1 = _ by rw [zi_add]; exact congrArg zi (by omega)) (by decide) rfl (fun ls hl => ?_)
          refine lv_goto (tgt := 73) hx hb dX0_add_222 (by decide) ?_
          exact ih _ _ _ j2 (i + 1) _ _ ls (by omega) (by omega) hj3 hd3 hm w (lv_sub hl [5, 6, 7, 8, 9, 4, 1, 0] rfl)
        · skip
          have hm := trI_up (m := g2 (128 * a + 2 * j2)) g4 ha hj3 hd3 (Int.le_refl _) (by omega) (Or.inl rfl)
          refine lv_aload_n hx hb dX0_add_162 rfl (lv_at hl 3 rfl) ?_
          refine kg_le E w dX0_add_163 ?_
          refine lv_iload hx hb dX0_add_166 (lv_at hl 1 rfl) ?_
          refine kl_le E w (v := g2 ((128 * a) + (2 * j2))) (by omega) rfl dX0_add_168 ?_
          refine lv_goto (tgt := 174) hx hb dX0_add_169 (by decide) ?_
          refine ks_le E w (by omega) dX0_add_174 (fun H locs w => ?_)
          refine lv_aload_n hx hb dX0_add_175 rfl (lv_at hl 3 rfl) ?_
          refine kg_ar E w dX0_add_176 ?_
          refine lv_iload hx hb dX0_add_179 (lv_at hl 7 rfl) ?_
          refine lv_iload hx hb dX0_add_181 (lv_at hl 2 rfl) ?_
          refine zr_iadd hx hb dX0_add_183 ?_
          refine lv_aload_n hx hb dX0_add_184 rfl (lv_at hl 3 rfl) ?_
          refine kg_ar E w dX0_add_185 ?_
          refine lv_iload hx hb dX0_add_188 (lv_at hl 1 rfl) ?_
          refine kl_ar E w (v := g3 ((128 * a) + (2 * j2))) (by omega) rfl dX0_add_190 ?_
          refine lv_aload_n hx hb dX0_add_191 rfl (lv_at hl 3 rfl) ?_
          refine kg_ar E w dX0_add_192 ?_
          refine lv_iload hx hb dX0_add_195 (lv_at hl 1 rfl) ?_
          refine zr_iconst hx hb dX0_add_197 ?_
          refine zr_iadd hx hb dX0_add_198 ?_
          refine kl_ar E w (v := g3 (((128 * a) + (2 * j2)) + 1)) (by omega) rfl dX0_add_199 ?_
          refine zr_iadd hx hb dX0_add_200 ?_
          refine lv_aload_n hx hb dX0_add_201 rfl (lv_at hl 3 rfl) ?_
          refine kg_ch E w dX0_add_202 ?_
          refine lv_iload hx hb dX0_add_205 (lv_at hl 1 rfl) ?_
          refine kl_ch E w (v := g1 (128 * a + 2 * j2)) (by omega) (up_n _ _ (by omega)) dX0_add_207 ?_
          refine lv_iload hx hb dX0_add_208 (lv_at hl 8 rfl) ?_
          refine zr_imul hx hb dX0_add_210 ?_
          refine zr_iadd hx hb dX0_add_211 ?_
          refine ks_ar E w (by omega) dX0_add_212 (fun H locs w => ?_)
          refine zr_iconst hx hb dX0_add_213 ?_
          refine lv_iload hx hb dX0_add_214 (lv_at hl 8 rfl) ?_
          refine zr_imul hx hb dX0_add_216 ?_
          refine zr_top (2 ^ (i + 1)) (pw_s i).symm ?_
          refine lv_istore (lv' := [(6, .int (zi (2 ^ (i + 1)))), (9, .int (zi ((g1 ((128 * a) + (2 * j2))) + (g2 (((128 * a) + (2 * j2)) + 1))))), (8, .int (zi ((128 * a) + (2 * j2)))), (5, .int (zi j2)), (0, .ref z.2.1), (1, .int (zi a)), (2, .int (zi d)), (3, .int (zi x)), (4, .int (zi (128 * a))), (7, .int (zi (i : Int)))]) hx hb dX0_add_217 hl (by decide) rfl (fun ls hl => ?_)
          refine lv_iinc (v := zi ((i + 1 : Nat) : Int)) (lv' := [(7, .int (zi ((i + 1 : Nat) : Int))), (6, .int (zi (2 ^ (i + 1)))), (9, .int (zi ((g1 ((128 * a) + (2 * j2))) + (g2 (((128 * a) + (2 * j2)) + 1))))), (8, .int (zi ((128 * a) + (2 * j2)))), (5, .int (zi j2)), (0, .ref z.2.1), (1, .int (zi a)), (2, .int (zi d)), (3, .int (zi x)), (4, .int (zi (128 * a)))]) hx hb dX0_add_219 hl (k := 9) rfl (show zi _ + zi 1 = _ by rw [zi_add]; exact congrArg zi (by omega)) (by decide) rfl (fun ls hl => ?_)
          refine lv_goto (tgt := 73) hx hb dX0_add_222 (by decide) ?_
          exact ih _ _ _ j2 (i + 1) _ _ ls (by omega) (by omega) hj3 hd3 hm w (lv_sub hl [5, 6, 7, 8, 9, 4, 1, 0] rfl)
  refine zr_sipush hx hb dX0_add_0 (by decide) ?_
  refine lv_iload_n hx hb dX0_add_3 rfl (lv_at hl 1 rfl) ?_
  refine zr_imul hx hb dX0_add_4 ?_
  refine lv_istore (lv' := [(4, .int (zi (128 * a))), (0, .ref z.2.1), (1, .int (zi a)), (2, .int (zi d)), (3, .int (zi x))]) hx hb dX0_add_5 hl (by decide) rfl (fun ls hl => ?_)
  refine zr_bipush hx hb dX0_add_7 (by decide) ?_
  refine lv_iload_n hx hb dX0_add_9 rfl (lv_at hl 3 rfl) ?_
  refine zr_iadd hx hb dX0_add_10 ?_
  refine lv_istore (lv' := [(5, .int (zi (64 + d))), (4, .int (zi (128 * a))), (0, .ref z.2.1), (1, .int (zi a)), (2, .int (zi d)), (3, .int (zi x))]) hx hb dX0_add_11 hl (by decide) rfl (fun ls hl => ?_)
  refine lv_aload_n hx hb dX0_add_13 rfl (lv_at hl 2 rfl) ?_
  refine kg_ch E w dX0_add_14 ?_
  refine lv_iload hx hb dX0_add_17 (lv_at hl 1 rfl) ?_
  refine lv_iload hx hb dX0_add_19 (lv_at hl 0 rfl) ?_
  refine zr_iadd hx hb dX0_add_21 ?_
  refine lv_dup2_11 hx hb dX0_add_22 rfl rfl ?_
  refine kl_ch E w (v := xch ((128 * a) + (64 + d))) (by omega) rfl dX0_add_23 ?_
  refine lv_iload_n hx hb dX0_add_24 rfl (lv_at hl 5 rfl) ?_
  refine zr_iadd hx hb dX0_add_25 ?_
  refine ks_ch E w (by omega) dX0_add_26 (fun H locs w => ?_)
  refine lv_aload_n hx hb dX0_add_27 rfl (lv_at hl 2 rfl) ?_
  refine kg_le E w dX0_add_28 ?_
  refine lv_iload hx hb dX0_add_31 (lv_at hl 1 rfl) ?_
  refine lv_iload hx hb dX0_add_33 (lv_at hl 0 rfl) ?_
  refine zr_iadd hx hb dX0_add_35 ?_
  refine lv_aload_n hx hb dX0_add_36 rfl (lv_at hl 2 rfl) ?_
  refine kg_ch E w dX0_add_37 ?_
  refine lv_iload hx hb dX0_add_40 (lv_at hl 1 rfl) ?_
  refine lv_iload hx hb dX0_add_42 (lv_at hl 0 rfl) ?_
  refine zr_iadd hx hb dX0_add_44 ?_
  refine kl_ch E w (v := xch (128 * a + (64 + d)) + x) (by omega) (up_s _ _ _) dX0_add_45 ?_
  refine ks_le E w (by omega) dX0_add_46 (fun H locs w => ?_)
  refine lv_aload_n hx hb dX0_add_47 rfl (lv_at hl 2 rfl) ?_
  refine kg_ar E w dX0_add_48 ?_
  refine lv_iload hx hb dX0_add_51 (lv_at hl 1 rfl) ?_
  refine lv_iload hx hb dX0_add_53 (lv_at hl 0 rfl) ?_
  refine zr_iadd hx hb dX0_add_55 ?_
  refine lv_aload_n hx hb dX0_add_56 rfl (lv_at hl 2 rfl) ?_
  refine kg_ch E w dX0_add_57 ?_
  refine lv_iload hx hb dX0_add_60 (lv_at hl 1 rfl) ?_
  refine lv_iload hx hb dX0_add_62 (lv_at hl 0 rfl) ?_
  refine zr_iadd hx hb dX0_add_64 ?_
  refine kl_ch E w (v := xch (128 * a + (64 + d)) + x) (by omega) (up_s _ _ _) dX0_add_65 ?_
  refine ks_ar E w (by omega) dX0_add_66 (fun H locs w => ?_)
  refine zr_iconst hx hb dX0_add_67 ?_
  refine lv_istore (lv' := [(6, .int (zi 1)), (5, .int (zi (64 + d))), (4, .int (zi (128 * a))), (0, .ref z.2.1), (1, .int (zi a)), (2, .int (zi d)), (3, .int (zi x))]) hx hb dX0_add_68 hl (by decide) rfl (fun ls hl => ?_)
  refine zr_iconst hx hb dX0_add_70 ?_
  refine lv_istore (lv' := [(7, .int (zi 0)), (6, .int (zi 1)), (5, .int (zi (64 + d))), (4, .int (zi (128 * a))), (0, .ref z.2.1), (1, .int (zi a)), (2, .int (zi d)), (3, .int (zi x))]) hx hb dX0_add_71 hl (by decide) rfl (fun ls hl => ?_)
  exact loop 7 _ _ _ (64 + d) 0 _ _ ls (by omega) (by omega) (by unfold okn; rw [show (2 : Int) ^ 0 = 1 from rfl]; omega) (by rw [show (2 : Int) ^ 0 = 1 from rfl]; omega) (trI_0 hT ha (by omega) rfl) w (lv_sub hl [4, 5, 6, 7, 3, 2, 1, 0] rfl)
end
section
/-! THE BOOK: what its arrays hold, and how entries change it (pure) -/
/-- every account at every day at its floor or above -/
def sdd (fl : Int → Int) (P : Int → Int → Int) : Prop := ∀ a, 0 ≤ a → a < 4 → ∀ j, 0 < j → j ≤ 48 → fl a ≤ P a j
/-- the lowest balance of account a over the days f .. t -/
def lwp (P : Int → Int → Int) (a f t k : Int) : Prop := (∀ j, f < j → j ≤ t + 1 → k ≤ P a j) ∧ ∃ j, f < j ∧ j ≤ t + 1 ∧ k = P a j
theorem lwp_eq {P : Int → Int → Int} {a f t k k' : Int} (h : lwp P a f t k) (h' : lwp P a f t k') : k = k' := by
  obtain ⟨i, i1, i2, i3⟩ := h.2
  obtain ⟨j, j1, j2, j3⟩ := h'.2
  have := h.1 j j1 j2
  have := h'.1 i i1 i2
  omega
/-- an entry's four numbers -/
def eok (ac dy am go : Int → Int) (n : Int) : Prop := ∀ e, 0 ≤ e → e < n → (0 ≤ ac e ∧ ac e < 4) ∧ (0 ≤ dy e ∧ dy e < 48) ∧ (-10000 ≤ am e ∧ am e ≤ 10000) ∧ (go e = 0 ∨ go e = 1)
def flok (fl : Int → Int) : Prop := ∀ a, 0 ≤ a → a < 4 → -10000 ≤ fl a ∧ fl a ≤ 10000
def BI (ac dy am go fl ch le ar : Int → Int) (n : Int) : Prop := (0 ≤ n ∧ n ≤ 60) ∧ eok ac dy am go n ∧ flok fl ∧ tr ch le ar (pb n ac dy am go)
theorem eok_TB {ac dy am go fl ch le ar : Int → Int} {n : Int} {P : Int → Int → Int} (hn : 0 ≤ n ∧ n ≤ 60) (he : eok ac dy am go n) (hf : flok fl) (hP : P = pb n ac dy am go) (ht : tr ch le ar P) : TB ch le ar fl P := by
  subst hP
  exact ⟨ht, fun a k _ _ _ _ => pb_bound hn.2 (fun e h1 h2 => (he e h1 h2).2.2.1) a k, fun a _ _ => pb_0 (fun e h1 h2 => (he e h1 h2).2.1.1) a, fun a k _ _ h1 _ => pb_tail (fun e h1 h2 => (he e h1 h2).2.1.2) a k h1, hf⟩
theorem BI_TB {ac dy am go fl ch le ar : Int → Int} {n : Int} (h : BI ac dy am go fl ch le ar n) : TB ch le ar fl (pb n ac dy am go) := eok_TB h.1 h.2.1 h.2.2.1 rfl h.2.2.2
/-- a new entry -/
theorem eok_push {ac dy am go : Int → Int} {n : Int} (h : eok ac dy am go n) {a d x : Int} (ha : 0 ≤ a ∧ a < 4) (hd : 0 ≤ d ∧ d < 48) (hx : -10000 ≤ x ∧ x ≤ 10000) : eok (up ac n a) (up dy n d) (up am n x) (up go n 0) (n + 1) := by
  intro e h1 h2
  by_cases q : e = n
  · subst q
    rw [up_s, up_s, up_s, up_s]
    exact ⟨ha, hd, hx, Or.inl rfl⟩
  · rw [up_n _ _ q, up_n _ _ q, up_n _ _ q, up_n _ _ q]
    exact h e h1 (by omega)
theorem bump_push {n : Int} (hn : 0 ≤ n) (ac dy am go : Int → Int) (a d x : Int) : bump (pb n ac dy am go) a d x = pb (n + 1) (up ac n a) (up dy n d) (up am n x) (up go n 0) := by
  funext b k
  rw [pb_push hn]
  rfl
theorem push_bound {ac dy am go : Int → Int} {n : Int} (hn : 0 ≤ n ∧ n < 60) (h : eok ac dy am go n) {a d x : Int} (ha : 0 ≤ a ∧ a < 4) (hd : 0 ≤ d ∧ d < 48) (hx : -10000 ≤ x ∧ x ≤ 10000) (b k : Int) : -600000 ≤ bump (pb n ac dy am go) a d x b k ∧ bump (pb n ac dy am go) a d x b k ≤ 600000 := by
  rw [bump_push hn.1]
  exact pb_bound (by omega) (fun e h1 h2 => (eok_push h ha hd hx e h1 h2).2.2.1) b k
/-- an entry is cancelled -/
theorem eok_go {ac dy am go : Int → Int} {n : Int} (h : eok ac dy am go n) (e : Int) {x : Int} (hx : x = 0 ∨ x = 1) : eok ac dy am (up go e x) n := by
  intro i h1 h2
  obtain ⟨q1, q2, q3, q4⟩ := h i h1 h2
  refine ⟨q1, q2, q3, ?_⟩
  by_cases q : i = e
  · rw [q, up_s]
    exact hx
  · rw [up_n _ _ q]
    exact q4
theorem bump_off {n : Int} {ac dy am go : Int → Int} {e : Int} (h0 : 0 ≤ e) (h1 : e < n) (ho : go e = 0) : bump (pb n ac dy am go) (ac e) (dy e) (-(am e)) = pb n ac dy am (up go e 1) := by
  funext b k
  rw [pb_off h0 h1 ho]
  rfl
theorem bump_on {n : Int} {ac dy am go : Int → Int} {e : Int} (h0 : 0 ≤ e) (h1 : e < n) (ho : go e = 1) : bump (pb n ac dy am go) (ac e) (dy e) (am e) = pb n ac dy am (up go e 0) := by
  funext b k
  rw [pb_on h0 h1 ho]
  rfl
/-- the last entry is taken away -/
theorem bump_pop {n : Int} {ac dy am go : Int → Int} (hn : 0 ≤ n) (ho : go n = 0) : bump (pb (n + 1) ac dy am go) (ac n) (dy n) (-(am n)) = pb n ac dy am go := by
  funext b k
  unfold bump
  rw [pb_succ hn]
  unfold ew
  by_cases q : ac n = b ∧ dy n < k
  · rw [if_pos ⟨ho, q⟩, if_pos q]
    omega
  · rw [if_neg (fun z => q z.2), if_neg q]
    omega
theorem pb_pop {n : Int} {ac dy am go : Int → Int} (hn : 0 ≤ n) (ho : go n ≠ 0) : pb (n + 1) ac dy am go = pb n ac dy am go := by
  funext b k
  rw [pb_succ hn]
  unfold ew
  rw [if_neg (fun z => ho z.1)]
  omega
theorem pbf_congr {n : Int} {ac dy am of ac' dy' am' of' : Int → Int} (h : ∀ e, 0 ≤ e → e < n → ac e = ac' e ∧ dy e = dy' e ∧ am e = am' e ∧ of e = of' e) : pb n ac dy am of = pb n ac' dy' am' of' := by
  funext a k
  exact pb_congr h a k
/-- how many of the first days lie below b -/
def cb (p : Int → Int) (b : Int) : Nat → Int
  | 0 => 0
  | n + 1 => cb p b n + (if p ((n : Int) + 1) < b then 1 else 0)
theorem cb_succ (p : Int → Int) (b : Int) {x : Int} (hx : 0 ≤ x) : cb p b (x + 1).toNat = cb p b x.toNat + (if p (x + 1) < b then 1 else 0) := by
  have e1 : (x + 1).toNat = x.toNat + 1 := by omega
  rw [e1]
  show cb p b x.toNat + (if p ((x.toNat : Int) + 1) < b then 1 else 0) = _
  rw [Int.toNat_of_nonneg hx]
theorem cb_flat {p : Int → Int} {b x : Int} (hx : 0 ≤ x) : ∀ n : Nat, (∀ k, x < k → k ≤ x + n → b ≤ p k) → cb p b (x + n).toNat = cb p b x.toNat := by
  intro n
  induction n with
  | zero => intro _; rw [show x + ((0 : Nat) : Int) = x by omega]
  | succ n ih =>
    intro h
    rw [show x + ((n + 1 : Nat) : Int) = (x + n) + 1 by omega, cb_succ p b (by omega), ih (fun k h1 h2 => h k h1 (by omega)), if_neg (by have := h (x + n + 1) (by omega) (by omega); omega)]
    omega
theorem cb_flat' {p : Int → Int} {b x y : Int} (hx : 0 ≤ x) (hxy : x ≤ y) (h : ∀ k, x < k → k ≤ y → b ≤ p k) : cb p b y.toNat = cb p b x.toNat := by
  have := cb_flat (p := p) (b := b) hx (y - x).toNat (fun k h1 h2 => h k h1 (by omega))
  rw [show x + ((y - x).toNat : Int) = y by omega] at this
  exact this
theorem cb_le (p : Int → Int) (b : Int) : ∀ n : Nat, 0 ≤ cb p b n ∧ cb p b n ≤ n := by
  intro n
  induction n with
  | zero => exact ⟨Int.le_refl _, Int.le_refl _⟩
  | succ n ih =>
    show 0 ≤ cb p b n + (if p ((n : Int) + 1) < b then 1 else 0) ∧ cb p b n + (if p ((n : Int) + 1) < b then 1 else 0) ≤ ((n + 1 : Nat) : Int)
    split <;> omega
end
section
/-! BackdatedBook: bears, isSound, enter -/
set_option maxHeartbeats 4000000 in
set_option maxRecDepth 100000 in
theorem bk_bears (l : Launch) (z : bkZ) {xac xdy xam xgo xfl xch xle xar xlg : Int → Int} {xn xlo xmk xba xwc xwl xwa : Int} (P : Int → Int → Int) (hT : TB xch xle xar xfl P) (a d x : Int) (ha : 0 ≤ a ∧ a < 4) (hd : 0 ≤ d ∧ d < 48) (hx0 : -10000 ≤ x ∧ x ≤ 10000) : bkM l yX0_bears cX0_bears 4 .boolean ({ frames := 3, cells := 0, slots := 0, locals := 75 }) z (bkC xac xdy xam xgo xfl xch xle xar xlg xn xlo xmk xba xwc xwl xwa) [.int (zi a), .int (zi d), .int (zi x)] (fun k u' => (∃ y1 y2 y3 : Int, u' = bkC xac xdy xam xgo xfl xch xle xar xlg xn xlo xmk xba y1 y2 y3) ∧ ((k = 1 ∧ (0 < x ∨ ∀ j, d < j → j ≤ 48 → xfl a ≤ P a j + x)) ∨ (k = 0 ∧ ¬ (0 < x ∨ ∀ j, d < j → j ≤ 48 → xfl a ≤ P a j + x)))) := by
  refine bk_enter (by decide) rfl (Nat.le_of_ble_eq_true rfl) ?_
  intro p e R s m args below meth c A Q hR E hml rt w ls hl
  have hx := E.1
  have hb := E.2.1
  have hts := E.2.2.1
  have hown := E.2.2.2.1
  have hl : lv_has ls 4 [(0, .ref z.2.1), (1, .int (zi a)), (2, .int (zi d)), (3, .int (zi x))] := hl
  have w : bkG z A s.heap xac xdy xam xgo xfl xch xle xar xlg xn xlo xmk xba xwc xwl xwa s.heap [] := w
  have hfl := hT.2.2.2.2 a ha.1 ha.2
  refine lv_iload_n hx hb dX0_bears_0 rfl (lv_at hl 3 rfl) ?_
  refine zr_if_gt (tgt := 23) hx hb dX0_bears_1 (by decide) (by omega) (fun c_1 => ?_) (fun c_1 => ?_)
  · skip
    refine zr_iconst hx hb dX0_bears_23 ?_
    refine lv_goto (tgt := 28) hx hb dX0_bears_24 (by decide) ?_
    exact rt dX0_bears_28 w (⟨⟨_, _, _, rfl⟩, Or.inl ⟨rfl, Or.inl c_1⟩⟩) (by decide)
  · skip
    refine lv_aload_n hx hb dX0_bears_4 rfl (lv_at hl 0 rfl) ?_
    refine lv_iload_n hx hb dX0_bears_5 rfl (lv_at hl 1 rfl) ?_
    refine lv_iload_n hx hb dX0_bears_6 rfl (lv_at hl 2 rfl) ?_
    refine zr_bipush hx hb dX0_bears_7 (by decide) ?_
    refine bk_call (as := [.int (zi a), .int (zi d), .int (zi 47)]) (rest := []) (n := 3) E hml w (bk_lowestIn l z P hT a d 47 ha (by omega) (by omega)) q95 q97 qs1 q98 rfl rfl (by decide +kernel) (by rw [hR]; exact ⟨Nat.le_of_ble_eq_true rfl, Nat.le_of_ble_eq_true rfl⟩) rfl hl.1 rfl (Nat.le_of_ble_eq_true rfl) dX0_bears_9 (fun k1 u1 H locs hw w => ?_)
    obtain ⟨⟨y1, y2, y3, rfl⟩, q1, j0, j1, j2, j3⟩ := hw
    have hbj := hT.2.1 a j0 ha.1 ha.2 (by omega) (by omega)
    rw [show (47 : Int) + 1 = 48 from rfl] at q1 j2
    have w : bkG z A s.heap xac xdy xam xgo xfl xch xle xar xlg xn xlo xmk xba y1 y2 y3 H locs := w
    refine lv_iload_n hx hb dX0_bears_12 rfl (lv_at hl 3 rfl) ?_
    refine zr_iadd hx hb dX0_bears_13 ?_
    refine lv_aload_n hx hb dX0_bears_14 rfl (lv_at hl 0 rfl) ?_
    refine kg_fl E w dX0_bears_15 ?_
    refine lv_iload_n hx hb dX0_bears_18 rfl (lv_at hl 1 rfl) ?_
    refine kl_fl E w (v := xfl a) (by omega) rfl dX0_bears_19 ?_
    refine zr_icmp_lt (tgt := 27) hx hb dX0_bears_20 (by decide) (by omega) (by omega) (fun c_20 => ?_) (fun c_20 => ?_)
    · skip
      
      refine zr_iconst hx hb dX0_bears_27 ?_
      exact rt dX0_bears_28 w (⟨⟨_, _, _, rfl⟩, Or.inr ⟨rfl, fun q => by rcases q with q | q; exact absurd q (by omega); have := q j0 j1 j2; omega⟩⟩) (by decide)
    · skip
      
      refine zr_iconst hx hb dX0_bears_23 ?_
      refine lv_goto (tgt := 28) hx hb dX0_bears_24 (by decide) ?_
      exact rt dX0_bears_28 w (⟨⟨_, _, _, rfl⟩, Or.inl ⟨rfl, Or.inr (fun j i1 i2 => by have := q1 j i1 i2; omega)⟩⟩) (by decide)
set_option maxHeartbeats 4000000 in
set_option maxRecDepth 100000 in
theorem bk_isSound (l : Launch) (z : bkZ) {xac xdy xam xgo xfl xch xle xar xlg : Int → Int} {xn xlo xmk xba xwc xwl xwa : Int} (P : Int → Int → Int) (hT : TB xch xle xar xfl P) : bkM l yX0_isSound cX0_isSound 2 .boolean ({ frames := 2, cells := 0, slots := 0, locals := 51 }) z (bkC xac xdy xam xgo xfl xch xle xar xlg xn xlo xmk xba xwc xwl xwa) [] (fun k u' => (∃ y1 y2 y3 : Int, u' = bkC xac xdy xam xgo xfl xch xle xar xlg xn xlo xmk xba y1 y2 y3) ∧ ((k = 1 ∧ sdd xfl P) ∨ (k = 0 ∧ ¬ sdd xfl P))) := by
  refine bk_enter (by decide) rfl (Nat.le_of_ble_eq_true rfl) ?_
  intro p e R s m args below meth c A Q hR E hml rt w ls hl
  have hx := E.1
  have hb := E.2.1
  have hts := E.2.2.1
  have hown := E.2.2.2.1
  have hl : lv_has ls 2 [(0, .ref z.2.1)] := hl
  have w : bkG z A s.heap xac xdy xam xgo xfl xch xle xar xlg xn xlo xmk xba xwc xwl xwa s.heap [] := w
  have loop : ∀ (n : Nat) (i y1 y2 y3 : Int) (H : Heap) (locs : List Loc) (ls : Array Slot), 0 ≤ i ∧ i ≤ 4 → 5 ≤ (n : Int) + i → (∀ a, 0 ≤ a → a < i → ∀ j, 0 < j → j ≤ 48 → xfl a ≤ P a j) → bkG z A s.heap xac xdy xam xgo xfl xch xle xar xlg xn xlo xmk xba y1 y2 y3 H locs → lv_has ls 2 [(0, .ref z.2.1), (1, .int (zi i))] → W p l e R s m args below meth c H locs 0 0 Q (F0 m 2 ls []) := by
    intro n
    induction n with
    | zero =>
      intro i y1 y2 y3 H locs ls i1 hn i3
      exfalso
      omega
    | succ n ih =>
      intro i y1 y2 y3 H locs ls i1 hn i3 w hl
      refine lv_iload_n hx hb dX0_isSound_2 rfl (lv_at hl 1 rfl) ?_
      refine zr_iconst hx hb dX0_isSound_3 ?_
      refine zr_icmp_ge (tgt := 36) hx hb dX0_isSound_4 (by decide) (by omega) (by omega) (fun c_4 => ?_) (fun c_4 => ?_)
      · skip
        refine zr_iconst hx hb dX0_isSound_36 ?_
        exact rt dX0_isSound_37 w (⟨⟨_, _, _, rfl⟩, Or.inl ⟨rfl, fun a a1 a2 j j1 j2 => i3 a a1 (by omega) j j1 j2⟩⟩) (by decide)
      · skip
        refine lv_aload_n hx hb dX0_isSound_7 rfl (lv_at hl 0 rfl) ?_
        refine lv_iload_n hx hb dX0_isSound_8 rfl (lv_at hl 1 rfl) ?_
        refine zr_iconst hx hb dX0_isSound_9 ?_
        refine zr_bipush hx hb dX0_isSound_10 (by decide) ?_
        refine bk_callV (as := [.int (zi i), .int (zi 0), .int (zi 47)]) (rest := []) (n := 3) E hml w (bk_walk l z P hT i 0 47 (by omega) (by omega) (by omega)) q99 q101 qs2 q102 rfl rfl (by decide +kernel) (by rw [hR]; exact ⟨Nat.le_of_ble_eq_true rfl, Nat.le_of_ble_eq_true rfl⟩) rfl hl.1 rfl (Nat.le_of_ble_eq_true rfl) dX0_isSound_12 (fun u1 H locs hw w => ?_)
        obtain ⟨g1, g2, g3, rfl, -, e3, -⟩ := hw
        have e4 := e3 (by omega)
        rw [show (47 : Int) + 1 = 48 from rfl] at e4
        have e5 := mn_bound e4 (fun k h1 h2 => hT.2.1 i k (by omega) (by omega) h1 h2) (by omega) (by omega)
        have e0 := hT.2.2.1 i (by omega) (by omega)
        have hfl := hT.2.2.2.2 i (by omega) (by omega)
        have w : bkG z A s.heap xac xdy xam xgo xfl xch xle xar xlg xn xlo xmk xba g1 g2 g3 H locs := w
        refine lv_aload_n hx hb dX0_isSound_15 rfl (lv_at hl 0 rfl) ?_
        refine kg_wl E w (v := g2) rfl dX0_isSound_16 ?_
        refine lv_aload_n hx hb dX0_isSound_19 rfl (lv_at hl 0 rfl) ?_
        refine kg_fl E w dX0_isSound_20 ?_
        refine lv_iload_n hx hb dX0_isSound_23 rfl (lv_at hl 1 rfl) ?_
        refine kl_fl E w (v := xfl i) (by omega) rfl dX0_isSound_24 ?_
        refine zr_icmp_ge (tgt := 30) hx hb dX0_isSound_25 (by decide) (by omega) (by omega) (fun c_25 => ?_) (fun c_25 => ?_)
        · skip
          refine lv_iinc (v := zi (i + 1)) (lv' := [(1, .int (zi (i + 1))), (0, .ref z.2.1)]) hx hb dX0_isSound_30 hl (k := 1) rfl (zi_add i 1) (by decide) rfl (fun ls hl => ?_)
          refine lv_goto (tgt := 2) hx hb dX0_isSound_33 (by decide) ?_
          exact ih (i + 1) g1 g2 g3 _ _ ls (by omega) (by omega) (fun a a1 a2 j j1 j2 => by
            by_cases q : a = i
            · subst q
              have := e4.1 j j1 j2
              omega
            · exact i3 a a1 (by omega) j j1 j2) w (lv_sub hl [1, 0] rfl)
        · skip
          refine zr_iconst hx hb dX0_isSound_28 ?_
          exact rt dX0_isSound_29 w (⟨⟨_, _, _, rfl⟩, Or.inr ⟨rfl, fun q => by obtain ⟨k, k1, k2, k3⟩ := e4.2; have := q i (by omega) (by omega) k k1 k2; omega⟩⟩) (by decide)
  refine zr_iconst hx hb dX0_isSound_0 ?_
  refine lv_istore_n (lv' := [(1, .int (zi 0)), (0, .ref z.2.1)]) hx hb dX0_isSound_1 rfl hl (by decide) rfl (fun ls hl => ?_)
  exact loop 5 0 _ _ _ _ _ ls (by omega) (by omega) (fun a a1 a2 => by omega) w (lv_sub hl [1, 0] rfl)
set_option maxHeartbeats 4000000 in
set_option maxRecDepth 100000 in
theorem bk_enterE (l : Launch) (z : bkZ) {xac xdy xam xgo xfl xch xle xar xlg : Int → Int} {xn xlo xmk xba xwc xwl xwa : Int} (P : Int → Int → Int) (hT : tr xch xle xar P) (hn0 : 0 ≤ xn ∧ xn < 60) (a d x : Int) (ha : 0 ≤ a ∧ a < 4) (hd : 0 ≤ d ∧ d < 48) (hB : ∀ k, 0 ≤ k → k ≤ 64 → -600000 ≤ bump P a d x a k ∧ bump P a d x a k ≤ 600000) : bkM l yX0_enter cX0_enter 4 .int ({ frames := 1, cells := 0, slots := 0, locals := 29 }) z (bkC xac xdy xam xgo xfl xch xle xar xlg xn xlo xmk xba xwc xwl xwa) [.int (zi a), .int (zi d), .int (zi x)] (fun k u' => k = xn ∧ ∃ g1 g2 g3 : Int → Int, u' = bkC (up xac xn a) (up xdy xn d) (up xam xn x) (up xgo xn 0) xfl g1 g2 g3 xlg (xn + 1) xlo xmk xba xwc xwl xwa ∧ tr g1 g2 g3 (bump P a d x)) := by
  refine bk_enter (by decide) rfl (Nat.le_of_ble_eq_true rfl) ?_
  intro p e R s m args below meth c A Q hR E hml rt w ls hl
  have hx := E.1
  have hb := E.2.1
  have hts := E.2.2.1
  have hown := E.2.2.2.1
  have hl : lv_has ls 4 [(0, .ref z.2.1), (1, .int (zi a)), (2, .int (zi d)), (3, .int (zi x))] := hl
  have w : bkG z A s.heap xac xdy xam xgo xfl xch xle xar xlg xn xlo xmk xba xwc xwl xwa s.heap [] := w
  refine lv_aload_n hx hb dX0_enter_0 rfl (lv_at hl 0 rfl) ?_
  refine kg_ac E w dX0_enter_1 ?_
  refine lv_aload_n hx hb dX0_enter_4 rfl (lv_at hl 0 rfl) ?_
  refine kg_n E w (v := xn) rfl dX0_enter_5 ?_
  refine lv_iload_n hx hb dX0_enter_8 rfl (lv_at hl 1 rfl) ?_
  refine ks_ac E w (by omega) dX0_enter_9 (fun H locs w => ?_)
  refine lv_aload_n hx hb dX0_enter_10 rfl (lv_at hl 0 rfl) ?_
  refine kg_dy E w dX0_enter_11 ?_
  refine lv_aload_n hx hb dX0_enter_14 rfl (lv_at hl 0 rfl) ?_
  refine kg_n E w (v := xn) rfl dX0_enter_15 ?_
  refine lv_iload_n hx hb dX0_enter_18 rfl (lv_at hl 2 rfl) ?_
  refine ks_dy E w (by omega) dX0_enter_19 (fun H locs w => ?_)
  refine lv_aload_n hx hb dX0_enter_20 rfl (lv_at hl 0 rfl) ?_
  refine kg_am E w dX0_enter_21 ?_
  refine lv_aload_n hx hb dX0_enter_24 rfl (lv_at hl 0 rfl) ?_
  refine kg_n E w (v := xn) rfl dX0_enter_25 ?_
  refine lv_iload_n hx hb dX0_enter_28 rfl (lv_at hl 3 rfl) ?_
  refine ks_am E w (by omega) dX0_enter_29 (fun H locs w => ?_)
  refine lv_aload_n hx hb dX0_enter_30 rfl (lv_at hl 0 rfl) ?_
  refine kg_go E w dX0_enter_31 ?_
  refine lv_aload_n hx hb dX0_enter_34 rfl (lv_at hl 0 rfl) ?_
  refine kg_n E w (v := xn) rfl dX0_enter_35 ?_
  refine zr_iconst hx hb dX0_enter_38 ?_
  refine ks_go E w (by omega) (by decide) dX0_enter_39 (fun H locs w => ?_)
  refine lv_aload_n hx hb dX0_enter_40 rfl (lv_at hl 0 rfl) ?_
  refine lv_iload_n hx hb dX0_enter_41 rfl (lv_at hl 1 rfl) ?_
  refine lv_iload_n hx hb dX0_enter_42 rfl (lv_at hl 2 rfl) ?_
  refine lv_iload_n hx hb dX0_enter_43 rfl (lv_at hl 3 rfl) ?_
  refine bk_callV (as := [.int (zi a), .int (zi d), .int (zi x)]) (rest := []) (n := 3) E hml w (bk_add l z P hT a d x ha hd hB) q111 q113 qs4 q114 rfl rfl (by decide +kernel) (by rw [hR]; exact ⟨Nat.le_of_ble_eq_true rfl, Nat.le_of_ble_eq_true rfl⟩) rfl hl.1 rfl (Nat.le_of_ble_eq_true rfl) dX0_enter_44 (fun u1 H locs hw w => ?_)
  obtain ⟨g1, g2, g3, rfl, ht⟩ := hw
  have w : bkG z A s.heap (up xac xn a) (up xdy xn d) (up xam xn x) (up xgo xn 0) xfl g1 g2 g3 xlg xn xlo xmk xba xwc xwl xwa H locs := w
  refine lv_aload_n hx hb dX0_enter_47 rfl (lv_at hl 0 rfl) ?_
  refine lv_dup hx hb dX0_enter_48 rfl ?_
  refine kg_n E w (v := xn) rfl dX0_enter_49 ?_
  refine zr_iconst hx hb dX0_enter_52 ?_
  refine zr_iadd hx hb dX0_enter_53 ?_
  refine kp_n E w dX0_enter_54 (fun H locs w => ?_)
  refine lv_aload_n hx hb dX0_enter_57 rfl (lv_at hl 0 rfl) ?_
  refine kg_n E w (v := xn + 1) rfl dX0_enter_58 ?_
  refine zr_iconst hx hb dX0_enter_61 ?_
  refine zr_isub hx hb dX0_enter_62 ?_
  refine zr_top xn (by omega) ?_
  exact rt dX0_enter_63 w (⟨rfl, g1, g2, g3, rfl, ht⟩) rfl
end
section
/-! BackdatedBook: the public methods that ask -/
set_option maxHeartbeats 4000000 in
set_option maxRecDepth 100000 in
theorem bk_isOpen (l : Launch) (z : bkZ) {xac xdy xam xgo xfl xch xle xar xlg : Int → Int} {xn xlo xmk xba xwc xwl xwa : Int} (hba : xba = 0 ∨ xba = 1) : bkM l yX0_isOpen cX0_isOpen 1 .int ({ frames := 0, cells := 0, slots := 0, locals := 0 }) z (bkC xac xdy xam xgo xfl xch xle xar xlg xn xlo xmk xba xwc xwl xwa) [] (fun k u' => u' = bkC xac xdy xam xgo xfl xch xle xar xlg xn xlo xmk xba xwc xwl xwa ∧ k = xba) := by
  refine bk_enter (by decide) rfl (Nat.le_of_ble_eq_true rfl) ?_
  intro p e R s m args below meth c A Q hR E hml rt w ls hl
  have hx := E.1
  have hb := E.2.1
  have hts := E.2.2.1
  have hown := E.2.2.2.1
  have hl : lv_has ls 1 [(0, .ref z.2.1)] := hl
  have w : bkG z A s.heap xac xdy xam xgo xfl xch xle xar xlg xn xlo xmk xba xwc xwl xwa s.heap [] := w
  refine lv_aload_n hx hb dX0_isOpen_0 rfl (lv_at hl 0 rfl) ?_
  refine kg_ba E w (v := xba) rfl dX0_isOpen_1 ?_
  refine zr_if_eq (tgt := 11) hx hb dX0_isOpen_4 (by decide) (by omega) (fun c_4 => ?_) (fun c_4 => ?_)
  · skip
    refine zr_iconst hx hb dX0_isOpen_11 ?_
    exact rt dX0_isOpen_12 w (⟨rfl, by omega⟩) rfl
  · skip
    refine zr_iconst hx hb dX0_isOpen_7 ?_
    refine lv_goto (tgt := 12) hx hb dX0_isOpen_8 (by decide) ?_
    exact rt dX0_isOpen_12 w (⟨rfl, by omega⟩) rfl
set_option maxHeartbeats 4000000 in
set_option maxRecDepth 100000 in
theorem bk_entries (l : Launch) (z : bkZ) {xac xdy xam xgo xfl xch xle xar xlg : Int → Int} {xn xlo xmk xba xwc xwl xwa : Int}  : bkM l yX0_entries cX0_entries 1 .int ({ frames := 0, cells := 0, slots := 0, locals := 0 }) z (bkC xac xdy xam xgo xfl xch xle xar xlg xn xlo xmk xba xwc xwl xwa) [] (fun k u' => u' = bkC xac xdy xam xgo xfl xch xle xar xlg xn xlo xmk xba xwc xwl xwa ∧ k = xn) := by
  refine bk_enter (by decide) rfl (Nat.le_of_ble_eq_true rfl) ?_
  intro p e R s m args below meth c A Q hR E hml rt w ls hl
  have hx := E.1
  have hb := E.2.1
  have hts := E.2.2.1
  have hown := E.2.2.2.1
  have hl : lv_has ls 1 [(0, .ref z.2.1)] := hl
  have w : bkG z A s.heap xac xdy xam xgo xfl xch xle xar xlg xn xlo xmk xba xwc xwl xwa s.heap [] := w
  refine lv_aload_n hx hb dX0_entries_0 rfl (lv_at hl 0 rfl) ?_
  refine kg_n E w (v := xn) rfl dX0_entries_1 ?_
  exact rt dX0_entries_4 w (⟨rfl, rfl⟩) rfl
set_option maxHeartbeats 4000000 in
set_option maxRecDepth 100000 in
theorem bk_cancelled (l : Launch) (z : bkZ) {xac xdy xam xgo xfl xch xle xar xlg : Int → Int} {xn xlo xmk xba xwc xwl xwa : Int} (x : Int) (hx0 : -2147483648 ≤ x ∧ x ≤ 2147483647) (hn : 0 ≤ xn ∧ xn ≤ 60) (he : eok xac xdy xam xgo xn) : bkM l yX0_cancelled cX0_cancelled 2 .int ({ frames := 1, cells := 0, slots := 0, locals := 21 }) z (bkC xac xdy xam xgo xfl xch xle xar xlg xn xlo xmk xba xwc xwl xwa) [.int (zi x)] (fun k u' => u' = bkC xac xdy xam xgo xfl xch xle xar xlg xn xlo xmk xba xwc xwl xwa ∧ ((¬ (0 ≤ x ∧ x < xn) ∧ k = -1) ∨ ((0 ≤ x ∧ x < xn) ∧ k = xgo x))) := by
  refine bk_enter (by decide) rfl (Nat.le_of_ble_eq_true rfl) ?_
  intro p e R s m args below meth c A Q hR E hml rt w ls hl
  have hx := E.1
  have hb := E.2.1
  have hts := E.2.2.1
  have hown := E.2.2.2.1
  have hl : lv_has ls 2 [(0, .ref z.2.1), (1, .int (zi x))] := hl
  have w : bkG z A s.heap xac xdy xam xgo xfl xch xle xar xlg xn xlo xmk xba xwc xwl xwa s.heap [] := w
  refine lv_aload_n hx hb dX0_cancelled_0 rfl (lv_at hl 0 rfl) ?_
  refine lv_iload_n hx hb dX0_cancelled_1 rfl (lv_at hl 1 rfl) ?_
  refine bk_call (as := [.int (zi x)]) (rest := []) (n := 1) E hml w (bk_isEntry l z x hx0 hn) q123 q125 qs5 q126 rfl rfl (by decide +kernel) (by rw [hR]; exact ⟨Nat.le_of_ble_eq_true rfl, Nat.le_of_ble_eq_true rfl⟩) rfl hl.1 rfl (Nat.le_of_ble_eq_true rfl) dX0_cancelled_2 (fun k1 u1 H locs hk1 w => ?_)
  obtain ⟨rfl, hk1⟩ := hk1
  have w : bkG z A s.heap xac xdy xam xgo xfl xch xle xar xlg xn xlo xmk xba xwc xwl xwa H locs := w
  refine zr_if_ne (tgt := 10) hx hb dX0_cancelled_5 (by decide) (by omega) (fun c_5 => ?_) (fun c_5 => ?_)
  · skip
    refine lv_aload_n hx hb dX0_cancelled_10 rfl (lv_at hl 0 rfl) ?_
    refine kg_go E w dX0_cancelled_11 ?_
    refine lv_iload_n hx hb dX0_cancelled_14 rfl (lv_at hl 1 rfl) ?_
    have hgo := (he x (by omega) (by omega)).2.2.2
    refine kl_go E w (v := xgo x) (by omega) rfl dX0_cancelled_15 ?_
    refine zr_if_eq (tgt := 23) hx hb dX0_cancelled_16 (by decide) (by omega) (fun c_16 => ?_) (fun c_16 => ?_)
    · skip
      refine zr_iconst hx hb dX0_cancelled_23 ?_
      exact rt dX0_cancelled_24 w (⟨rfl, by omega⟩) rfl
    · skip
      refine zr_iconst hx hb dX0_cancelled_19 ?_
      refine lv_goto (tgt := 24) hx hb dX0_cancelled_20 (by decide) ?_
      exact rt dX0_cancelled_24 w (⟨rfl, by omega⟩) rfl
  · skip
    refine zr_iconst hx hb dX0_cancelled_8 ?_
    exact rt dX0_cancelled_9 w (⟨rfl, by omega⟩) rfl
set_option maxHeartbeats 4000000 in
set_option maxRecDepth 100000 in
theorem bk_amountOf (l : Launch) (z : bkZ) {xac xdy xam xgo xfl xch xle xar xlg : Int → Int} {xn xlo xmk xba xwc xwl xwa : Int} (x : Int) (hx0 : -2147483648 ≤ x ∧ x ≤ 2147483647) (hn : 0 ≤ xn ∧ xn ≤ 60) (he : eok xac xdy xam xgo xn) : bkM l yX0_amountOf cX0_amountOf 2 .int ({ frames := 1, cells := 0, slots := 0, locals := 21 }) z (bkC xac xdy xam xgo xfl xch xle xar xlg xn xlo xmk xba xwc xwl xwa) [.int (zi x)] (fun k u' => u' = bkC xac xdy xam xgo xfl xch xle xar xlg xn xlo xmk xba xwc xwl xwa ∧ ((¬ (0 ≤ x ∧ x < xn) ∧ k = 0) ∨ ((0 ≤ x ∧ x < xn) ∧ k = xam x))) := by
  refine bk_enter (by decide) rfl (Nat.le_of_ble_eq_true rfl) ?_
  intro p e R s m args below meth c A Q hR E hml rt w ls hl
  have hx := E.1
  have hb := E.2.1
  have hts := E.2.2.1
  have hown := E.2.2.2.1
  have hl : lv_has ls 2 [(0, .ref z.2.1), (1, .int (zi x))] := hl
  have w : bkG z A s.heap xac xdy xam xgo xfl xch xle xar xlg xn xlo xmk xba xwc xwl xwa s.heap [] := w
  refine lv_aload_n hx hb dX0_amountOf_0 rfl (lv_at hl 0 rfl) ?_
  refine lv_iload_n hx hb dX0_amountOf_1 rfl (lv_at hl 1 rfl) ?_
  refine bk_call (as := [.int (zi x)]) (rest := []) (n := 1) E hml w (bk_isEntry l z x hx0 hn) q123 q125 qs5 q126 rfl rfl (by decide +kernel) (by rw [hR]; exact ⟨Nat.le_of_ble_eq_true rfl, Nat.le_of_ble_eq_true rfl⟩) rfl hl.1 rfl (Nat.le_of_ble_eq_true rfl) dX0_amountOf_2 (fun k1 u1 H locs hk1 w => ?_)
  obtain ⟨rfl, hk1⟩ := hk1
  have w : bkG z A s.heap xac xdy xam xgo xfl xch xle xar xlg xn xlo xmk xba xwc xwl xwa H locs := w
  refine zr_if_eq (tgt := 17) hx hb dX0_amountOf_5 (by decide) (by omega) (fun c_5 => ?_) (fun c_5 => ?_)
  · skip
    refine zr_iconst hx hb dX0_amountOf_17 ?_
    exact rt dX0_amountOf_18 w (⟨rfl, by omega⟩) rfl
  · skip
    refine lv_aload_n hx hb dX0_amountOf_8 rfl (lv_at hl 0 rfl) ?_
    refine kg_am E w dX0_amountOf_9 ?_
    refine lv_iload_n hx hb dX0_amountOf_12 rfl (lv_at hl 1 rfl) ?_
    refine kl_am E w (v := xam x) (by omega) rfl dX0_amountOf_13 ?_
    refine lv_goto (tgt := 18) hx hb dX0_amountOf_14 (by decide) ?_
    exact rt dX0_amountOf_18 w (⟨rfl, by omega⟩) rfl
set_option maxHeartbeats 4000000 in
set_option maxRecDepth 100000 in
theorem bk_sound (l : Launch) (z : bkZ) {xac xdy xam xgo xfl xch xle xar xlg : Int → Int} {xn xlo xmk xba xwc xwl xwa : Int} (P : Int → Int → Int) (hT : TB xch xle xar xfl P) : bkM l yX0_sound cX0_sound 1 .int ({ frames := 3, cells := 0, slots := 0, locals := 72 }) z (bkC xac xdy xam xgo xfl xch xle xar xlg xn xlo xmk xba xwc xwl xwa) [] (fun k u' => (∃ y1 y2 y3 : Int, u' = bkC xac xdy xam xgo xfl xch xle xar xlg xn xlo xmk xba y1 y2 y3) ∧ ((k = 1 ∧ sdd xfl P) ∨ (k = 0 ∧ ¬ sdd xfl P))) := by
  refine bk_enter (by decide) rfl (Nat.le_of_ble_eq_true rfl) ?_
  intro p e R s m args below meth c A Q hR E hml rt w ls hl
  have hx := E.1
  have hb := E.2.1
  have hts := E.2.2.1
  have hown := E.2.2.2.1
  have hl : lv_has ls 1 [(0, .ref z.2.1)] := hl
  have w : bkG z A s.heap xac xdy xam xgo xfl xch xle xar xlg xn xlo xmk xba xwc xwl xwa s.heap [] := w
  refine lv_aload_n hx hb dX0_sound_0 rfl (lv_at hl 0 rfl) ?_
  refine bk_call (as := []) (rest := []) (n := 0) E hml w (bk_isSound l z P hT) q139 q141 qs6 q142 rfl rfl (by decide +kernel) (by rw [hR]; exact ⟨Nat.le_of_ble_eq_true rfl, Nat.le_of_ble_eq_true rfl⟩) rfl hl.1 rfl (Nat.le_of_ble_eq_true rfl) dX0_sound_1 (fun k1 u1 H locs hk1 w => ?_)
  obtain ⟨⟨y1, y2, y3, rfl⟩, hk1⟩ := hk1
  have hk2 : -2147483648 ≤ k1 ∧ k1 ≤ 2147483647 := by omega
  have w : bkG z A s.heap xac xdy xam xgo xfl xch xle xar xlg xn xlo xmk xba y1 y2 y3 H locs := w
  refine zr_if_eq (tgt := 11) hx hb dX0_sound_4 (by decide) (by omega) (fun c_4 => ?_) (fun c_4 => ?_)
  · skip
    refine zr_iconst hx hb dX0_sound_11 ?_
    exact rt dX0_sound_12 w (⟨⟨_, _, _, rfl⟩, hk1.imp (fun q => ⟨by omega, q.2⟩) (fun q => ⟨by omega, q.2⟩)⟩) rfl
  · skip
    refine zr_iconst hx hb dX0_sound_7 ?_
    refine lv_goto (tgt := 12) hx hb dX0_sound_8 (by decide) ?_
    exact rt dX0_sound_12 w (⟨⟨_, _, _, rfl⟩, hk1.imp (fun q => ⟨by omega, q.2⟩) (fun q => ⟨by omega, q.2⟩)⟩) rfl
end
section
/-! BackdatedBook: the public methods that ask the tree -/
set_option maxHeartbeats 4000000 in
set_option maxRecDepth 100000 in
theorem bk_balance (l : Launch) (z : bkZ) {xac xdy xam xgo xfl xch xle xar xlg : Int → Int} {xn xlo xmk xba xwc xwl xwa : Int} (P : Int → Int → Int) (hT : TB xch xle xar xfl P) (a d : Int) (ha : -2147483648 ≤ a ∧ a ≤ 2147483647) (hd : -2147483648 ≤ d ∧ d ≤ 2147483647) : bkM l yX0_balance cX0_balance 3 .int ({ frames := 2, cells := 0, slots := 0, locals := 51 }) z (bkC xac xdy xam xgo xfl xch xle xar xlg xn xlo xmk xba xwc xwl xwa) [.int (zi a), .int (zi d)] (fun k u' => (∃ y1 y2 y3 : Int, u' = bkC xac xdy xam xgo xfl xch xle xar xlg xn xlo xmk xba y1 y2 y3) ∧ ((¬ ((0 ≤ a ∧ a < 4) ∧ (0 ≤ d ∧ d < 48)) ∧ k = -1000000) ∨ (((0 ≤ a ∧ a < 4) ∧ (0 ≤ d ∧ d < 48)) ∧ k = P a (d + 1)))) := by
  refine bk_enter (by decide) rfl (Nat.le_of_ble_eq_true rfl) ?_
  intro p e R s m args below meth c A Q hR E hml rt w ls hl
  have hx := E.1
  have hb := E.2.1
  have hts := E.2.2.1
  have hown := E.2.2.2.1
  have hl : lv_has ls 3 [(0, .ref z.2.1), (1, .int (zi a)), (2, .int (zi d))] := hl
  have w : bkG z A s.heap xac xdy xam xgo xfl xch xle xar xlg xn xlo xmk xba xwc xwl xwa s.heap [] := w
  refine lv_iload_n hx hb dX0_balance_0 rfl (lv_at hl 1 rfl) ?_
  refine bk_callS (as := [.int (zi a)]) (rest := []) (n := 1) E hml (bk_isAccount l a ha) q85 q86 q87 rfl rfl rfl (by decide +kernel) (by rw [hR]; exact ⟨Nat.le_of_ble_eq_true rfl, Nat.le_of_ble_eq_true rfl⟩) rfl hl.1 rfl (Nat.le_of_ble_eq_true rfl) dX0_balance_1 (fun k1 hk1 => ?_)
  refine zr_if_eq (tgt := 14) hx hb dX0_balance_4 (by decide) (by omega) (fun c_4 => ?_) (fun c_4 => ?_)
  · skip
    refine zr_ldc hx hb (-1000000) hown (hts _ q167) (by decide) dX0_balance_14 ?_
    exact rt dX0_balance_16 w (⟨⟨_, _, _, rfl⟩, by omega⟩) rfl
  · skip
    refine lv_iload_n hx hb dX0_balance_7 rfl (lv_at hl 2 rfl) ?_
    refine bk_callS (as := [.int (zi d)]) (rest := []) (n := 1) E hml (bk_isDay l d hd) q88 q89 q90 rfl rfl rfl (by decide +kernel) (by rw [hR]; exact ⟨Nat.le_of_ble_eq_true rfl, Nat.le_of_ble_eq_true rfl⟩) rfl hl.1 rfl (Nat.le_of_ble_eq_true rfl) dX0_balance_8 (fun k2 hk2 => ?_)
    refine zr_if_ne (tgt := 17) hx hb dX0_balance_11 (by decide) (by omega) (fun c_11 => ?_) (fun c_11 => ?_)
    · skip
      refine lv_aload_n hx hb dX0_balance_17 rfl (lv_at hl 0 rfl) ?_
      refine lv_iload_n hx hb dX0_balance_18 rfl (lv_at hl 1 rfl) ?_
      refine zr_iconst hx hb dX0_balance_19 ?_
      refine lv_iload_n hx hb dX0_balance_20 rfl (lv_at hl 2 rfl) ?_
      refine bk_callV (as := [.int (zi a), .int (zi 0), .int (zi d)]) (rest := []) (n := 3) E hml w (bk_walk l z P hT a 0 d (by omega) (by omega) (by omega)) q99 q101 qs2 q102 rfl rfl (by decide +kernel) (by rw [hR]; exact ⟨Nat.le_of_ble_eq_true rfl, Nat.le_of_ble_eq_true rfl⟩) rfl hl.1 rfl (Nat.le_of_ble_eq_true rfl) dX0_balance_21 (fun u1 H locs hw w => ?_)
      obtain ⟨y1, y2, y3, rfl, e1, -, -⟩ := hw
      have w : bkG z A s.heap xac xdy xam xgo xfl xch xle xar xlg xn xlo xmk xba y1 y2 y3 H locs := w
      refine lv_aload_n hx hb dX0_balance_24 rfl (lv_at hl 0 rfl) ?_
      refine kg_wc E w (v := y1) rfl dX0_balance_25 ?_
      have e0 := hT.2.2.1 a (by omega) (by omega)
      exact rt dX0_balance_28 w (⟨⟨_, _, _, rfl⟩, by omega⟩) rfl
    · skip
      refine zr_ldc hx hb (-1000000) hown (hts _ q167) (by decide) dX0_balance_14 ?_
      exact rt dX0_balance_16 w (⟨⟨_, _, _, rfl⟩, by omega⟩) rfl
set_option maxHeartbeats 4000000 in
set_option maxRecDepth 100000 in
theorem bk_lowest (l : Launch) (z : bkZ) {xac xdy xam xgo xfl xch xle xar xlg : Int → Int} {xn xlo xmk xba xwc xwl xwa : Int} (P : Int → Int → Int) (hT : TB xch xle xar xfl P) (a f t : Int) (ha : -2147483648 ≤ a ∧ a ≤ 2147483647) (hf : -2147483648 ≤ f ∧ f ≤ 2147483647) (ht : -2147483648 ≤ t ∧ t ≤ 2147483647) : bkM l yX0_lowest cX0_lowest 4 .int ({ frames := 3, cells := 0, slots := 0, locals := 75 }) z (bkC xac xdy xam xgo xfl xch xle xar xlg xn xlo xmk xba xwc xwl xwa) [.int (zi a), .int (zi f), .int (zi t)] (fun k u' => (∃ y1 y2 y3 : Int, u' = bkC xac xdy xam xgo xfl xch xle xar xlg xn xlo xmk xba y1 y2 y3) ∧ ((¬ (0 ≤ a ∧ a < 4) ∧ k = -1000000) ∨ ((0 ≤ a ∧ a < 4) ∧ ¬ (0 ≤ f ∧ f ≤ t ∧ t < 48) ∧ k = -2000000) ∨ ((0 ≤ a ∧ a < 4) ∧ (0 ≤ f ∧ f ≤ t ∧ t < 48) ∧ lwp P a f t k))) := by
  refine bk_enter (by decide) rfl (Nat.le_of_ble_eq_true rfl) ?_
  intro p e R s m args below meth c A Q hR E hml rt w ls hl
  have hx := E.1
  have hb := E.2.1
  have hts := E.2.2.1
  have hown := E.2.2.2.1
  have hl : lv_has ls 4 [(0, .ref z.2.1), (1, .int (zi a)), (2, .int (zi f)), (3, .int (zi t))] := hl
  have w : bkG z A s.heap xac xdy xam xgo xfl xch xle xar xlg xn xlo xmk xba xwc xwl xwa s.heap [] := w
  refine lv_iload_n hx hb dX0_lowest_0 rfl (lv_at hl 1 rfl) ?_
  refine bk_callS (as := [.int (zi a)]) (rest := []) (n := 1) E hml (bk_isAccount l a ha) q85 q86 q87 rfl rfl rfl (by decide +kernel) (by rw [hR]; exact ⟨Nat.le_of_ble_eq_true rfl, Nat.le_of_ble_eq_true rfl⟩) rfl hl.1 rfl (Nat.le_of_ble_eq_true rfl) dX0_lowest_1 (fun k1 hk1 => ?_)
  refine zr_if_ne (tgt := 10) hx hb dX0_lowest_4 (by decide) (by omega) (fun c_4 => ?_) (fun c_4 => ?_)
  · skip
    refine lv_iload_n hx hb dX0_lowest_10 rfl (lv_at hl 2 rfl) ?_
    refine lv_iload_n hx hb dX0_lowest_11 rfl (lv_at hl 3 rfl) ?_
    refine bk_callS (as := [.int (zi f), .int (zi t)]) (rest := []) (n := 2) E hml (bk_isStretch l f t hf ht) q172 q173 q174 rfl rfl rfl (by decide +kernel) (by rw [hR]; exact ⟨Nat.le_of_ble_eq_true rfl, Nat.le_of_ble_eq_true rfl⟩) rfl hl.1 rfl (Nat.le_of_ble_eq_true rfl) dX0_lowest_12 (fun k2 hk2 => ?_)
    refine zr_if_ne (tgt := 21) hx hb dX0_lowest_15 (by decide) (by omega) (fun c_15 => ?_) (fun c_15 => ?_)
    · skip
      refine lv_aload_n hx hb dX0_lowest_21 rfl (lv_at hl 0 rfl) ?_
      refine lv_iload_n hx hb dX0_lowest_22 rfl (lv_at hl 1 rfl) ?_
      refine lv_iload_n hx hb dX0_lowest_23 rfl (lv_at hl 2 rfl) ?_
      refine lv_iload_n hx hb dX0_lowest_24 rfl (lv_at hl 3 rfl) ?_
      refine bk_call (as := [.int (zi a), .int (zi f), .int (zi t)]) (rest := []) (n := 3) E hml w (bk_lowestIn l z P hT a f t (by omega) (by omega) (by omega)) q95 q97 qs1 q98 rfl rfl (by decide +kernel) (by rw [hR]; exact ⟨Nat.le_of_ble_eq_true rfl, Nat.le_of_ble_eq_true rfl⟩) rfl hl.1 rfl (Nat.le_of_ble_eq_true rfl) dX0_lowest_25 (fun k3 u1 H locs hw w => ?_)
      obtain ⟨⟨y1, y2, y3, rfl⟩, hq⟩ := hw
      have w : bkG z A s.heap xac xdy xam xgo xfl xch xle xar xlg xn xlo xmk xba y1 y2 y3 H locs := w
      exact rt dX0_lowest_28 w (⟨⟨_, _, _, rfl⟩, Or.inr (Or.inr ⟨by omega, by omega, hq⟩)⟩) rfl
    · skip
      refine zr_ldc hx hb (-2000000) hown (hts _ q175) (by decide) dX0_lowest_18 ?_
      exact rt dX0_lowest_20 w (⟨⟨_, _, _, rfl⟩, Or.inr (Or.inl ⟨by omega, by omega, rfl⟩)⟩) rfl
  · skip
    refine zr_ldc hx hb (-1000000) hown (hts _ q167) (by decide) dX0_lowest_7 ?_
    exact rt dX0_lowest_9 w (⟨⟨_, _, _, rfl⟩, Or.inl ⟨by omega, rfl⟩⟩) rfl
set_option maxHeartbeats 4000000 in
set_option maxRecDepth 100000 in
theorem bk_total (l : Launch) (z : bkZ) {xac xdy xam xgo xfl xch xle xar xlg : Int → Int} {xn xlo xmk xba xwc xwl xwa : Int} (P : Int → Int → Int) (hT : TB xch xle xar xfl P) (a f t : Int) (ha : -2147483648 ≤ a ∧ a ≤ 2147483647) (hf : -2147483648 ≤ f ∧ f ≤ 2147483647) (ht : -2147483648 ≤ t ∧ t ≤ 2147483647) : bkM l yX0_total cX0_total 5 .int ({ frames := 2, cells := 0, slots := 0, locals := 51 }) z (bkC xac xdy xam xgo xfl xch xle xar xlg xn xlo xmk xba xwc xwl xwa) [.int (zi a), .int (zi f), .int (zi t)] (fun k u' => (∃ y1 y2 y3 : Int, u' = bkC xac xdy xam xgo xfl xch xle xar xlg xn xlo xmk xba y1 y2 y3) ∧ ((¬ ((0 ≤ a ∧ a < 4) ∧ (0 ≤ f ∧ f ≤ t ∧ t < 48)) ∧ k = -2000000000) ∨ (((0 ≤ a ∧ a < 4) ∧ (0 ≤ f ∧ f ≤ t ∧ t < 48)) ∧ k = gs (P a) (t + 1).toNat - gs (P a) f.toNat))) := by
  refine bk_enter (by decide) rfl (Nat.le_of_ble_eq_true rfl) ?_
  intro p e R s m args below meth c A Q hR E hml rt w ls hl
  have hx := E.1
  have hb := E.2.1
  have hts := E.2.2.1
  have hown := E.2.2.2.1
  have hl : lv_has ls 5 [(0, .ref z.2.1), (1, .int (zi a)), (2, .int (zi f)), (3, .int (zi t))] := hl
  have w : bkG z A s.heap xac xdy xam xgo xfl xch xle xar xlg xn xlo xmk xba xwc xwl xwa s.heap [] := w
  refine lv_iload_n hx hb dX0_total_0 rfl (lv_at hl 1 rfl) ?_
  refine bk_callS (as := [.int (zi a)]) (rest := []) (n := 1) E hml (bk_isAccount l a ha) q85 q86 q87 rfl rfl rfl (by decide +kernel) (by rw [hR]; exact ⟨Nat.le_of_ble_eq_true rfl, Nat.le_of_ble_eq_true rfl⟩) rfl hl.1 rfl (Nat.le_of_ble_eq_true rfl) dX0_total_1 (fun k1 hk1 => ?_)
  refine zr_if_eq (tgt := 15) hx hb dX0_total_4 (by decide) (by omega) (fun c_4 => ?_) (fun c_4 => ?_)
  · skip
    refine zr_ldc hx hb (-2000000000) hown (hts _ q180) (by decide) dX0_total_15 ?_
    exact rt dX0_total_17 w (⟨⟨_, _, _, rfl⟩, by omega⟩) rfl
  · skip
    refine lv_iload_n hx hb dX0_total_7 rfl (lv_at hl 2 rfl) ?_
    refine lv_iload_n hx hb dX0_total_8 rfl (lv_at hl 3 rfl) ?_
    refine bk_callS (as := [.int (zi f), .int (zi t)]) (rest := []) (n := 2) E hml (bk_isStretch l f t hf ht) q172 q173 q174 rfl rfl rfl (by decide +kernel) (by rw [hR]; exact ⟨Nat.le_of_ble_eq_true rfl, Nat.le_of_ble_eq_true rfl⟩) rfl hl.1 rfl (Nat.le_of_ble_eq_true rfl) dX0_total_9 (fun k2 hk2 => ?_)
    refine zr_if_ne (tgt := 18) hx hb dX0_total_12 (by decide) (by omega) (fun c_12 => ?_) (fun c_12 => ?_)
    · skip
      refine lv_aload_n hx hb dX0_total_18 rfl (lv_at hl 0 rfl) ?_
      refine lv_iload_n hx hb dX0_total_19 rfl (lv_at hl 1 rfl) ?_
      refine zr_iconst hx hb dX0_total_20 ?_
      refine lv_iload_n hx hb dX0_total_21 rfl (lv_at hl 2 rfl) ?_
      refine zr_iconst hx hb dX0_total_22 ?_
      refine zr_isub hx hb dX0_total_23 ?_
      refine bk_callV (as := [.int (zi a), .int (zi 0), .int (zi (f - 1))]) (rest := []) (n := 3) E hml w (bk_walk l z P hT a 0 (f - 1) (by omega) (by omega) (by omega)) q99 q101 qs2 q102 rfl rfl (by decide +kernel) (by rw [hR]; exact ⟨Nat.le_of_ble_eq_true rfl, Nat.le_of_ble_eq_true rfl⟩) rfl hl.1 rfl (Nat.le_of_ble_eq_true rfl) dX0_total_24 (fun u1 H locs hw w => ?_)
      obtain ⟨y1, y2, y3, rfl, e1, -, -⟩ := hw
      have w : bkG z A s.heap xac xdy xam xgo xfl xch xle xar xlg xn xlo xmk xba y1 y2 y3 H locs := w
      refine lv_aload_n hx hb dX0_total_27 rfl (lv_at hl 0 rfl) ?_
      refine kg_wc E w (v := y1) rfl dX0_total_28 ?_
      refine lv_istore (lv' := [(4, .int (zi y1)), (0, .ref z.2.1), (1, .int (zi a)), (2, .int (zi f)), (3, .int (zi t))]) hx hb dX0_total_31 hl (by decide) rfl (fun ls hl => ?_)
      refine lv_aload_n hx hb dX0_total_33 rfl (lv_at hl 1 rfl) ?_
      refine lv_iload_n hx hb dX0_total_34 rfl (lv_at hl 2 rfl) ?_
      refine lv_iload_n hx hb dX0_total_35 rfl (lv_at hl 3 rfl) ?_
      refine lv_iload_n hx hb dX0_total_36 rfl (lv_at hl 4 rfl) ?_
      refine bk_callV (as := [.int (zi a), .int (zi f), .int (zi t)]) (rest := []) (n := 3) E hml w (bk_walk l z P hT a f t (by omega) (by omega) (by omega)) q99 q101 qs2 q102 rfl rfl (by decide +kernel) (by rw [hR]; exact ⟨Nat.le_of_ble_eq_true rfl, Nat.le_of_ble_eq_true rfl⟩) rfl hl.1 rfl (Nat.le_of_ble_eq_true rfl) dX0_total_37 (fun u1 H locs hw w => ?_)
      obtain ⟨g1, g2, g3, rfl, -, -, e6⟩ := hw
      have w : bkG z A s.heap xac xdy xam xgo xfl xch xle xar xlg xn xlo xmk xba g1 g2 g3 H locs := w
      refine lv_aload_n hx hb dX0_total_40 rfl (lv_at hl 1 rfl) ?_
      refine kg_wa E w (v := g3) rfl dX0_total_41 ?_
      refine lv_iload hx hb dX0_total_44 (lv_at hl 0 rfl) ?_
      refine lv_iload_n hx hb dX0_total_46 rfl (lv_at hl 4 rfl) ?_
      refine lv_iload_n hx hb dX0_total_47 rfl (lv_at hl 3 rfl) ?_
      refine zr_isub hx hb dX0_total_48 ?_
      refine zr_iconst hx hb dX0_total_49 ?_
      refine zr_iadd hx hb dX0_total_50 ?_
      refine zr_imul hx hb dX0_total_51 ?_
      refine zr_iadd hx hb dX0_total_52 ?_
      refine rt dX0_total_53 w ?_ rfl
      have e0 := hT.2.2.1 a (by omega) (by omega)
      rw [show f - 1 + 1 = f by omega] at e1
      have e7 : y1 * (t - f + 1) = (t + 1 - f) * P a f := by
        rw [show y1 = P a f by omega, Int.mul_comm]
        congr 1
        omega
      unfold aa at e6
      refine ⟨⟨_, _, _, rfl⟩, Or.inr ⟨by omega, ?_⟩⟩
      omega
    · skip
      refine zr_ldc hx hb (-2000000000) hown (hts _ q180) (by decide) dX0_total_15 ?_
      exact rt dX0_total_17 w (⟨⟨_, _, _, rfl⟩, by omega⟩) rfl
set_option maxHeartbeats 4000000 in
set_option maxRecDepth 100000 in
theorem bk_firstBelow (l : Launch) (z : bkZ) {xac xdy xam xgo xfl xch xle xar xlg : Int → Int} {xn xlo xmk xba xwc xwl xwa : Int} (P : Int → Int → Int) (hT : TB xch xle xar xfl P) (a d b : Int) (ha : -2147483648 ≤ a ∧ a ≤ 2147483647) (hd : -2147483648 ≤ d ∧ d ≤ 2147483647) (hb0 : -2147483648 ≤ b ∧ b ≤ 2147483647) : bkM l yX0_firstBelow cX0_firstBelow 5 .int ({ frames := 3, cells := 0, slots := 0, locals := 80 }) z (bkC xac xdy xam xgo xfl xch xle xar xlg xn xlo xmk xba xwc xwl xwa) [.int (zi a), .int (zi d), .int (zi b)] (fun k u' => (∃ y1 y2 y3 : Int, u' = bkC xac xdy xam xgo xfl xch xle xar xlg xn xlo xmk xba y1 y2 y3) ∧ ((¬ (0 ≤ a ∧ a < 4) ∧ k = -1) ∨ ((0 ≤ a ∧ a < 4) ∧ ¬ (0 ≤ d ∧ d < 48) ∧ k = -2) ∨ ((0 ≤ a ∧ a < 4) ∧ (0 ≤ d ∧ d < 48) ∧ ((k = -3 ∧ ∀ j, d < j → j ≤ 48 → b ≤ P a j) ∨ ((d ≤ k ∧ k < 48) ∧ P a (k + 1) < b ∧ ∀ j, d < j → j ≤ k → b ≤ P a j))))) := by
  refine bk_enter (by decide) rfl (Nat.le_of_ble_eq_true rfl) ?_
  intro p e R s m args below meth c A Q hR E hml rt w ls hl
  have hx := E.1
  have hb := E.2.1
  have hts := E.2.2.1
  have hown := E.2.2.2.1
  have hl : lv_has ls 5 [(0, .ref z.2.1), (1, .int (zi a)), (2, .int (zi d)), (3, .int (zi b))] := hl
  have w : bkG z A s.heap xac xdy xam xgo xfl xch xle xar xlg xn xlo xmk xba xwc xwl xwa s.heap [] := w
  refine lv_iload_n hx hb dX0_firstBelow_0 rfl (lv_at hl 1 rfl) ?_
  refine bk_callS (as := [.int (zi a)]) (rest := []) (n := 1) E hml (bk_isAccount l a ha) q85 q86 q87 rfl rfl rfl (by decide +kernel) (by rw [hR]; exact ⟨Nat.le_of_ble_eq_true rfl, Nat.le_of_ble_eq_true rfl⟩) rfl hl.1 rfl (Nat.le_of_ble_eq_true rfl) dX0_firstBelow_1 (fun k1 hk1 => ?_)
  refine zr_if_ne (tgt := 9) hx hb dX0_firstBelow_4 (by decide) (by omega) (fun c_4 => ?_) (fun c_4 => ?_)
  · skip
    refine lv_iload_n hx hb dX0_firstBelow_9 rfl (lv_at hl 2 rfl) ?_
    refine bk_callS (as := [.int (zi d)]) (rest := []) (n := 1) E hml (bk_isDay l d hd) q88 q89 q90 rfl rfl rfl (by decide +kernel) (by rw [hR]; exact ⟨Nat.le_of_ble_eq_true rfl, Nat.le_of_ble_eq_true rfl⟩) rfl hl.1 rfl (Nat.le_of_ble_eq_true rfl) dX0_firstBelow_10 (fun k2 hk2 => ?_)
    refine zr_if_ne (tgt := 19) hx hb dX0_firstBelow_13 (by decide) (by omega) (fun c_13 => ?_) (fun c_13 => ?_)
    · skip
      refine lv_aload_n hx hb dX0_firstBelow_19 rfl (lv_at hl 0 rfl) ?_
      refine lv_iload_n hx hb dX0_firstBelow_20 rfl (lv_at hl 1 rfl) ?_
      refine lv_iload_n hx hb dX0_firstBelow_21 rfl (lv_at hl 2 rfl) ?_
      refine lv_iload_n hx hb dX0_firstBelow_22 rfl (lv_at hl 3 rfl) ?_
      refine bk_call (as := [.int (zi a), .int (zi d), .int (zi b)]) (rest := []) (n := 3) E hml w (bk_search l z P hT a d b (by omega) (by omega) hb0) q185 q187 qs7 q188 rfl rfl (by decide +kernel) (by rw [hR]; exact ⟨Nat.le_of_ble_eq_true rfl, Nat.le_of_ble_eq_true rfl⟩) rfl hl.1 rfl (Nat.le_of_ble_eq_true rfl) dX0_firstBelow_23 (fun k3 u1 H locs hw w => ?_)
      obtain ⟨⟨y1, y2, y3, rfl⟩, hq⟩ := hw
      have hk3 : -1 ≤ k3 ∧ k3 < 48 := by omega
      have w : bkG z A s.heap xac xdy xam xgo xfl xch xle xar xlg xn xlo xmk xba y1 y2 y3 H locs := w
      refine lv_istore (lv' := [(4, .int (zi k3)), (0, .ref z.2.1), (1, .int (zi a)), (2, .int (zi d)), (3, .int (zi b))]) hx hb dX0_firstBelow_26 hl (by decide) rfl (fun ls hl => ?_)
      refine lv_iload hx hb dX0_firstBelow_28 (lv_at hl 0 rfl) ?_
      refine zr_if_ge (tgt := 38) hx hb dX0_firstBelow_30 (by decide) (by omega) (fun c_30 => ?_) (fun c_30 => ?_)
      · skip
        refine lv_iload hx hb dX0_firstBelow_38 (lv_at hl 0 rfl) ?_
        refine rt dX0_firstBelow_40 w ?_ rfl
        refine ⟨⟨_, _, _, rfl⟩, Or.inr (Or.inr ⟨by omega, by omega, ?_⟩)⟩
        rcases hq with q | q
        · exfalso
          omega
        · exact Or.inr ⟨by omega, q.2.2⟩
      · skip
        refine zr_bipush hx hb dX0_firstBelow_33 (by decide) ?_
        refine lv_goto (tgt := 40) hx hb dX0_firstBelow_35 (by decide) ?_
        refine rt dX0_firstBelow_40 w ?_ rfl
        refine ⟨⟨_, _, _, rfl⟩, Or.inr (Or.inr ⟨by omega, by omega, ?_⟩)⟩
        rcases hq with q | q
        · exact Or.inl ⟨rfl, q.2⟩
        · exfalso
          omega
    · skip
      refine zr_bipush hx hb dX0_firstBelow_16 (by decide) ?_
      exact rt dX0_firstBelow_18 w (⟨⟨_, _, _, rfl⟩, Or.inr (Or.inl ⟨by omega, by omega, rfl⟩)⟩) rfl
  · skip
    refine zr_iconst hx hb dX0_firstBelow_7 ?_
    exact rt dX0_firstBelow_8 w (⟨⟨_, _, _, rfl⟩, Or.inl ⟨by omega, rfl⟩⟩) rfl
set_option maxHeartbeats 4000000 in
set_option maxRecDepth 100000 in
theorem bk_free (l : Launch) (z : bkZ) {xac xdy xam xgo xfl xch xle xar xlg : Int → Int} {xn xlo xmk xba xwc xwl xwa : Int} (P : Int → Int → Int) (hT : TB xch xle xar xfl P) (a d : Int) (ha : -2147483648 ≤ a ∧ a ≤ 2147483647) (hd : -2147483648 ≤ d ∧ d ≤ 2147483647) : bkM l yX0_free cX0_free 4 .int ({ frames := 3, cells := 0, slots := 0, locals := 75 }) z (bkC xac xdy xam xgo xfl xch xle xar xlg xn xlo xmk xba xwc xwl xwa) [.int (zi a), .int (zi d)] (fun k u' => (∃ y1 y2 y3 : Int, u' = bkC xac xdy xam xgo xfl xch xle xar xlg xn xlo xmk xba y1 y2 y3) ∧ ((¬ (0 ≤ a ∧ a < 4) ∧ k = -1) ∨ ((0 ≤ a ∧ a < 4) ∧ ¬ (0 ≤ d ∧ d < 48) ∧ k = -2) ∨ ((0 ≤ a ∧ a < 4) ∧ (0 ≤ d ∧ d < 48) ∧ ∃ g : Int, lwp P a d 47 g ∧ ((g - xfl a < 0 ∧ k = 0) ∨ (0 ≤ g - xfl a ∧ k = g - xfl a))))) := by
  refine bk_enter (by decide) rfl (Nat.le_of_ble_eq_true rfl) ?_
  intro p e R s m args below meth c A Q hR E hml rt w ls hl
  have hx := E.1
  have hb := E.2.1
  have hts := E.2.2.1
  have hown := E.2.2.2.1
  have hl : lv_has ls 4 [(0, .ref z.2.1), (1, .int (zi a)), (2, .int (zi d))] := hl
  have w : bkG z A s.heap xac xdy xam xgo xfl xch xle xar xlg xn xlo xmk xba xwc xwl xwa s.heap [] := w
  refine lv_iload_n hx hb dX0_free_0 rfl (lv_at hl 1 rfl) ?_
  refine bk_callS (as := [.int (zi a)]) (rest := []) (n := 1) E hml (bk_isAccount l a ha) q85 q86 q87 rfl rfl rfl (by decide +kernel) (by rw [hR]; exact ⟨Nat.le_of_ble_eq_true rfl, Nat.le_of_ble_eq_true rfl⟩) rfl hl.1 rfl (Nat.le_of_ble_eq_true rfl) dX0_free_1 (fun k1 hk1 => ?_)
  refine zr_if_ne (tgt := 9) hx hb dX0_free_4 (by decide) (by omega) (fun c_4 => ?_) (fun c_4 => ?_)
  · skip
    refine lv_iload_n hx hb dX0_free_9 rfl (lv_at hl 2 rfl) ?_
    refine bk_callS (as := [.int (zi d)]) (rest := []) (n := 1) E hml (bk_isDay l d hd) q88 q89 q90 rfl rfl rfl (by decide +kernel) (by rw [hR]; exact ⟨Nat.le_of_ble_eq_true rfl, Nat.le_of_ble_eq_true rfl⟩) rfl hl.1 rfl (Nat.le_of_ble_eq_true rfl) dX0_free_10 (fun k2 hk2 => ?_)
    refine zr_if_ne (tgt := 19) hx hb dX0_free_13 (by decide) (by omega) (fun c_13 => ?_) (fun c_13 => ?_)
    · skip
      refine lv_aload_n hx hb dX0_free_19 rfl (lv_at hl 0 rfl) ?_
      refine lv_iload_n hx hb dX0_free_20 rfl (lv_at hl 1 rfl) ?_
      refine lv_iload_n hx hb dX0_free_21 rfl (lv_at hl 2 rfl) ?_
      refine zr_bipush hx hb dX0_free_22 (by decide) ?_
      refine bk_call (as := [.int (zi a), .int (zi d), .int (zi 47)]) (rest := []) (n := 3) E hml w (bk_lowestIn l z P hT a d 47 (by omega) (by omega) (by omega)) q95 q97 qs1 q98 rfl rfl (by decide +kernel) (by rw [hR]; exact ⟨Nat.le_of_ble_eq_true rfl, Nat.le_of_ble_eq_true rfl⟩) rfl hl.1 rfl (Nat.le_of_ble_eq_true rfl) dX0_free_24 (fun k3 u1 H locs hw w => ?_)
      obtain ⟨⟨y1, y2, y3, rfl⟩, hq⟩ := hw
      have hfl := hT.2.2.2.2 a (by omega) (by omega)
      have hk3 : -600000 ≤ k3 ∧ k3 ≤ 600000 := by
        obtain ⟨j, j1, j2, j3⟩ := hq.2
        have := hT.2.1 a j (by omega) (by omega) (by omega) (by omega)
        omega
      have w : bkG z A s.heap xac xdy xam xgo xfl xch xle xar xlg xn xlo xmk xba y1 y2 y3 H locs := w
      refine lv_aload_n hx hb dX0_free_27 rfl (lv_at hl 0 rfl) ?_
      refine kg_fl E w dX0_free_28 ?_
      refine lv_iload_n hx hb dX0_free_31 rfl (lv_at hl 1 rfl) ?_
      refine kl_fl E w (v := xfl a) (by omega) rfl dX0_free_32 ?_
      refine zr_isub hx hb dX0_free_33 ?_
      refine lv_istore_n (lv' := [(3, .int (zi (k3 - (xfl a)))), (0, .ref z.2.1), (1, .int (zi a)), (2, .int (zi d))]) hx hb dX0_free_34 rfl hl (by decide) rfl (fun ls hl => ?_)
      refine lv_iload_n hx hb dX0_free_35 rfl (lv_at hl 0 rfl) ?_
      refine zr_if_ge (tgt := 43) hx hb dX0_free_36 (by decide) (by omega) (fun c_36 => ?_) (fun c_36 => ?_)
      · skip
        refine lv_iload_n hx hb dX0_free_43 rfl (lv_at hl 0 rfl) ?_
        exact rt dX0_free_44 w (⟨⟨_, _, _, rfl⟩, Or.inr (Or.inr ⟨by omega, by omega, k3, hq, by omega⟩)⟩) rfl
      · skip
        refine zr_iconst hx hb dX0_free_39 ?_
        refine lv_goto (tgt := 44) hx hb dX0_free_40 (by decide) ?_
        exact rt dX0_free_44 w (⟨⟨_, _, _, rfl⟩, Or.inr (Or.inr ⟨by omega, by omega, k3, hq, by omega⟩)⟩) rfl
    · skip
      refine zr_bipush hx hb dX0_free_16 (by decide) ?_
      exact rt dX0_free_18 w (⟨⟨_, _, _, rfl⟩, Or.inr (Or.inl ⟨by omega, by omega, rfl⟩)⟩) rfl
  · skip
    refine zr_iconst hx hb dX0_free_7 ?_
    exact rt dX0_free_8 w (⟨⟨_, _, _, rfl⟩, Or.inl ⟨by omega, rfl⟩⟩) rfl
theorem ff_of {P : Int → Int → Int} {a b k : Int} (h : (k = -1 ∧ ∀ j, 0 < j → j ≤ 48 → b ≤ P a j) ∨ (0 ≤ k ∧ k < 48 ∧ P a (k + 1) < b ∧ ∀ j, k + 1 < j → j ≤ 48 → b ≤ P a j)) : (k = 47 → P a 48 < b) ∧ (k ≠ 47 → (0 ≤ k + 1 ∧ k + 1 < 48) ∧ (k + 1 = 0 ∨ P a (k + 1) < b) ∧ ∀ j, k + 1 < j → j ≤ 48 → b ≤ P a j) := by
  rcases h with ⟨h1, h2⟩ | ⟨h1, h2, h3, h4⟩
  · subst h1
    exact ⟨fun q => by omega, fun _ => ⟨by omega, Or.inl rfl, fun j j1 j2 => h2 j (by omega) j2⟩⟩
  · exact ⟨fun q => by subst q; exact h3, fun q => ⟨by omega, Or.inr h3, h4⟩⟩
set_option maxHeartbeats 4000000 in
set_option maxRecDepth 100000 in
theorem bk_firstFree (l : Launch) (z : bkZ) {xac xdy xam xgo xfl xch xle xar xlg : Int → Int} {xn xlo xmk xba xwc xwl xwa : Int} (P : Int → Int → Int) (hT : TB xch xle xar xfl P) (a x : Int) (ha : -2147483648 ≤ a ∧ a ≤ 2147483647) (hx0 : -2147483648 ≤ x ∧ x ≤ 2147483647) : bkM l yX0_firstFree cX0_firstFree 4 .int ({ frames := 1, cells := 0, slots := 0, locals := 28 }) z (bkC xac xdy xam xgo xfl xch xle xar xlg xn xlo xmk xba xwc xwl xwa) [.int (zi a), .int (zi x)] (fun k u' => u' = bkC xac xdy xam xgo xfl xch xle xar xlg xn xlo xmk xba xwc xwl xwa ∧ ((¬ (0 ≤ a ∧ a < 4) ∧ k = -1) ∨ ((0 ≤ a ∧ a < 4) ∧ ¬ (1 ≤ x ∧ x ≤ 1000000) ∧ k = -2) ∨ ((0 ≤ a ∧ a < 4) ∧ (1 ≤ x ∧ x ≤ 1000000) ∧ ((k = -3 ∧ P a 48 < xfl a + x) ∨ ((0 ≤ k ∧ k < 48) ∧ (k = 0 ∨ P a k < xfl a + x) ∧ ∀ j, k < j → j ≤ 48 → xfl a + x ≤ P a j))))) := by
  refine bk_enter (by decide) rfl (Nat.le_of_ble_eq_true rfl) ?_
  intro p e R s m args below meth c A Q hR E hml rt w ls hl
  have hx := E.1
  have hb := E.2.1
  have hts := E.2.2.1
  have hown := E.2.2.2.1
  have hl : lv_has ls 4 [(0, .ref z.2.1), (1, .int (zi a)), (2, .int (zi x))] := hl
  have w : bkG z A s.heap xac xdy xam xgo xfl xch xle xar xlg xn xlo xmk xba xwc xwl xwa s.heap [] := w
  refine lv_iload_n hx hb dX0_firstFree_0 rfl (lv_at hl 1 rfl) ?_
  refine bk_callS (as := [.int (zi a)]) (rest := []) (n := 1) E hml (bk_isAccount l a ha) q85 q86 q87 rfl rfl rfl (by decide +kernel) (by rw [hR]; exact ⟨Nat.le_of_ble_eq_true rfl, Nat.le_of_ble_eq_true rfl⟩) rfl hl.1 rfl (Nat.le_of_ble_eq_true rfl) dX0_firstFree_1 (fun k1 hk1 => ?_)
  refine zr_if_ne (tgt := 9) hx hb dX0_firstFree_4 (by decide) (by omega) (fun c_4 => ?_) (fun c_4 => ?_)
  · skip
    refine lv_iload_n hx hb dX0_firstFree_9 rfl (lv_at hl 2 rfl) ?_
    refine zr_iconst hx hb dX0_firstFree_10 ?_
    refine zr_icmp_lt (tgt := 20) hx hb dX0_firstFree_11 (by decide) (by omega) (by omega) (fun c_11 => ?_) (fun c_11 => ?_)
    · skip
      refine zr_bipush hx hb dX0_firstFree_20 (by decide) ?_
      exact rt dX0_firstFree_22 w (⟨rfl, Or.inr (Or.inl ⟨by omega, by omega, rfl⟩)⟩) rfl
    · skip
      refine lv_iload_n hx hb dX0_firstFree_14 rfl (lv_at hl 2 rfl) ?_
      refine zr_ldc hx hb (1000000) hown (hts _ q201) (by decide) dX0_firstFree_15 ?_
      refine zr_icmp_le (tgt := 23) hx hb dX0_firstFree_17 (by decide) (by omega) (by omega) (fun c_17 => ?_) (fun c_17 => ?_)
      · skip
        refine lv_aload_n hx hb dX0_firstFree_23 rfl (lv_at hl 0 rfl) ?_
        refine lv_iload_n hx hb dX0_firstFree_24 rfl (lv_at hl 1 rfl) ?_
        refine lv_aload_n hx hb dX0_firstFree_25 rfl (lv_at hl 0 rfl) ?_
        refine kg_fl E w dX0_firstFree_26 ?_
        refine lv_iload_n hx hb dX0_firstFree_29 rfl (lv_at hl 1 rfl) ?_
        have hfl := hT.2.2.2.2 a (by omega) (by omega)
        refine kl_fl E w (v := xfl a) (by omega) rfl dX0_firstFree_30 ?_
        refine lv_iload_n hx hb dX0_firstFree_31 rfl (lv_at hl 2 rfl) ?_
        refine zr_iadd hx hb dX0_firstFree_32 ?_
        refine bk_call (as := [.int (zi a), .int (zi ((xfl a) + x))]) (rest := []) (n := 2) E hml w (bk_lastBelow l z P hT a (xfl a + x) (by omega) (by omega)) q202 q204 qs9 q205 rfl rfl (by decide +kernel) (by rw [hR]; exact ⟨Nat.le_of_ble_eq_true rfl, Nat.le_of_ble_eq_true rfl⟩) rfl hl.1 rfl (Nat.le_of_ble_eq_true rfl) dX0_firstFree_33 (fun k3 u1 H locs hw w => ?_)
        obtain ⟨rfl, hq⟩ := hw
        have hq2 := ff_of hq
        have hk3 : -1 ≤ k3 ∧ k3 < 48 := by omega
        have w : bkG z A s.heap xac xdy xam xgo xfl xch xle xar xlg xn xlo xmk xba xwc xwl xwa H locs := w
        refine lv_istore_n (lv' := [(3, .int (zi k3)), (0, .ref z.2.1), (1, .int (zi a)), (2, .int (zi x))]) hx hb dX0_firstFree_36 rfl hl (by decide) rfl (fun ls hl => ?_)
        refine lv_iload_n hx hb dX0_firstFree_37 rfl (lv_at hl 0 rfl) ?_
        refine zr_bipush hx hb dX0_firstFree_38 (by decide) ?_
        refine zr_icmp_ne (tgt := 48) hx hb dX0_firstFree_40 (by decide) (by omega) (by omega) (fun c_40 => ?_) (fun c_40 => ?_)
        · skip
          refine lv_iload_n hx hb dX0_firstFree_48 rfl (lv_at hl 0 rfl) ?_
          refine zr_iconst hx hb dX0_firstFree_49 ?_
          refine zr_iadd hx hb dX0_firstFree_50 ?_
          exact rt dX0_firstFree_51 w (⟨rfl, Or.inr (Or.inr ⟨by omega, by omega, Or.inr (hq2.2 c_40)⟩)⟩) rfl
        · skip
          refine zr_bipush hx hb dX0_firstFree_43 (by decide) ?_
          refine lv_goto (tgt := 51) hx hb dX0_firstFree_45 (by decide) ?_
          exact rt dX0_firstFree_51 w (⟨rfl, Or.inr (Or.inr ⟨by omega, by omega, Or.inl ⟨rfl, hq2.1 c_40⟩⟩)⟩) rfl
      · skip
        refine zr_bipush hx hb dX0_firstFree_20 (by decide) ?_
        exact rt dX0_firstFree_22 w (⟨rfl, Or.inr (Or.inl ⟨by omega, by omega, rfl⟩)⟩) rfl
  · skip
    refine zr_iconst hx hb dX0_firstFree_7 ?_
    exact rt dX0_firstFree_8 w (⟨rfl, Or.inl ⟨by omega, rfl⟩⟩) rfl
set_option maxHeartbeats 4000000 in
set_option maxRecDepth 100000 in
theorem bk_daysBelow (l : Launch) (z : bkZ) {xac xdy xam xgo xfl xch xle xar xlg : Int → Int} {xn xlo xmk xba xwc xwl xwa : Int} (P : Int → Int → Int) (hT : TB xch xle xar xfl P) (a b : Int) (ha : -2147483648 ≤ a ∧ a ≤ 2147483647) (hb0 : -2147483648 ≤ b ∧ b ≤ 2147483647) : bkM l yX0_daysBelow cX0_daysBelow 6 .int ({ frames := 3, cells := 0, slots := 0, locals := 80 }) z (bkC xac xdy xam xgo xfl xch xle xar xlg xn xlo xmk xba xwc xwl xwa) [.int (zi a), .int (zi b)] (fun k u' => (∃ y1 y2 y3 : Int, u' = bkC xac xdy xam xgo xfl xch xle xar xlg xn xlo xmk xba y1 y2 y3) ∧ ((¬ (0 ≤ a ∧ a < 4) ∧ k = -1) ∨ ((0 ≤ a ∧ a < 4) ∧ k = cb (P a) b (48 : Int).toNat))) := by
  refine bk_enter (by decide) rfl (Nat.le_of_ble_eq_true rfl) ?_
  intro p e R s m args below meth c A Q hR E hml rt w ls hl
  have hx := E.1
  have hb := E.2.1
  have hts := E.2.2.1
  have hown := E.2.2.2.1
  have hl : lv_has ls 6 [(0, .ref z.2.1), (1, .int (zi a)), (2, .int (zi b))] := hl
  have w : bkG z A s.heap xac xdy xam xgo xfl xch xle xar xlg xn xlo xmk xba xwc xwl xwa s.heap [] := w
  have loop0 (ha4 : 0 ≤ a ∧ a < 4) : ∀ (n : Nat) (i c1 g y1 y2 y3 : Int) (H : Heap) (locs : List Loc) (ls : Array Slot), 0 ≤ i ∧ i ≤ 48 → 49 ≤ (n : Int) + i → c1 = i → ((g = -1 ∧ c1 = cb (P a) b (48 : Int).toNat) ∨ ((0 ≤ g ∧ g < 48) ∧ P a (g + 1) < b ∧ c1 = cb (P a) b g.toNat)) → bkG z A s.heap xac xdy xam xgo xfl xch xle xar xlg xn xlo xmk xba y1 y2 y3 H locs → lv_has ls 6 [(0, .ref z.2.1), (1, .int (zi a)), (2, .int (zi b)), (3, .int (zi c1)), (4, .int (zi g)), (5, .int (zi i))] → W p l e R s m args below meth c H locs 0 0 Q (F0 m 23 ls []) := by
    intro n
    induction n with
    | zero =>
      intro i c1 g y1 y2 y3 H locs ls i1 hn i2 i3
      exfalso
      omega
    | succ n ih =>
      intro i c1 g y1 y2 y3 H locs ls i1 hn i2 i3 w hl
      have hg : -1 ≤ g ∧ g < 48 := by omega
      refine lv_iload hx hb dX0_daysBelow_23 (lv_at hl 5 rfl) ?_
      refine zr_bipush hx hb dX0_daysBelow_25 (by decide) ?_
      refine zr_icmp_ge (tgt := 67) hx hb dX0_daysBelow_27 (by decide) (by omega) (by omega) (fun c_27 => ?_) (fun c_27 => ?_)
      · skip
        
        refine lv_iload_n hx hb dX0_daysBelow_67 rfl (lv_at hl 3 rfl) ?_
        refine rt dX0_daysBelow_68 w ?_ rfl
        refine ⟨⟨_, _, _, rfl⟩, Or.inr ⟨by omega, ?_⟩⟩
        rcases i3 with q | q
        · omega
        · exfalso
          have := (cb_le (P a) b g.toNat).2
          omega
      · skip
        
        refine lv_iload hx hb dX0_daysBelow_30 (lv_at hl 4 rfl) ?_
        refine zr_if_lt (tgt := 67) hx hb dX0_daysBelow_32 (by decide) (by omega) (fun c_32 => ?_) (fun c_32 => ?_)
        · skip
          
          refine lv_iload_n hx hb dX0_daysBelow_67 rfl (lv_at hl 3 rfl) ?_
          refine rt dX0_daysBelow_68 w ?_ rfl
          refine ⟨⟨_, _, _, rfl⟩, Or.inr ⟨by omega, ?_⟩⟩
          rcases i3 with q | q
          · omega
          · exfalso
            have := (cb_le (P a) b g.toNat).2
            omega
        · skip
          have q0 : (0 ≤ g ∧ g < 48) ∧ P a (g + 1) < b ∧ c1 = cb (P a) b g.toNat := by
            rcases i3 with q | q
            · exfalso
              omega
            · exact q
          have hcs := cb_succ (P a) b (x := g) (by omega)
          rw [if_pos q0.2.1] at hcs
          refine lv_iinc (v := zi (c1 + 1)) (lv' := [(3, .int (zi (c1 + 1))), (0, .ref z.2.1), (1, .int (zi a)), (2, .int (zi b)), (4, .int (zi g)), (5, .int (zi i))]) hx hb dX0_daysBelow_35 hl (k := 3) rfl (zi_add c1 1) (by decide) rfl (fun ls hl => ?_)
          refine lv_iload hx hb dX0_daysBelow_38 (lv_at hl 4 rfl) ?_
          refine zr_bipush hx hb dX0_daysBelow_40 (by decide) ?_
          refine zr_icmp_ne (tgt := 49) hx hb dX0_daysBelow_42 (by decide) (by omega) (by omega) (fun c_42 => ?_) (fun c_42 => ?_)
          · skip
            
            refine lv_aload_n hx hb dX0_daysBelow_49 rfl (lv_at hl 1 rfl) ?_
            refine lv_iload_n hx hb dX0_daysBelow_50 rfl (lv_at hl 2 rfl) ?_
            refine lv_iload hx hb dX0_daysBelow_51 (lv_at hl 4 rfl) ?_
            refine zr_iconst hx hb dX0_daysBelow_53 ?_
            refine zr_iadd hx hb dX0_daysBelow_54 ?_
            refine lv_iload_n hx hb dX0_daysBelow_55 rfl (lv_at hl 3 rfl) ?_
            refine bk_call (as := [.int (zi a), .int (zi (g + 1)), .int (zi b)]) (rest := []) (n := 3) E hml w (bk_search l z P hT a (g + 1) b (by omega) (by omega) hb0) q185 q187 qs7 q188 rfl rfl (by decide +kernel) (by rw [hR]; exact ⟨Nat.le_of_ble_eq_true rfl, Nat.le_of_ble_eq_true rfl⟩) rfl hl.1 rfl (Nat.le_of_ble_eq_true rfl) dX0_daysBelow_56 (fun k4 u1 H locs hw w => ?_)
            obtain ⟨⟨g1, g2, g3, rfl⟩, hq⟩ := hw
            have w : bkG z A s.heap xac xdy xam xgo xfl xch xle xar xlg xn xlo xmk xba g1 g2 g3 H locs := w
            refine lv_istore (lv' := [(4, .int (zi k4)), (3, .int (zi (c1 + 1))), (0, .ref z.2.1), (1, .int (zi a)), (2, .int (zi b)), (5, .int (zi i))]) hx hb dX0_daysBelow_59 hl (by decide) rfl (fun ls hl => ?_)
            refine lv_iinc (v := zi (i + 1)) (lv' := [(5, .int (zi (i + 1))), (4, .int (zi k4)), (3, .int (zi (c1 + 1))), (0, .ref z.2.1), (1, .int (zi a)), (2, .int (zi b))]) hx hb dX0_daysBelow_61 hl (k := 5) rfl (zi_add i 1) (by decide) rfl (fun ls hl => ?_)
            refine lv_goto (tgt := 23) hx hb dX0_daysBelow_64 (by decide) ?_
            refine ih (i + 1) (c1 + 1) k4 g1 g2 g3 _ _ ls (by omega) (by omega) (by omega) ?_ w (lv_sub hl [3, 4, 5, 2, 1, 0] rfl)
            rcases hq with ⟨h1, h2⟩ | ⟨h1, h2, h3, h4⟩
            · refine Or.inl ⟨h1, ?_⟩
              rw [cb_flat' (p := P a) (x := g + 1) (by omega) (by omega) h2]
              omega
            · refine Or.inr ⟨by omega, h3, ?_⟩
              rw [cb_flat' (p := P a) (x := g + 1) (by omega) (by omega) h4]
              omega
          · skip
            
            refine zr_iconst hx hb dX0_daysBelow_45 ?_
            refine lv_goto (tgt := 59) hx hb dX0_daysBelow_46 (by decide) ?_
            refine lv_istore (lv' := [(4, .int (zi (-1))), (3, .int (zi (c1 + 1))), (0, .ref z.2.1), (1, .int (zi a)), (2, .int (zi b)), (5, .int (zi i))]) hx hb dX0_daysBelow_59 hl (by decide) rfl (fun ls hl => ?_)
            refine lv_iinc (v := zi (i + 1)) (lv' := [(5, .int (zi (i + 1))), (4, .int (zi (-1))), (3, .int (zi (c1 + 1))), (0, .ref z.2.1), (1, .int (zi a)), (2, .int (zi b))]) hx hb dX0_daysBelow_61 hl (k := 5) rfl (zi_add i 1) (by decide) rfl (fun ls hl => ?_)
            refine lv_goto (tgt := 23) hx hb dX0_daysBelow_64 (by decide) ?_
            exact ih (i + 1) (c1 + 1) (-1) y1 y2 y3 _ _ ls (by omega) (by omega) (by omega) (Or.inl ⟨rfl, by rw [show (48 : Int) = g + 1 by omega]; omega⟩) w (lv_sub hl [3, 4, 5, 2, 1, 0] rfl)
  refine lv_iload_n hx hb dX0_daysBelow_0 rfl (lv_at hl 1 rfl) ?_
  refine bk_callS (as := [.int (zi a)]) (rest := []) (n := 1) E hml (bk_isAccount l a ha) q85 q86 q87 rfl rfl rfl (by decide +kernel) (by rw [hR]; exact ⟨Nat.le_of_ble_eq_true rfl, Nat.le_of_ble_eq_true rfl⟩) rfl hl.1 rfl (Nat.le_of_ble_eq_true rfl) dX0_daysBelow_1 (fun k1 hk1 => ?_)
  refine zr_if_ne (tgt := 9) hx hb dX0_daysBelow_4 (by decide) (by omega) (fun c_4 => ?_) (fun c_4 => ?_)
  · skip
    have ha4 : 0 ≤ a ∧ a < 4 := by omega
    have loop := loop0 ha4
    refine zr_iconst hx hb dX0_daysBelow_9 ?_
    refine lv_istore_n (lv' := [(3, .int (zi 0)), (0, .ref z.2.1), (1, .int (zi a)), (2, .int (zi b))]) hx hb dX0_daysBelow_10 rfl hl (by decide) rfl (fun ls hl => ?_)
    refine lv_aload_n hx hb dX0_daysBelow_11 rfl (lv_at hl 1 rfl) ?_
    refine lv_iload_n hx hb dX0_daysBelow_12 rfl (lv_at hl 2 rfl) ?_
    refine zr_iconst hx hb dX0_daysBelow_13 ?_
    refine lv_iload_n hx hb dX0_daysBelow_14 rfl (lv_at hl 3 rfl) ?_
    refine bk_call (as := [.int (zi a), .int (zi 0), .int (zi b)]) (rest := []) (n := 3) E hml w (bk_search l z P hT a 0 b (by omega) (by omega) hb0) q185 q187 qs7 q188 rfl rfl (by decide +kernel) (by rw [hR]; exact ⟨Nat.le_of_ble_eq_true rfl, Nat.le_of_ble_eq_true rfl⟩) rfl hl.1 rfl (Nat.le_of_ble_eq_true rfl) dX0_daysBelow_15 (fun k3 u1 H locs hw w => ?_)
    obtain ⟨⟨y1, y2, y3, rfl⟩, hq⟩ := hw
    have w : bkG z A s.heap xac xdy xam xgo xfl xch xle xar xlg xn xlo xmk xba y1 y2 y3 H locs := w
    refine lv_istore (lv' := [(4, .int (zi k3)), (3, .int (zi 0)), (0, .ref z.2.1), (1, .int (zi a)), (2, .int (zi b))]) hx hb dX0_daysBelow_18 hl (by decide) rfl (fun ls hl => ?_)
    refine zr_iconst hx hb dX0_daysBelow_20 ?_
    refine lv_istore (lv' := [(5, .int (zi 0)), (4, .int (zi k3)), (3, .int (zi 0)), (0, .ref z.2.1), (1, .int (zi a)), (2, .int (zi b))]) hx hb dX0_daysBelow_21 hl (by decide) rfl (fun ls hl => ?_)
    refine loop 49 0 0 k3 y1 y2 y3 _ _ ls (by omega) (by omega) rfl ?_ w (lv_sub hl [3, 4, 5, 2, 1, 0] rfl)
    rcases hq with ⟨h1, h2⟩ | ⟨h1, h2, h3, h4⟩
    · refine Or.inl ⟨h1, ?_⟩
      rw [cb_flat' (p := P a) (x := 0) (by omega) (by omega) h2]
      rfl
    · refine Or.inr ⟨by omega, h3, ?_⟩
      rw [cb_flat' (p := P a) (x := 0) (by omega) (by omega) h4]
      rfl
  · skip
    
    refine zr_iconst hx hb dX0_daysBelow_7 ?_
    exact rt dX0_daysBelow_8 w (⟨⟨_, _, _, rfl⟩, Or.inl ⟨by omega, rfl⟩⟩) rfl
end
section
/-! BackdatedBook: floor, open -/
set_option maxHeartbeats 4000000 in
set_option maxRecDepth 100000 in
theorem bk_floor (l : Launch) (z : bkZ) {xac xdy xam xgo xfl xch xle xar xlg : Int → Int} {xn xlo xmk xba xwc xwl xwa : Int} (P : Int → Int → Int) (hT : TB xch xle xar xfl P) (hba : xba = 0 ∨ xba = 1) (a g : Int) (ha : -2147483648 ≤ a ∧ a ≤ 2147483647) (hg : -2147483648 ≤ g ∧ g ≤ 2147483647) : bkM l yX0_floor cX0_floor 4 .int ({ frames := 2, cells := 0, slots := 0, locals := 51 }) z (bkC xac xdy xam xgo xfl xch xle xar xlg xn xlo xmk xba xwc xwl xwa) [.int (zi a), .int (zi g)] (fun k u' => ∃ y1 y2 y3 : Int, (u' = bkC xac xdy xam xgo xfl xch xle xar xlg xn xlo xmk xba y1 y2 y3 ∧ ((¬ (0 ≤ a ∧ a < 4) ∧ k = -1) ∨ ((0 ≤ a ∧ a < 4) ∧ ¬ (-10000 ≤ g ∧ g ≤ 10000) ∧ k = -2) ∨ ((0 ≤ a ∧ a < 4) ∧ (-10000 ≤ g ∧ g ≤ 10000) ∧ xba = 1 ∧ k = -3) ∨ ((0 ≤ a ∧ a < 4) ∧ (-10000 ≤ g ∧ g ≤ 10000) ∧ xba = 0 ∧ (∃ j, 0 < j ∧ j ≤ 48 ∧ P a j < g) ∧ k = -4))) ∨ (u' = bkC xac xdy xam xgo (up xfl a g) xch xle xar xlg xn xlo xmk xba y1 y2 y3 ∧ (0 ≤ a ∧ a < 4) ∧ (-10000 ≤ g ∧ g ≤ 10000) ∧ xba = 0 ∧ (∀ j, 0 < j → j ≤ 48 → g ≤ P a j) ∧ k = xfl a)) := by
  refine bk_enter (by decide) rfl (Nat.le_of_ble_eq_true rfl) ?_
  intro p e R s m args below meth c A Q hR E hml rt w ls hl
  have hx := E.1
  have hb := E.2.1
  have hts := E.2.2.1
  have hown := E.2.2.2.1
  have hl : lv_has ls 4 [(0, .ref z.2.1), (1, .int (zi a)), (2, .int (zi g))] := hl
  have w : bkG z A s.heap xac xdy xam xgo xfl xch xle xar xlg xn xlo xmk xba xwc xwl xwa s.heap [] := w
  refine lv_iload_n hx hb dX0_floor_0 rfl (lv_at hl 1 rfl) ?_
  refine bk_callS (as := [.int (zi a)]) (rest := []) (n := 1) E hml (bk_isAccount l a ha) q85 q86 q87 rfl rfl rfl (by decide +kernel) (by rw [hR]; exact ⟨Nat.le_of_ble_eq_true rfl, Nat.le_of_ble_eq_true rfl⟩) rfl hl.1 rfl (Nat.le_of_ble_eq_true rfl) dX0_floor_1 (fun k1 hk1 => ?_)
  refine zr_if_ne (tgt := 9) hx hb dX0_floor_4 (by decide) (by omega) (fun c_4 => ?_) (fun c_4 => ?_)
  · skip
    refine lv_iload_n hx hb dX0_floor_9 rfl (lv_at hl 2 rfl) ?_
    refine zr_sipush hx hb dX0_floor_10 (by decide) ?_
    refine zr_icmp_lt (tgt := 23) hx hb dX0_floor_13 (by decide) (by omega) (by omega) (fun c_13 => ?_) (fun c_13 => ?_)
    · skip
      refine zr_bipush hx hb dX0_floor_23 (by decide) ?_
      exact rt dX0_floor_25 w (⟨_, _, _, Or.inl ⟨rfl, Or.inr (Or.inl ⟨by omega, by omega, rfl⟩)⟩⟩) rfl
    · skip
      refine lv_iload_n hx hb dX0_floor_16 rfl (lv_at hl 2 rfl) ?_
      refine zr_sipush hx hb dX0_floor_17 (by decide) ?_
      refine zr_icmp_le (tgt := 26) hx hb dX0_floor_20 (by decide) (by omega) (by omega) (fun c_20 => ?_) (fun c_20 => ?_)
      · skip
        refine lv_aload_n hx hb dX0_floor_26 rfl (lv_at hl 0 rfl) ?_
        refine kg_ba E w (v := xba) rfl dX0_floor_27 ?_
        refine zr_if_eq (tgt := 36) hx hb dX0_floor_30 (by decide) (by omega) (fun c_30 => ?_) (fun c_30 => ?_)
        · skip
          refine lv_aload_n hx hb dX0_floor_36 rfl (lv_at hl 0 rfl) ?_
          refine lv_iload_n hx hb dX0_floor_37 rfl (lv_at hl 1 rfl) ?_
          refine zr_iconst hx hb dX0_floor_38 ?_
          refine zr_bipush hx hb dX0_floor_39 (by decide) ?_
          refine bk_callV (as := [.int (zi a), .int (zi 0), .int (zi 47)]) (rest := []) (n := 3) E hml w (bk_walk l z P hT a 0 47 (by omega) (by omega) (by omega)) q99 q101 qs2 q102 rfl rfl (by decide +kernel) (by rw [hR]; exact ⟨Nat.le_of_ble_eq_true rfl, Nat.le_of_ble_eq_true rfl⟩) rfl hl.1 rfl (Nat.le_of_ble_eq_true rfl) dX0_floor_41 (fun u1 H locs hw w => ?_)
          obtain ⟨y1, y2, y3, rfl, -, e3, -⟩ := hw
          have w : bkG z A s.heap xac xdy xam xgo xfl xch xle xar xlg xn xlo xmk xba y1 y2 y3 H locs := w
          have e4 := e3 (by omega)
          rw [show (47 : Int) + 1 = 48 from rfl] at e4
          have e5 := mn_bound e4 (fun k h1 h2 => hT.2.1 a k (by omega) (by omega) h1 h2) (by omega) (by omega)
          have e0 := hT.2.2.1 a (by omega) (by omega)
          refine lv_aload_n hx hb dX0_floor_44 rfl (lv_at hl 0 rfl) ?_
          refine kg_wl E w (v := y2) rfl dX0_floor_45 ?_
          refine lv_iload_n hx hb dX0_floor_48 rfl (lv_at hl 2 rfl) ?_
          refine zr_icmp_ge (tgt := 55) hx hb dX0_floor_49 (by decide) (by omega) (by omega) (fun c_49 => ?_) (fun c_49 => ?_)
          · skip
            refine lv_aload_n hx hb dX0_floor_55 rfl (lv_at hl 0 rfl) ?_
            refine kg_fl E w dX0_floor_56 ?_
            refine lv_iload_n hx hb dX0_floor_59 rfl (lv_at hl 1 rfl) ?_
            refine kl_fl E w (v := xfl a) (by omega) rfl dX0_floor_60 ?_
            refine lv_istore_n (lv' := [(3, .int (zi (xfl a))), (0, .ref z.2.1), (1, .int (zi a)), (2, .int (zi g))]) hx hb dX0_floor_61 rfl hl (by decide) rfl (fun ls hl => ?_)
            refine lv_aload_n hx hb dX0_floor_62 rfl (lv_at hl 1 rfl) ?_
            refine kg_fl E w dX0_floor_63 ?_
            refine lv_iload_n hx hb dX0_floor_66 rfl (lv_at hl 2 rfl) ?_
            refine lv_iload_n hx hb dX0_floor_67 rfl (lv_at hl 3 rfl) ?_
            refine ks_fl E w (by omega) dX0_floor_68 (fun H locs w => ?_)
            refine lv_iload_n hx hb dX0_floor_69 rfl (lv_at hl 0 rfl) ?_
            exact rt dX0_floor_70 w (⟨_, _, _, Or.inr ⟨rfl, by omega, by omega, by omega, fun j j1 j2 => by have := e4.1 j j1 j2; omega, rfl⟩⟩) rfl
          · skip
            refine zr_bipush hx hb dX0_floor_52 (by decide) ?_
            exact rt dX0_floor_54 w (⟨_, _, _, Or.inl ⟨rfl, Or.inr (Or.inr (Or.inr ⟨by omega, by omega, by omega, by obtain ⟨j, j1, j2, j3⟩ := e4.2; exact ⟨j, j1, j2, by omega⟩, rfl⟩))⟩⟩) rfl
        · skip
          refine zr_bipush hx hb dX0_floor_33 (by decide) ?_
          exact rt dX0_floor_35 w (⟨_, _, _, Or.inl ⟨rfl, Or.inr (Or.inr (Or.inl ⟨by omega, by omega, by omega, rfl⟩))⟩⟩) rfl
      · skip
        refine zr_bipush hx hb dX0_floor_23 (by decide) ?_
        exact rt dX0_floor_25 w (⟨_, _, _, Or.inl ⟨rfl, Or.inr (Or.inl ⟨by omega, by omega, rfl⟩)⟩⟩) rfl
  · skip
    refine zr_iconst hx hb dX0_floor_7 ?_
    exact rt dX0_floor_8 w (⟨_, _, _, Or.inl ⟨rfl, Or.inl ⟨by omega, rfl⟩⟩⟩) rfl
set_option maxHeartbeats 4000000 in
set_option maxRecDepth 100000 in
theorem bk_open (l : Launch) (z : bkZ) {xac xdy xam xgo xfl xch xle xar xlg : Int → Int} {xn xlo xmk xba xwc xwl xwa : Int} (hba : xba = 0 ∨ xba = 1) : bkM l yX0_open cX0_open 1 .int ({ frames := 0, cells := 0, slots := 0, locals := 0 }) z (bkC xac xdy xam xgo xfl xch xle xar xlg xn xlo xmk xba xwc xwl xwa) [] (fun k u' => (xba = 1 ∧ u' = bkC xac xdy xam xgo xfl xch xle xar xlg xn xlo xmk xba xwc xwl xwa ∧ k = -1) ∨ (xba = 0 ∧ u' = bkC xac xdy xam xgo xfl xch xle xar xlg xn 0 xn 1 xwc xwl xwa ∧ k = 0)) := by
  refine bk_enter (by decide) rfl (Nat.le_of_ble_eq_true rfl) ?_
  intro p e R s m args below meth c A Q hR E hml rt w ls hl
  have hx := E.1
  have hb := E.2.1
  have hts := E.2.2.1
  have hown := E.2.2.2.1
  have hl : lv_has ls 1 [(0, .ref z.2.1)] := hl
  have w : bkG z A s.heap xac xdy xam xgo xfl xch xle xar xlg xn xlo xmk xba xwc xwl xwa s.heap [] := w
  refine lv_aload_n hx hb dX0_open_0 rfl (lv_at hl 0 rfl) ?_
  refine kg_ba E w (v := xba) rfl dX0_open_1 ?_
  refine zr_if_eq (tgt := 9) hx hb dX0_open_4 (by decide) (by omega) (fun c_4 => ?_) (fun c_4 => ?_)
  · skip
    refine lv_aload_n hx hb dX0_open_9 rfl (lv_at hl 0 rfl) ?_
    refine zr_iconst hx hb dX0_open_10 ?_
    refine kp_ba E w (by decide) dX0_open_11 (fun H locs w => ?_)
    refine lv_aload_n hx hb dX0_open_14 rfl (lv_at hl 0 rfl) ?_
    refine lv_aload_n hx hb dX0_open_15 rfl (lv_at hl 0 rfl) ?_
    refine kg_n E w (v := xn) rfl dX0_open_16 ?_
    refine kp_mk E w dX0_open_19 (fun H locs w => ?_)
    refine lv_aload_n hx hb dX0_open_22 rfl (lv_at hl 0 rfl) ?_
    refine zr_iconst hx hb dX0_open_23 ?_
    refine kp_lo E w dX0_open_24 (fun H locs w => ?_)
    refine zr_iconst hx hb dX0_open_27 ?_
    exact rt dX0_open_28 w (Or.inr ⟨by omega, rfl, rfl⟩) rfl
  · skip
    refine zr_iconst hx hb dX0_open_7 ?_
    exact rt dX0_open_8 w (Or.inl ⟨by omega, rfl, rfl⟩) rfl
end
section
/-! BackdatedBook: post, transfer -/
set_option maxHeartbeats 4000000 in
set_option maxRecDepth 100000 in
theorem bk_post (l : Launch) (z : bkZ) {xac xdy xam xgo xfl xch xle xar xlg : Int → Int} {xn xlo xmk xba xwc xwl xwa : Int} (P : Int → Int → Int) (hP : P = pb xn xac xdy xam xgo) (hn : 0 ≤ xn ∧ xn ≤ 60) (he : eok xac xdy xam xgo xn) (hT : TB xch xle xar xfl P) (hba : xba = 0 ∨ xba = 1) (a d x : Int) (ha : -2147483648 ≤ a ∧ a ≤ 2147483647) (hd : -2147483648 ≤ d ∧ d ≤ 2147483647) (hx0 : -2147483648 ≤ x ∧ x ≤ 2147483647) : bkM l yX0_post cX0_post 4 .int ({ frames := 4, cells := 0, slots := 0, locals := 98 }) z (bkC xac xdy xam xgo xfl xch xle xar xlg xn xlo xmk xba xwc xwl xwa) [.int (zi a), .int (zi d), .int (zi x)] (fun k u' => ∃ y1 y2 y3 : Int, (u' = bkC xac xdy xam xgo xfl xch xle xar xlg xn xlo xmk xba y1 y2 y3 ∧ ((¬ (0 ≤ a ∧ a < 4) ∧ k = -1) ∨ ((0 ≤ a ∧ a < 4) ∧ ¬ (0 ≤ d ∧ d < 48) ∧ k = -2) ∨ ((0 ≤ a ∧ a < 4) ∧ (0 ≤ d ∧ d < 48) ∧ ¬ (¬ x = 0 ∧ -10000 ≤ x ∧ x ≤ 10000) ∧ k = -3) ∨ ((0 ≤ a ∧ a < 4) ∧ (0 ≤ d ∧ d < 48) ∧ (¬ x = 0 ∧ -10000 ≤ x ∧ x ≤ 10000) ∧ xn = 60 ∧ k = -4) ∨ ((0 ≤ a ∧ a < 4) ∧ (0 ≤ d ∧ d < 48) ∧ (¬ x = 0 ∧ -10000 ≤ x ∧ x ≤ 10000) ∧ xn < 60 ∧ xba = 0 ∧ ¬ (0 < x ∨ ∀ j, d < j → j ≤ 48 → xfl a ≤ P a j + x) ∧ k = -5))) ∨ (∃ g1 g2 g3 : Int → Int, u' = bkC (up xac xn a) (up xdy xn d) (up xam xn x) (up xgo xn 0) xfl g1 g2 g3 xlg (xn + 1) xlo xmk xba y1 y2 y3 ∧ tr g1 g2 g3 (bump P a d x) ∧ (0 ≤ a ∧ a < 4) ∧ (0 ≤ d ∧ d < 48) ∧ (¬ x = 0 ∧ -10000 ≤ x ∧ x ≤ 10000) ∧ xn < 60 ∧ (xba = 0 → (0 < x ∨ ∀ j, d < j → j ≤ 48 → xfl a ≤ P a j + x)) ∧ k = xn)) := by
  refine bk_enter (by decide) rfl (Nat.le_of_ble_eq_true rfl) ?_
  intro p e R s m args below meth c A Q hR E hml rt w ls hl
  have hx := E.1
  have hb := E.2.1
  have hts := E.2.2.1
  have hown := E.2.2.2.1
  have hl : lv_has ls 4 [(0, .ref z.2.1), (1, .int (zi a)), (2, .int (zi d)), (3, .int (zi x))] := hl
  have w : bkG z A s.heap xac xdy xam xgo xfl xch xle xar xlg xn xlo xmk xba xwc xwl xwa s.heap [] := w
  refine lv_iload_n hx hb dX0_post_0 rfl (lv_at hl 1 rfl) ?_
  refine bk_callS (as := [.int (zi a)]) (rest := []) (n := 1) E hml (bk_isAccount l a ha) q85 q86 q87 rfl rfl rfl (by decide +kernel) (by rw [hR]; exact ⟨Nat.le_of_ble_eq_true rfl, Nat.le_of_ble_eq_true rfl⟩) rfl hl.1 rfl (Nat.le_of_ble_eq_true rfl) dX0_post_1 (fun k1 hk1 => ?_)
  refine zr_if_ne (tgt := 9) hx hb dX0_post_4 (by decide) (by omega) (fun c_4 => ?_) (fun c_4 => ?_)
  · skip
    refine lv_iload_n hx hb dX0_post_9 rfl (lv_at hl 2 rfl) ?_
    refine bk_callS (as := [.int (zi d)]) (rest := []) (n := 1) E hml (bk_isDay l d hd) q88 q89 q90 rfl rfl rfl (by decide +kernel) (by rw [hR]; exact ⟨Nat.le_of_ble_eq_true rfl, Nat.le_of_ble_eq_true rfl⟩) rfl hl.1 rfl (Nat.le_of_ble_eq_true rfl) dX0_post_10 (fun k2 hk2 => ?_)
    refine zr_if_ne (tgt := 19) hx hb dX0_post_13 (by decide) (by omega) (fun c_13 => ?_) (fun c_13 => ?_)
    · skip
      refine lv_iload_n hx hb dX0_post_19 rfl (lv_at hl 3 rfl) ?_
      refine zr_if_eq (tgt := 37) hx hb dX0_post_20 (by decide) (by omega) (fun c_20 => ?_) (fun c_20 => ?_)
      · skip
        refine zr_bipush hx hb dX0_post_37 (by decide) ?_
        exact rt dX0_post_39 w (⟨_, _, _, Or.inl ⟨rfl, Or.inr (Or.inr (Or.inl ⟨by omega, by omega, by omega, rfl⟩))⟩⟩) rfl
      · skip
        refine lv_iload_n hx hb dX0_post_23 rfl (lv_at hl 3 rfl) ?_
        refine zr_sipush hx hb dX0_post_24 (by decide) ?_
        refine zr_icmp_lt (tgt := 37) hx hb dX0_post_27 (by decide) (by omega) (by omega) (fun c_27 => ?_) (fun c_27 => ?_)
        · skip
          refine zr_bipush hx hb dX0_post_37 (by decide) ?_
          exact rt dX0_post_39 w (⟨_, _, _, Or.inl ⟨rfl, Or.inr (Or.inr (Or.inl ⟨by omega, by omega, by omega, rfl⟩))⟩⟩) rfl
        · skip
          refine lv_iload_n hx hb dX0_post_30 rfl (lv_at hl 3 rfl) ?_
          refine zr_sipush hx hb dX0_post_31 (by decide) ?_
          refine zr_icmp_le (tgt := 40) hx hb dX0_post_34 (by decide) (by omega) (by omega) (fun c_34 => ?_) (fun c_34 => ?_)
          · skip
            refine lv_aload_n hx hb dX0_post_40 rfl (lv_at hl 0 rfl) ?_
            refine kg_n E w (v := xn) rfl dX0_post_41 ?_
            refine zr_bipush hx hb dX0_post_44 (by decide) ?_
            refine zr_icmp_ne (tgt := 52) hx hb dX0_post_46 (by decide) (by omega) (by omega) (fun c_46 => ?_) (fun c_46 => ?_)
            · skip
              refine lv_aload_n hx hb dX0_post_52 rfl (lv_at hl 0 rfl) ?_
              refine kg_ba E w (v := xba) rfl dX0_post_53 ?_
              refine zr_if_ne (tgt := 72) hx hb dX0_post_56 (by decide) (by omega) (fun c_56 => ?_) (fun c_56 => ?_)
              · skip
                refine lv_aload_n hx hb dX0_post_72 rfl (lv_at hl 0 rfl) ?_
                refine lv_iload_n hx hb dX0_post_73 rfl (lv_at hl 1 rfl) ?_
                refine lv_iload_n hx hb dX0_post_74 rfl (lv_at hl 2 rfl) ?_
                refine lv_iload_n hx hb dX0_post_75 rfl (lv_at hl 3 rfl) ?_
                refine bk_call (as := [.int (zi a), .int (zi d), .int (zi x)]) (rest := []) (n := 3) E hml w (bk_enterE l z P hT.1 (by omega) a d x (by omega) (by omega) (fun k _ _ => by rw [hP]; exact push_bound (by omega) he (by omega) (by omega) (by omega) a k)) q107 q109 qs3 q110 rfl rfl (by decide +kernel) (by rw [hR]; exact ⟨Nat.le_of_ble_eq_true rfl, Nat.le_of_ble_eq_true rfl⟩) rfl hl.1 rfl (Nat.le_of_ble_eq_true rfl) dX0_post_76 (fun k5 u1 H locs hw w => ?_)
                obtain ⟨hk5, g1, g2, g3, rfl, ht⟩ := hw
                have hk5 := hk5.symm
                subst hk5
                have w : bkG z A s.heap (up xac xn a) (up xdy xn d) (up xam xn x) (up xgo xn 0) xfl g1 g2 g3 xlg (xn + 1) xlo xmk xba xwc xwl xwa H locs := w
                skip
                exact rt dX0_post_79 w (⟨_, _, _, Or.inr ⟨g1, g2, g3, rfl, ht, by omega, by omega, by omega, by omega, fun q => by omega, rfl⟩⟩) rfl
              · skip
                refine lv_aload_n hx hb dX0_post_59 rfl (lv_at hl 0 rfl) ?_
                refine lv_iload_n hx hb dX0_post_60 rfl (lv_at hl 1 rfl) ?_
                refine lv_iload_n hx hb dX0_post_61 rfl (lv_at hl 2 rfl) ?_
                refine lv_iload_n hx hb dX0_post_62 rfl (lv_at hl 3 rfl) ?_
                refine bk_call (as := [.int (zi a), .int (zi d), .int (zi x)]) (rest := []) (n := 3) E hml w (bk_bears l z P hT a d x (by omega) (by omega) (by omega)) q91 q93 qs0 q94 rfl rfl (by decide +kernel) (by rw [hR]; exact ⟨Nat.le_of_ble_eq_true rfl, Nat.le_of_ble_eq_true rfl⟩) rfl hl.1 rfl (Nat.le_of_ble_eq_true rfl) dX0_post_63 (fun k3 u1 H locs hw w => ?_)
                obtain ⟨⟨y1, y2, y3, rfl⟩, hk3⟩ := hw
                have hk4 : k3 = 0 ∨ k3 = 1 := hk3.elim (fun q => Or.inr q.1) (fun q => Or.inl q.1)
                have w : bkG z A s.heap xac xdy xam xgo xfl xch xle xar xlg xn xlo xmk xba y1 y2 y3 H locs := w
                refine zr_if_ne (tgt := 72) hx hb dX0_post_66 (by decide) (by omega) (fun c_66 => ?_) (fun c_66 => ?_)
                · skip
                  refine lv_aload_n hx hb dX0_post_72 rfl (lv_at hl 0 rfl) ?_
                  refine lv_iload_n hx hb dX0_post_73 rfl (lv_at hl 1 rfl) ?_
                  refine lv_iload_n hx hb dX0_post_74 rfl (lv_at hl 2 rfl) ?_
                  refine lv_iload_n hx hb dX0_post_75 rfl (lv_at hl 3 rfl) ?_
                  refine bk_call (as := [.int (zi a), .int (zi d), .int (zi x)]) (rest := []) (n := 3) E hml w (bk_enterE l z P hT.1 (by omega) a d x (by omega) (by omega) (fun k _ _ => by rw [hP]; exact push_bound (by omega) he (by omega) (by omega) (by omega) a k)) q107 q109 qs3 q110 rfl rfl (by decide +kernel) (by rw [hR]; exact ⟨Nat.le_of_ble_eq_true rfl, Nat.le_of_ble_eq_true rfl⟩) rfl hl.1 rfl (Nat.le_of_ble_eq_true rfl) dX0_post_76 (fun k5 u1 H locs hw w => ?_)
                  obtain ⟨hk5, g1, g2, g3, rfl, ht⟩ := hw
                  have hk5 := hk5.symm
                  subst hk5
                  have w : bkG z A s.heap (up xac xn a) (up xdy xn d) (up xam xn x) (up xgo xn 0) xfl g1 g2 g3 xlg (xn + 1) xlo xmk xba y1 y2 y3 H locs := w
                  skip
                  exact rt dX0_post_79 w (⟨_, _, _, Or.inr ⟨g1, g2, g3, rfl, ht, by omega, by omega, by omega, by omega, fun _ => hk3.elim (fun q => q.2) (fun q => by omega), rfl⟩⟩) rfl
                · skip
                  refine zr_bipush hx hb dX0_post_69 (by decide) ?_
                  exact rt dX0_post_71 w (⟨_, _, _, Or.inl ⟨rfl, Or.inr (Or.inr (Or.inr (Or.inr ⟨by omega, by omega, by omega, by omega, by omega, hk3.elim (fun q => by omega) (fun q => q.2), rfl⟩)))⟩⟩) rfl
            · skip
              refine zr_bipush hx hb dX0_post_49 (by decide) ?_
              exact rt dX0_post_51 w (⟨_, _, _, Or.inl ⟨rfl, Or.inr (Or.inr (Or.inr (Or.inl ⟨by omega, by omega, by omega, by omega, rfl⟩)))⟩⟩) rfl
          · skip
            refine zr_bipush hx hb dX0_post_37 (by decide) ?_
            exact rt dX0_post_39 w (⟨_, _, _, Or.inl ⟨rfl, Or.inr (Or.inr (Or.inl ⟨by omega, by omega, by omega, rfl⟩))⟩⟩) rfl
    · skip
      refine zr_bipush hx hb dX0_post_16 (by decide) ?_
      exact rt dX0_post_18 w (⟨_, _, _, Or.inl ⟨rfl, Or.inr (Or.inl ⟨by omega, by omega, rfl⟩)⟩⟩) rfl
  · skip
    refine zr_iconst hx hb dX0_post_7 ?_
    exact rt dX0_post_8 w (⟨_, _, _, Or.inl ⟨rfl, Or.inl ⟨by omega, rfl⟩⟩⟩) rfl
set_option maxHeartbeats 4000000 in
set_option maxRecDepth 100000 in
theorem bk_transfer (l : Launch) (z : bkZ) {xac xdy xam xgo xfl xch xle xar xlg : Int → Int} {xn xlo xmk xba xwc xwl xwa : Int} (P : Int → Int → Int) (hP : P = pb xn xac xdy xam xgo) (hn : 0 ≤ xn ∧ xn ≤ 60) (he : eok xac xdy xam xgo xn) (hT : TB xch xle xar xfl P) (hba : xba = 0 ∨ xba = 1) (r d x : Int) (hr : -2147483648 ≤ r ∧ r ≤ 2147483647) (hd : -2147483648 ≤ d ∧ d ≤ 2147483647) (hx0 : -2147483648 ≤ x ∧ x ≤ 2147483647) : bkM l yX0_transfer cX0_transfer 7 .int ({ frames := 4, cells := 0, slots := 0, locals := 98 }) z (bkC xac xdy xam xgo xfl xch xle xar xlg xn xlo xmk xba xwc xwl xwa) [.int (zi r), .int (zi d), .int (zi x)] (fun k u' => ∃ y1 y2 y3 : Int, (u' = bkC xac xdy xam xgo xfl xch xle xar xlg xn xlo xmk xba y1 y2 y3 ∧ ((¬ ((0 ≤ r ∧ r ≤ 15) ∧ ¬ r / 4 = r % 4) ∧ k = -1) ∨ (((0 ≤ r ∧ r ≤ 15) ∧ ¬ r / 4 = r % 4) ∧ ¬ (0 ≤ d ∧ d < 48) ∧ k = -2) ∨ (((0 ≤ r ∧ r ≤ 15) ∧ ¬ r / 4 = r % 4) ∧ (0 ≤ d ∧ d < 48) ∧ ¬ (1 ≤ x ∧ x ≤ 10000) ∧ k = -3) ∨ (((0 ≤ r ∧ r ≤ 15) ∧ ¬ r / 4 = r % 4) ∧ (0 ≤ d ∧ d < 48) ∧ (1 ≤ x ∧ x ≤ 10000) ∧ 58 < xn ∧ k = -4) ∨ (((0 ≤ r ∧ r ≤ 15) ∧ ¬ r / 4 = r % 4) ∧ (0 ≤ d ∧ d < 48) ∧ (1 ≤ x ∧ x ≤ 10000) ∧ xn ≤ 58 ∧ xba = 0 ∧ ¬ (0 < -x ∨ ∀ j, d < j → j ≤ 48 → xfl (r / 4) ≤ P (r / 4) j + -x) ∧ k = -5))) ∨ (∃ g1 g2 g3 : Int → Int, u' = bkC (up (up xac xn (r / 4)) (xn + 1) (r % 4)) (up (up xdy xn d) (xn + 1) d) (up (up xam xn (-x)) (xn + 1) x) (up (up xgo xn 0) (xn + 1) 0) xfl g1 g2 g3 xlg (xn + 1 + 1) xlo xmk xba y1 y2 y3 ∧ tr g1 g2 g3 (bump (bump P (r / 4) d (-x)) (r % 4) d x) ∧ ((0 ≤ r ∧ r ≤ 15) ∧ ¬ r / 4 = r % 4) ∧ (0 ≤ d ∧ d < 48) ∧ (1 ≤ x ∧ x ≤ 10000) ∧ xn ≤ 58 ∧ (xba = 0 → (0 < -x ∨ ∀ j, d < j → j ≤ 48 → xfl (r / 4) ≤ P (r / 4) j + -x)) ∧ k = xn)) := by
  refine bk_enter (by decide) rfl (Nat.le_of_ble_eq_true rfl) ?_
  intro p e R s m args below meth c A Q hR E hml rt w ls hl
  have hx := E.1
  have hb := E.2.1
  have hts := E.2.2.1
  have hown := E.2.2.2.1
  have hl : lv_has ls 7 [(0, .ref z.2.1), (1, .int (zi r)), (2, .int (zi d)), (3, .int (zi x))] := hl
  have w : bkG z A s.heap xac xdy xam xgo xfl xch xle xar xlg xn xlo xmk xba xwc xwl xwa s.heap [] := w
  refine lv_iload_n hx hb dX0_transfer_0 rfl (lv_at hl 1 rfl) ?_
  refine zr_iconst hx hb dX0_transfer_1 ?_
  refine zr_ishr hx hb 2 rfl (by decide) (by omega) dX0_transfer_2 ?_
  refine zr_top (r / 4) rfl ?_
  refine lv_istore (lv' := [(4, .int (zi (r / 4))), (0, .ref z.2.1), (1, .int (zi r)), (2, .int (zi d)), (3, .int (zi x))]) hx hb dX0_transfer_3 hl (by decide) rfl (fun ls hl => ?_)
  refine lv_iload_n hx hb dX0_transfer_5 rfl (lv_at hl 2 rfl) ?_
  refine zr_iconst hx hb dX0_transfer_6 ?_
  refine zr_iand (r % 4) hx hb (zi_and3 r) dX0_transfer_7 ?_
  refine lv_istore (lv' := [(5, .int (zi (r % 4))), (4, .int (zi (r / 4))), (0, .ref z.2.1), (1, .int (zi r)), (2, .int (zi d)), (3, .int (zi x))]) hx hb dX0_transfer_8 hl (by decide) rfl (fun ls hl => ?_)
  refine lv_iload_n hx hb dX0_transfer_10 rfl (lv_at hl 3 rfl) ?_
  refine zr_if_lt (tgt := 27) hx hb dX0_transfer_11 (by decide) (by omega) (fun c_11 => ?_) (fun c_11 => ?_)
  · skip
    refine zr_iconst hx hb dX0_transfer_27 ?_
    exact rt dX0_transfer_28 w (⟨_, _, _, Or.inl ⟨rfl, Or.inl ⟨by omega, rfl⟩⟩⟩) rfl
  · skip
    refine lv_iload_n hx hb dX0_transfer_14 rfl (lv_at hl 3 rfl) ?_
    refine zr_bipush hx hb dX0_transfer_15 (by decide) ?_
    refine zr_icmp_gt (tgt := 27) hx hb dX0_transfer_17 (by decide) (by omega) (by omega) (fun c_17 => ?_) (fun c_17 => ?_)
    · skip
      refine zr_iconst hx hb dX0_transfer_27 ?_
      exact rt dX0_transfer_28 w (⟨_, _, _, Or.inl ⟨rfl, Or.inl ⟨by omega, rfl⟩⟩⟩) rfl
    · skip
      refine lv_iload hx hb dX0_transfer_20 (lv_at hl 1 rfl) ?_
      refine lv_iload hx hb dX0_transfer_22 (lv_at hl 0 rfl) ?_
      refine zr_icmp_ne (tgt := 29) hx hb dX0_transfer_24 (by decide) (by omega) (by omega) (fun c_24 => ?_) (fun c_24 => ?_)
      · skip
        refine lv_iload_n hx hb dX0_transfer_29 rfl (lv_at hl 4 rfl) ?_
        refine bk_callS (as := [.int (zi d)]) (rest := []) (n := 1) E hml (bk_isDay l d hd) q88 q89 q90 rfl rfl rfl (by decide +kernel) (by rw [hR]; exact ⟨Nat.le_of_ble_eq_true rfl, Nat.le_of_ble_eq_true rfl⟩) rfl hl.1 rfl (Nat.le_of_ble_eq_true rfl) dX0_transfer_30 (fun k2 hk2 => ?_)
        refine zr_if_ne (tgt := 39) hx hb dX0_transfer_33 (by decide) (by omega) (fun c_33 => ?_) (fun c_33 => ?_)
        · skip
          refine lv_iload_n hx hb dX0_transfer_39 rfl (lv_at hl 5 rfl) ?_
          refine zr_iconst hx hb dX0_transfer_40 ?_
          refine zr_icmp_lt (tgt := 51) hx hb dX0_transfer_41 (by decide) (by omega) (by omega) (fun c_41 => ?_) (fun c_41 => ?_)
          · skip
            refine zr_bipush hx hb dX0_transfer_51 (by decide) ?_
            exact rt dX0_transfer_53 w (⟨_, _, _, Or.inl ⟨rfl, Or.inr (Or.inr (Or.inl ⟨by omega, by omega, by omega, rfl⟩))⟩⟩) rfl
          · skip
            refine lv_iload_n hx hb dX0_transfer_44 rfl (lv_at hl 5 rfl) ?_
            refine zr_sipush hx hb dX0_transfer_45 (by decide) ?_
            refine zr_icmp_le (tgt := 54) hx hb dX0_transfer_48 (by decide) (by omega) (by omega) (fun c_48 => ?_) (fun c_48 => ?_)
            · skip
              refine lv_aload_n hx hb dX0_transfer_54 rfl (lv_at hl 2 rfl) ?_
              refine kg_n E w (v := xn) rfl dX0_transfer_55 ?_
              refine zr_bipush hx hb dX0_transfer_58 (by decide) ?_
              refine zr_icmp_le (tgt := 66) hx hb dX0_transfer_60 (by decide) (by omega) (by omega) (fun c_60 => ?_) (fun c_60 => ?_)
              · skip
                refine lv_aload_n hx hb dX0_transfer_66 rfl (lv_at hl 2 rfl) ?_
                refine kg_ba E w (v := xba) rfl dX0_transfer_67 ?_
                refine zr_if_ne (tgt := 88) hx hb dX0_transfer_70 (by decide) (by omega) (fun c_70 => ?_) (fun c_70 => ?_)
                · skip
                  refine lv_aload_n hx hb dX0_transfer_88 rfl (lv_at hl 2 rfl) ?_
                  refine lv_iload hx hb dX0_transfer_89 (lv_at hl 1 rfl) ?_
                  refine lv_iload_n hx hb dX0_transfer_91 rfl (lv_at hl 4 rfl) ?_
                  refine lv_iload_n hx hb dX0_transfer_92 rfl (lv_at hl 5 rfl) ?_
                  refine zr_ineg hx hb dX0_transfer_93 ?_
                  refine bk_call (as := [.int (zi (r / 4)), .int (zi d), .int (zi (-x))]) (rest := []) (n := 3) E hml w (bk_enterE l z P hT.1 (by omega) (r / 4) d (-x) (by omega) (by omega) (fun k _ _ => by rw [hP]; exact push_bound (by omega) he (by omega) (by omega) (by omega) _ k)) q107 q109 qs3 q110 rfl rfl (by decide +kernel) (by rw [hR]; exact ⟨Nat.le_of_ble_eq_true rfl, Nat.le_of_ble_eq_true rfl⟩) rfl hl.1 rfl (Nat.le_of_ble_eq_true rfl) dX0_transfer_94 (fun k5 u1 H locs hw w => ?_)
                  obtain ⟨hk5, f1, f2, f3, rfl, ht1⟩ := hw
                  have hk5 := hk5.symm
                  subst hk5
                  have w : bkG z A s.heap (up xac xn (r / 4)) (up xdy xn d) (up xam xn (-x)) (up xgo xn 0) xfl f1 f2 f3 xlg (xn + 1) xlo xmk xba xwc xwl xwa H locs := w
                  skip
                  refine lv_istore (lv' := [(6, .int (zi xn)), (5, .int (zi (r % 4))), (4, .int (zi (r / 4))), (0, .ref z.2.1), (1, .int (zi r)), (2, .int (zi d)), (3, .int (zi x))]) hx hb dX0_transfer_97 hl (by decide) rfl (fun ls hl => ?_)
                  refine lv_aload_n hx hb dX0_transfer_99 rfl (lv_at hl 3 rfl) ?_
                  refine lv_iload hx hb dX0_transfer_100 (lv_at hl 1 rfl) ?_
                  refine lv_iload_n hx hb dX0_transfer_102 rfl (lv_at hl 5 rfl) ?_
                  refine lv_iload_n hx hb dX0_transfer_103 rfl (lv_at hl 6 rfl) ?_
                  refine bk_call (as := [.int (zi (r % 4)), .int (zi d), .int (zi x)]) (rest := []) (n := 3) E hml w (bk_enterE l z (bump P (r / 4) d (-x)) ht1 (by omega) (r % 4) d x (by omega) (by omega) (fun k _ _ => by rw [hP, bump_push (by omega)]; exact push_bound (by omega) (eok_push he (by omega) (by omega) (by omega)) (by omega) (by omega) (by omega) _ k)) q107 q109 qs3 q110 rfl rfl (by decide +kernel) (by rw [hR]; exact ⟨Nat.le_of_ble_eq_true rfl, Nat.le_of_ble_eq_true rfl⟩) rfl hl.1 rfl (Nat.le_of_ble_eq_true rfl) dX0_transfer_104 (fun k6 u1 H locs hw w => ?_)
                  obtain ⟨rfl, g1, g2, g3, rfl, ht⟩ := hw
                  have w : bkG z A s.heap (up (up xac xn (r / 4)) (xn + 1) (r % 4)) (up (up xdy xn d) (xn + 1) d) (up (up xam xn (-x)) (xn + 1) x) (up (up xgo xn 0) (xn + 1) 0) xfl g1 g2 g3 xlg (xn + 1 + 1) xlo xmk xba xwc xwl xwa H locs := w
                  skip
                  refine lv_pop hx hb dX0_transfer_107 rfl ?_
                  refine lv_iload hx hb dX0_transfer_108 (lv_at hl 0 rfl) ?_
                  exact rt dX0_transfer_110 w (⟨_, _, _, Or.inr ⟨g1, g2, g3, rfl, ht, by omega, by omega, by omega, by omega, fun q => by omega, rfl⟩⟩) rfl
                · skip
                  refine lv_aload_n hx hb dX0_transfer_73 rfl (lv_at hl 2 rfl) ?_
                  refine lv_iload hx hb dX0_transfer_74 (lv_at hl 1 rfl) ?_
                  refine lv_iload_n hx hb dX0_transfer_76 rfl (lv_at hl 4 rfl) ?_
                  refine lv_iload_n hx hb dX0_transfer_77 rfl (lv_at hl 5 rfl) ?_
                  refine zr_ineg hx hb dX0_transfer_78 ?_
                  refine bk_call (as := [.int (zi (r / 4)), .int (zi d), .int (zi (-x))]) (rest := []) (n := 3) E hml w (bk_bears l z P hT (r / 4) d (-x) (by omega) (by omega) (by omega)) q91 q93 qs0 q94 rfl rfl (by decide +kernel) (by rw [hR]; exact ⟨Nat.le_of_ble_eq_true rfl, Nat.le_of_ble_eq_true rfl⟩) rfl hl.1 rfl (Nat.le_of_ble_eq_true rfl) dX0_transfer_79 (fun k3 u1 H locs hw w => ?_)
                  obtain ⟨⟨y1, y2, y3, rfl⟩, hk3⟩ := hw
                  have hk4 : k3 = 0 ∨ k3 = 1 := hk3.elim (fun q => Or.inr q.1) (fun q => Or.inl q.1)
                  have w : bkG z A s.heap xac xdy xam xgo xfl xch xle xar xlg xn xlo xmk xba y1 y2 y3 H locs := w
                  refine zr_if_ne (tgt := 88) hx hb dX0_transfer_82 (by decide) (by omega) (fun c_82 => ?_) (fun c_82 => ?_)
                  · skip
                    refine lv_aload_n hx hb dX0_transfer_88 rfl (lv_at hl 2 rfl) ?_
                    refine lv_iload hx hb dX0_transfer_89 (lv_at hl 1 rfl) ?_
                    refine lv_iload_n hx hb dX0_transfer_91 rfl (lv_at hl 4 rfl) ?_
                    refine lv_iload_n hx hb dX0_transfer_92 rfl (lv_at hl 5 rfl) ?_
                    refine zr_ineg hx hb dX0_transfer_93 ?_
                    refine bk_call (as := [.int (zi (r / 4)), .int (zi d), .int (zi (-x))]) (rest := []) (n := 3) E hml w (bk_enterE l z P hT.1 (by omega) (r / 4) d (-x) (by omega) (by omega) (fun k _ _ => by rw [hP]; exact push_bound (by omega) he (by omega) (by omega) (by omega) _ k)) q107 q109 qs3 q110 rfl rfl (by decide +kernel) (by rw [hR]; exact ⟨Nat.le_of_ble_eq_true rfl, Nat.le_of_ble_eq_true rfl⟩) rfl hl.1 rfl (Nat.le_of_ble_eq_true rfl) dX0_transfer_94 (fun k5 u1 H locs hw w => ?_)
                    obtain ⟨hk5, f1, f2, f3, rfl, ht1⟩ := hw
                    have hk5 := hk5.symm
                    subst hk5
                    have w : bkG z A s.heap (up xac xn (r / 4)) (up xdy xn d) (up xam xn (-x)) (up xgo xn 0) xfl f1 f2 f3 xlg (xn + 1) xlo xmk xba y1 y2 y3 H locs := w
                    skip
                    refine lv_istore (lv' := [(6, .int (zi xn)), (5, .int (zi (r % 4))), (4, .int (zi (r / 4))), (0, .ref z.2.1), (1, .int (zi r)), (2, .int (zi d)), (3, .int (zi x))]) hx hb dX0_transfer_97 hl (by decide) rfl (fun ls hl => ?_)
                    refine lv_aload_n hx hb dX0_transfer_99 rfl (lv_at hl 3 rfl) ?_
                    refine lv_iload hx hb dX0_transfer_100 (lv_at hl 1 rfl) ?_
                    refine lv_iload_n hx hb dX0_transfer_102 rfl (lv_at hl 5 rfl) ?_
                    refine lv_iload_n hx hb dX0_transfer_103 rfl (lv_at hl 6 rfl) ?_
                    refine bk_call (as := [.int (zi (r % 4)), .int (zi d), .int (zi x)]) (rest := []) (n := 3) E hml w (bk_enterE l z (bump P (r / 4) d (-x)) ht1 (by omega) (r % 4) d x (by omega) (by omega) (fun k _ _ => by rw [hP, bump_push (by omega)]; exact push_bound (by omega) (eok_push he (by omega) (by omega) (by omega)) (by omega) (by omega) (by omega) _ k)) q107 q109 qs3 q110 rfl rfl (by decide +kernel) (by rw [hR]; exact ⟨Nat.le_of_ble_eq_true rfl, Nat.le_of_ble_eq_true rfl⟩) rfl hl.1 rfl (Nat.le_of_ble_eq_true rfl) dX0_transfer_104 (fun k6 u1 H locs hw w => ?_)
                    obtain ⟨rfl, g1, g2, g3, rfl, ht⟩ := hw
                    have w : bkG z A s.heap (up (up xac xn (r / 4)) (xn + 1) (r % 4)) (up (up xdy xn d) (xn + 1) d) (up (up xam xn (-x)) (xn + 1) x) (up (up xgo xn 0) (xn + 1) 0) xfl g1 g2 g3 xlg (xn + 1 + 1) xlo xmk xba y1 y2 y3 H locs := w
                    skip
                    refine lv_pop hx hb dX0_transfer_107 rfl ?_
                    refine lv_iload hx hb dX0_transfer_108 (lv_at hl 0 rfl) ?_
                    exact rt dX0_transfer_110 w (⟨_, _, _, Or.inr ⟨g1, g2, g3, rfl, ht, by omega, by omega, by omega, by omega, fun _ => hk3.elim (fun q => q.2) (fun q => by omega), rfl⟩⟩) rfl
                  · skip
                    refine zr_bipush hx hb dX0_transfer_85 (by decide) ?_
                    exact rt dX0_transfer_87 w (⟨_, _, _, Or.inl ⟨rfl, Or.inr (Or.inr (Or.inr (Or.inr ⟨by omega, by omega, by omega, by omega, by omega, hk3.elim (fun q => by omega) (fun q => q.2), rfl⟩)))⟩⟩) rfl
              · skip
                refine zr_bipush hx hb dX0_transfer_63 (by decide) ?_
                exact rt dX0_transfer_65 w (⟨_, _, _, Or.inl ⟨rfl, Or.inr (Or.inr (Or.inr (Or.inl ⟨by omega, by omega, by omega, by omega, rfl⟩)))⟩⟩) rfl
            · skip
              refine zr_bipush hx hb dX0_transfer_51 (by decide) ?_
              exact rt dX0_transfer_53 w (⟨_, _, _, Or.inl ⟨rfl, Or.inr (Or.inr (Or.inl ⟨by omega, by omega, by omega, rfl⟩))⟩⟩) rfl
        · skip
          refine zr_bipush hx hb dX0_transfer_36 (by decide) ?_
          exact rt dX0_transfer_38 w (⟨_, _, _, Or.inl ⟨rfl, Or.inr (Or.inl ⟨by omega, by omega, rfl⟩)⟩⟩) rfl
      · skip
        refine zr_iconst hx hb dX0_transfer_27 ?_
        exact rt dX0_transfer_28 w (⟨_, _, _, Or.inl ⟨rfl, Or.inl ⟨by omega, rfl⟩⟩⟩) rfl
end
section
/-! BackdatedBook: cancel, close -/
/-- the log of a batch: entries cancelled in it, each once -/
def lgok (lg go : Int → Int) (n lo : Int) : Prop := (0 ≤ lo ∧ lo ≤ es go n.toNat) ∧ (∀ i, 0 ≤ i → i < lo → (0 ≤ lg i ∧ lg i < n) ∧ go (lg i) = 1) ∧ ∀ i j, 0 ≤ i → i < j → j < lo → lg i ≠ lg j
theorem es_off {go : Int → Int} {n x : Int} (h : ∀ e, 0 ≤ e → e < n → go e = 0 ∨ go e = 1) (h0 : 0 ≤ x) (h1 : x < n) (hx : go x = 0) : es (up go x 1) n.toNat = es go n.toNat + 1 ∧ es go n.toNat < n := by
  have e1 := es_set (f := up go x 1) (g := go) x h0 (fun i hi => up_n _ _ hi) n.toNat (by omega)
  rw [up_s, hx] at e1
  have e2 := es_bit (f := up go x 1) n.toNat (fun e q1 q2 => by
    by_cases q : e = x
    · rw [q, up_s]
      omega
    · rw [up_n _ _ q]
      have := h e q1 (by omega)
      omega)
  omega
theorem es_le {go : Int → Int} {n : Int} (hn : 0 ≤ n) (h : ∀ e, 0 ≤ e → e < n → go e = 0 ∨ go e = 1) : es go n.toNat ≤ n := by
  have e2 := es_bit (f := go) n.toNat (fun e q1 q2 => by
    have := h e q1 (by omega)
    omega)
  omega
set_option maxHeartbeats 4000000 in
set_option maxRecDepth 100000 in
theorem bk_cancel (l : Launch) (z : bkZ) {xac xdy xam xgo xfl xch xle xar xlg : Int → Int} {xn xlo xmk xba xwc xwl xwa : Int} (P : Int → Int → Int) (hP : P = pb xn xac xdy xam xgo) (hn : 0 ≤ xn ∧ xn ≤ 60) (he : eok xac xdy xam xgo xn) (hT : TB xch xle xar xfl P) (hba : xba = 0 ∨ xba = 1) (hlg : xba = 1 → lgok xlg xgo xn xlo) (x : Int) (hx0 : -2147483648 ≤ x ∧ x ≤ 2147483647) : bkM l yX0_cancel cX0_cancel 3 .int ({ frames := 4, cells := 0, slots := 0, locals := 98 }) z (bkC xac xdy xam xgo xfl xch xle xar xlg xn xlo xmk xba xwc xwl xwa) [.int (zi x)] (fun k u' => ∃ y1 y2 y3 : Int, (u' = bkC xac xdy xam xgo xfl xch xle xar xlg xn xlo xmk xba y1 y2 y3 ∧ ((¬ (0 ≤ x ∧ x < xn) ∧ k = -1) ∨ ((0 ≤ x ∧ x < xn) ∧ xgo x = 1 ∧ k = -2) ∨ ((0 ≤ x ∧ x < xn) ∧ xgo x = 0 ∧ xba = 0 ∧ ¬ (0 < -(xam x) ∨ ∀ j, xdy x < j → j ≤ 48 → xfl (xac x) ≤ P (xac x) j + -(xam x)) ∧ k = -3))) ∨ (∃ (g1 g2 g3 g4 : Int → Int) (y4 : Int), u' = bkC xac xdy xam (up xgo x 1) xfl g1 g2 g3 g4 xn y4 xmk xba y1 y2 y3 ∧ tr g1 g2 g3 (bump P (xac x) (xdy x) (-(xam x))) ∧ ((xba = 0 ∧ g4 = xlg ∧ y4 = xlo) ∨ (xba = 1 ∧ g4 = up xlg xlo x ∧ y4 = xlo + 1)) ∧ (0 ≤ x ∧ x < xn) ∧ xgo x = 0 ∧ (xba = 0 → (0 < -(xam x) ∨ ∀ j, xdy x < j → j ≤ 48 → xfl (xac x) ≤ P (xac x) j + -(xam x))) ∧ k = xam x)) := by
  refine bk_enter (by decide) rfl (Nat.le_of_ble_eq_true rfl) ?_
  intro p e R s m args below meth c A Q hR E hml rt w ls hl
  have hx := E.1
  have hb := E.2.1
  have hts := E.2.2.1
  have hown := E.2.2.2.1
  have hl : lv_has ls 3 [(0, .ref z.2.1), (1, .int (zi x))] := hl
  have w : bkG z A s.heap xac xdy xam xgo xfl xch xle xar xlg xn xlo xmk xba xwc xwl xwa s.heap [] := w
  refine lv_aload_n hx hb dX0_cancel_0 rfl (lv_at hl 0 rfl) ?_
  refine lv_iload_n hx hb dX0_cancel_1 rfl (lv_at hl 1 rfl) ?_
  refine bk_call (as := [.int (zi x)]) (rest := []) (n := 1) E hml w (bk_isEntry l z x hx0 hn) q123 q125 qs5 q126 rfl rfl (by decide +kernel) (by rw [hR]; exact ⟨Nat.le_of_ble_eq_true rfl, Nat.le_of_ble_eq_true rfl⟩) rfl hl.1 rfl (Nat.le_of_ble_eq_true rfl) dX0_cancel_2 (fun k1 u1 H locs hk1 w => ?_)
  obtain ⟨rfl, hk1⟩ := hk1
  have w : bkG z A s.heap xac xdy xam xgo xfl xch xle xar xlg xn xlo xmk xba xwc xwl xwa H locs := w
  refine zr_if_ne (tgt := 10) hx hb dX0_cancel_5 (by decide) (by omega) (fun c_5 => ?_) (fun c_5 => ?_)
  · skip
    have hex : 0 ≤ x ∧ x < xn := by omega
    obtain ⟨q1, q2, q3, q4⟩ := he x hex.1 hex.2
    refine lv_aload_n hx hb dX0_cancel_10 rfl (lv_at hl 0 rfl) ?_
    refine kg_go E w dX0_cancel_11 ?_
    refine lv_iload_n hx hb dX0_cancel_14 rfl (lv_at hl 1 rfl) ?_
    refine kl_go E w (v := xgo x) (by omega) rfl dX0_cancel_15 ?_
    refine zr_if_eq (tgt := 22) hx hb dX0_cancel_16 (by decide) (by omega) (fun c_16 => ?_) (fun c_16 => ?_)
    · skip
      
      refine lv_aload_n hx hb dX0_cancel_22 rfl (lv_at hl 0 rfl) ?_
      refine kg_am E w dX0_cancel_23 ?_
      refine lv_iload_n hx hb dX0_cancel_26 rfl (lv_at hl 1 rfl) ?_
      refine kl_am E w (v := xam x) (by omega) rfl dX0_cancel_27 ?_
      refine lv_istore_n (lv' := [(2, .int (zi (xam x))), (0, .ref z.2.1), (1, .int (zi x))]) hx hb dX0_cancel_28 rfl hl (by decide) rfl (fun ls hl => ?_)
      refine lv_aload_n hx hb dX0_cancel_29 rfl (lv_at hl 1 rfl) ?_
      refine kg_ba E w (v := xba) rfl dX0_cancel_30 ?_
      refine zr_if_ne (tgt := 60) hx hb dX0_cancel_33 (by decide) (by omega) (fun c_33 => ?_) (fun c_33 => ?_)
      · skip
        refine lv_aload_n hx hb dX0_cancel_60 rfl (lv_at hl 1 rfl) ?_
        refine kg_go E w dX0_cancel_61 ?_
        refine lv_iload_n hx hb dX0_cancel_64 rfl (lv_at hl 2 rfl) ?_
        refine zr_iconst hx hb dX0_cancel_65 ?_
        refine ks_go E w (by omega) (by decide) dX0_cancel_66 (fun H locs w => ?_)
        refine lv_aload_n hx hb dX0_cancel_67 rfl (lv_at hl 1 rfl) ?_
        refine lv_aload_n hx hb dX0_cancel_68 rfl (lv_at hl 1 rfl) ?_
        refine kg_ac E w dX0_cancel_69 ?_
        refine lv_iload_n hx hb dX0_cancel_72 rfl (lv_at hl 2 rfl) ?_
        refine kl_ac E w (v := xac x) (by omega) rfl dX0_cancel_73 ?_
        refine lv_aload_n hx hb dX0_cancel_74 rfl (lv_at hl 1 rfl) ?_
        refine kg_dy E w dX0_cancel_75 ?_
        refine lv_iload_n hx hb dX0_cancel_78 rfl (lv_at hl 2 rfl) ?_
        refine kl_dy E w (v := xdy x) (by omega) rfl dX0_cancel_79 ?_
        refine lv_iload_n hx hb dX0_cancel_80 rfl (lv_at hl 0 rfl) ?_
        refine zr_ineg hx hb dX0_cancel_81 ?_
        refine bk_callV (as := [.int (zi (xac x)), .int (zi (xdy x)), .int (zi (-(xam x)))]) (rest := []) (n := 3) E hml w (bk_add l z P hT.1 (xac x) (xdy x) (-(xam x)) q1 q2 (fun k _ _ => by rw [hP, bump_off hex.1 hex.2 (by omega)]; exact pb_bound hn.2 (fun e h1 h2 => (he e h1 h2).2.2.1) _ k)) q111 q113 qs4 q114 rfl rfl (by decide +kernel) (by rw [hR]; exact ⟨Nat.le_of_ble_eq_true rfl, Nat.le_of_ble_eq_true rfl⟩) rfl hl.1 rfl (Nat.le_of_ble_eq_true rfl) dX0_cancel_82 (fun u1 H locs hw w => ?_)
        obtain ⟨g1, g2, g3, rfl, ht⟩ := hw
        have w : bkG z A s.heap xac xdy xam (up xgo x 1) xfl g1 g2 g3 xlg xn xlo xmk xba xwc xwl xwa H locs := w
        refine lv_aload_n hx hb dX0_cancel_85 rfl (lv_at hl 1 rfl) ?_
        refine kg_ba E w (v := xba) rfl dX0_cancel_86 ?_
        refine zr_if_eq (tgt := 112) hx hb dX0_cancel_89 (by decide) (by omega) (fun c_89 => ?_) (fun c_89 => ?_)
        · skip
          
          refine lv_iload_n hx hb dX0_cancel_112 rfl (lv_at hl 0 rfl) ?_
          exact rt dX0_cancel_113 w (⟨_, _, _, Or.inr ⟨g1, g2, g3, _, _, rfl, ht, Or.inl ⟨by omega, rfl, rfl⟩, hex, by omega, fun q => by omega, rfl⟩⟩) rfl
        · skip
          have hb1 : xba = 1 := by omega
          have hlo := (hlg hb1).1
          have hes := es_off (fun e h1 h2 => (he e h1 h2).2.2.2) hex.1 hex.2 (by omega)
          have hlo2 : 0 ≤ xlo ∧ xlo < 60 := by omega
          refine lv_aload_n hx hb dX0_cancel_92 rfl (lv_at hl 1 rfl) ?_
          refine kg_lg E w dX0_cancel_93 ?_
          refine lv_aload_n hx hb dX0_cancel_96 rfl (lv_at hl 1 rfl) ?_
          refine kg_lo E w (v := xlo) rfl dX0_cancel_97 ?_
          refine lv_iload_n hx hb dX0_cancel_100 rfl (lv_at hl 2 rfl) ?_
          refine ks_lg E w (by omega) dX0_cancel_101 (fun H locs w => ?_)
          refine lv_aload_n hx hb dX0_cancel_102 rfl (lv_at hl 1 rfl) ?_
          refine lv_dup hx hb dX0_cancel_103 rfl ?_
          refine kg_lo E w (v := xlo) rfl dX0_cancel_104 ?_
          refine zr_iconst hx hb dX0_cancel_107 ?_
          refine zr_iadd hx hb dX0_cancel_108 ?_
          refine kp_lo E w dX0_cancel_109 (fun H locs w => ?_)
          refine lv_iload_n hx hb dX0_cancel_112 rfl (lv_at hl 0 rfl) ?_
          exact rt dX0_cancel_113 w (⟨_, _, _, Or.inr ⟨g1, g2, g3, _, _, rfl, ht, Or.inr ⟨hb1, rfl, rfl⟩, hex, by omega, fun q => by omega, rfl⟩⟩) rfl
      · skip
        refine lv_aload_n hx hb dX0_cancel_36 rfl (lv_at hl 1 rfl) ?_
        refine lv_aload_n hx hb dX0_cancel_37 rfl (lv_at hl 1 rfl) ?_
        refine kg_ac E w dX0_cancel_38 ?_
        refine lv_iload_n hx hb dX0_cancel_41 rfl (lv_at hl 2 rfl) ?_
        refine kl_ac E w (v := xac x) (by omega) rfl dX0_cancel_42 ?_
        refine lv_aload_n hx hb dX0_cancel_43 rfl (lv_at hl 1 rfl) ?_
        refine kg_dy E w dX0_cancel_44 ?_
        refine lv_iload_n hx hb dX0_cancel_47 rfl (lv_at hl 2 rfl) ?_
        refine kl_dy E w (v := xdy x) (by omega) rfl dX0_cancel_48 ?_
        refine lv_iload_n hx hb dX0_cancel_49 rfl (lv_at hl 0 rfl) ?_
        refine zr_ineg hx hb dX0_cancel_50 ?_
        refine bk_call (as := [.int (zi (xac x)), .int (zi (xdy x)), .int (zi (-(xam x)))]) (rest := []) (n := 3) E hml w (bk_bears l z P hT (xac x) (xdy x) (-(xam x)) q1 q2 (by omega)) q91 q93 qs0 q94 rfl rfl (by decide +kernel) (by rw [hR]; exact ⟨Nat.le_of_ble_eq_true rfl, Nat.le_of_ble_eq_true rfl⟩) rfl hl.1 rfl (Nat.le_of_ble_eq_true rfl) dX0_cancel_51 (fun k3 u1 H locs hw w => ?_)
        obtain ⟨⟨y1, y2, y3, rfl⟩, hk3⟩ := hw
        have hk4 : k3 = 0 ∨ k3 = 1 := hk3.elim (fun q => Or.inr q.1) (fun q => Or.inl q.1)
        have w : bkG z A s.heap xac xdy xam xgo xfl xch xle xar xlg xn xlo xmk xba y1 y2 y3 H locs := w
        refine zr_if_ne (tgt := 60) hx hb dX0_cancel_54 (by decide) (by omega) (fun c_54 => ?_) (fun c_54 => ?_)
        · skip
          refine lv_aload_n hx hb dX0_cancel_60 rfl (lv_at hl 1 rfl) ?_
          refine kg_go E w dX0_cancel_61 ?_
          refine lv_iload_n hx hb dX0_cancel_64 rfl (lv_at hl 2 rfl) ?_
          refine zr_iconst hx hb dX0_cancel_65 ?_
          refine ks_go E w (by omega) (by decide) dX0_cancel_66 (fun H locs w => ?_)
          refine lv_aload_n hx hb dX0_cancel_67 rfl (lv_at hl 1 rfl) ?_
          refine lv_aload_n hx hb dX0_cancel_68 rfl (lv_at hl 1 rfl) ?_
          refine kg_ac E w dX0_cancel_69 ?_
          refine lv_iload_n hx hb dX0_cancel_72 rfl (lv_at hl 2 rfl) ?_
          refine kl_ac E w (v := xac x) (by omega) rfl dX0_cancel_73 ?_
          refine lv_aload_n hx hb dX0_cancel_74 rfl (lv_at hl 1 rfl) ?_
          refine kg_dy E w dX0_cancel_75 ?_
          refine lv_iload_n hx hb dX0_cancel_78 rfl (lv_at hl 2 rfl) ?_
          refine kl_dy E w (v := xdy x) (by omega) rfl dX0_cancel_79 ?_
          refine lv_iload_n hx hb dX0_cancel_80 rfl (lv_at hl 0 rfl) ?_
          refine zr_ineg hx hb dX0_cancel_81 ?_
          refine bk_callV (as := [.int (zi (xac x)), .int (zi (xdy x)), .int (zi (-(xam x)))]) (rest := []) (n := 3) E hml w (bk_add l z P hT.1 (xac x) (xdy x) (-(xam x)) q1 q2 (fun k _ _ => by rw [hP, bump_off hex.1 hex.2 (by omega)]; exact pb_bound hn.2 (fun e h1 h2 => (he e h1 h2).2.2.1) _ k)) q111 q113 qs4 q114 rfl rfl (by decide +kernel) (by rw [hR]; exact ⟨Nat.le_of_ble_eq_true rfl, Nat.le_of_ble_eq_true rfl⟩) rfl hl.1 rfl (Nat.le_of_ble_eq_true rfl) dX0_cancel_82 (fun u1 H locs hw w => ?_)
          obtain ⟨g1, g2, g3, rfl, ht⟩ := hw
          have w : bkG z A s.heap xac xdy xam (up xgo x 1) xfl g1 g2 g3 xlg xn xlo xmk xba y1 y2 y3 H locs := w
          refine lv_aload_n hx hb dX0_cancel_85 rfl (lv_at hl 1 rfl) ?_
          refine kg_ba E w (v := xba) rfl dX0_cancel_86 ?_
          refine zr_if_eq (tgt := 112) hx hb dX0_cancel_89 (by decide) (by omega) (fun c_89 => ?_) (fun c_89 => ?_)
          · skip
            
            refine lv_iload_n hx hb dX0_cancel_112 rfl (lv_at hl 0 rfl) ?_
            exact rt dX0_cancel_113 w (⟨_, _, _, Or.inr ⟨g1, g2, g3, _, _, rfl, ht, Or.inl ⟨by omega, rfl, rfl⟩, hex, by omega, fun _ => hk3.elim (fun q => q.2) (fun q => by omega), rfl⟩⟩) rfl
          · skip
            have hb1 : xba = 1 := by omega
            have hlo := (hlg hb1).1
            have hes := es_off (fun e h1 h2 => (he e h1 h2).2.2.2) hex.1 hex.2 (by omega)
            have hlo2 : 0 ≤ xlo ∧ xlo < 60 := by omega
            refine lv_aload_n hx hb dX0_cancel_92 rfl (lv_at hl 1 rfl) ?_
            refine kg_lg E w dX0_cancel_93 ?_
            refine lv_aload_n hx hb dX0_cancel_96 rfl (lv_at hl 1 rfl) ?_
            refine kg_lo E w (v := xlo) rfl dX0_cancel_97 ?_
            refine lv_iload_n hx hb dX0_cancel_100 rfl (lv_at hl 2 rfl) ?_
            refine ks_lg E w (by omega) dX0_cancel_101 (fun H locs w => ?_)
            refine lv_aload_n hx hb dX0_cancel_102 rfl (lv_at hl 1 rfl) ?_
            refine lv_dup hx hb dX0_cancel_103 rfl ?_
            refine kg_lo E w (v := xlo) rfl dX0_cancel_104 ?_
            refine zr_iconst hx hb dX0_cancel_107 ?_
            refine zr_iadd hx hb dX0_cancel_108 ?_
            refine kp_lo E w dX0_cancel_109 (fun H locs w => ?_)
            refine lv_iload_n hx hb dX0_cancel_112 rfl (lv_at hl 0 rfl) ?_
            exact rt dX0_cancel_113 w (⟨_, _, _, Or.inr ⟨g1, g2, g3, _, _, rfl, ht, Or.inr ⟨hb1, rfl, rfl⟩, hex, by omega, fun _ => hk3.elim (fun q => q.2) (fun q => by omega), rfl⟩⟩) rfl
        · skip
          refine zr_bipush hx hb dX0_cancel_57 (by decide) ?_
          exact rt dX0_cancel_59 w (⟨_, _, _, Or.inl ⟨rfl, Or.inr (Or.inr ⟨by omega, by omega, by omega, hk3.elim (fun q => by omega) (fun q => q.2), rfl⟩)⟩⟩) rfl
    · skip
      
      refine zr_bipush hx hb dX0_cancel_19 (by decide) ?_
      exact rt dX0_cancel_21 w (⟨_, _, _, Or.inl ⟨rfl, Or.inr (Or.inl ⟨by omega, by omega, rfl⟩)⟩⟩) rfl
  · skip
    
    refine zr_iconst hx hb dX0_cancel_8 ?_
    exact rt dX0_cancel_9 w (⟨_, _, _, Or.inl ⟨rfl, Or.inl ⟨by omega, rfl⟩⟩⟩) rfl
set_option maxHeartbeats 4000000 in
set_option maxRecDepth 100000 in
theorem bk_close (l : Launch) (z : bkZ) {xac xdy xam xgo xfl xch xle xar xlg : Int → Int} {xn xlo xmk xba xwc xwl xwa : Int} (P : Int → Int → Int) (hP : P = pb xn xac xdy xam xgo) (hn : 0 ≤ xn ∧ xn ≤ 60) (he : eok xac xdy xam xgo xn) (hT : TB xch xle xar xfl P) (hba : xba = 0 ∨ xba = 1) (hlg : xba = 1 → (0 ≤ xmk ∧ xmk ≤ xn) ∧ lgok xlg xgo xn xlo) : bkM l yX0_close cX0_close 3 .int ({ frames := 3, cells := 0, slots := 0, locals := 72 }) z (bkC xac xdy xam xgo xfl xch xle xar xlg xn xlo xmk xba xwc xwl xwa) [] (fun k u' => (xba = 0 ∧ u' = bkC xac xdy xam xgo xfl xch xle xar xlg xn xlo xmk xba xwc xwl xwa ∧ k = -1) ∨ ∃ y1 y2 y3 : Int, (xba = 1 ∧ sdd xfl P ∧ u' = bkC xac xdy xam xgo xfl xch xle xar xlg xn xlo xmk 0 y1 y2 y3 ∧ k = 1) ∨ (xba = 1 ∧ ¬ sdd xfl P ∧ k = 0 ∧ ∃ g0 g1 g2 g3 : Int → Int, u' = bkC xac xdy xam g0 xfl g1 g2 g3 xlg xmk xlo xmk 0 y1 y2 y3 ∧ tr g1 g2 g3 (pb xmk xac xdy xam g0) ∧ (∀ i, 0 ≤ i → i < xlo → xlg i < xmk → g0 (xlg i) = 0) ∧ (∀ e, 0 ≤ e → e < xmk → (∀ i, 0 ≤ i → i < xlo → xlg i ≠ e) → g0 e = xgo e))) := by
  refine bk_enter (by decide) rfl (Nat.le_of_ble_eq_true rfl) ?_
  intro p e R s m args below meth c A Q hR E hml rt w ls hl
  have hx := E.1
  have hb := E.2.1
  have hts := E.2.2.1
  have hown := E.2.2.2.1
  have hl : lv_has ls 3 [(0, .ref z.2.1)] := hl
  have w : bkG z A s.heap xac xdy xam xgo xfl xch xle xar xlg xn xlo xmk xba xwc xwl xwa s.heap [] := w
  have lpb (hb1 : xba = 1) (hns : ¬ sdd xfl P) : ∀ (n : Nat) (i : Int) (g0 g1 g2 g3 : Int → Int) (y1 y2 y3 : Int) (H : Heap) (locs : List Loc) (ls : Array Slot), 0 ≤ i ∧ i ≤ xlo → xlo + 1 ≤ (n : Int) + i → (∀ k, 0 ≤ k → k < i → xlg k < xmk → g0 (xlg k) = 0) → (∀ x, 0 ≤ x → x < xmk → (∀ k, 0 ≤ k → k < i → xlg k ≠ x) → g0 x = xgo x) → tr g1 g2 g3 (pb xmk xac xdy xam g0) → bkG z A s.heap xac xdy xam g0 xfl g1 g2 g3 xlg xn xlo xmk 0 y1 y2 y3 H locs → lv_has ls 3 [(0, .ref z.2.1), (1, .int (zi i))] → W p l e R s m args below meth c H locs 0 0 Q (F0 m 85 ls []) := by
    intro n
    induction n with
    | zero =>
      intro i g0 g1 g2 g3 y1 y2 y3 H locs ls i1 hn9 j1 j2 j3
      exfalso
      omega
    | succ n ih =>
      intro i g0 g1 g2 g3 y1 y2 y3 H locs ls i1 hn9 j1 j2 j3 w hl
      have hmk9 := (hlg hb1).1
      refine lv_iload_n hx hb dX0_close_85 rfl (lv_at hl 1 rfl) ?_
      refine lv_aload_n hx hb dX0_close_86 rfl (lv_at hl 0 rfl) ?_
      refine kg_lo E w (v := xlo) rfl dX0_close_87 ?_
      refine zr_icmp_ge (tgt := 143) hx hb dX0_close_90 (by decide) (by have := (hlg hb1).2.1; have := es_le hn.1 (fun e h1 h2 => (he e h1 h2).2.2.2); omega) (by have := (hlg hb1).2.1; have := es_le hn.1 (fun e h1 h2 => (he e h1 h2).2.2.2); omega) (fun c_90 => ?_) (fun c_90 => ?_)
      · skip
        
        refine lv_aload_n hx hb dX0_close_143 rfl (lv_at hl 0 rfl) ?_
        refine lv_aload_n hx hb dX0_close_144 rfl (lv_at hl 0 rfl) ?_
        refine kg_mk E w (v := xmk) rfl dX0_close_145 ?_
        refine kp_n E w dX0_close_148 (fun H locs w => ?_)
        refine zr_iconst hx hb dX0_close_151 ?_
        exact rt dX0_close_152 w (Or.inr ⟨_, _, _, Or.inr ⟨hb1, hns, rfl, g0, g1, g2, g3, rfl, j3, fun i h1 h2 h3 => j1 i h1 (by omega) h3, fun x h1 h2 h3 => j2 x h1 h2 (fun i q1 q2 => h3 i q1 (by omega))⟩⟩) rfl
      · skip
        
        refine lv_aload_n hx hb dX0_close_93 rfl (lv_at hl 0 rfl) ?_
        refine kg_lg E w dX0_close_94 ?_
        refine lv_iload_n hx hb dX0_close_97 rfl (lv_at hl 1 rfl) ?_
        obtain ⟨hmk, ⟨hlo, hes⟩, hlga, hlgi⟩ := hlg hb1
        have hesl := es_le hn.1 (fun e h1 h2 => (he e h1 h2).2.2.2)
        have hli := hlga i (by omega) (by omega)
        obtain ⟨q1, q2, q3, q4⟩ := he (xlg i) hli.1.1 hli.1.2
        refine kl_lg E w (v := xlg i) (by omega) rfl dX0_close_98 ?_
        refine lv_istore_n (lv' := [(2, .int (zi (xlg i))), (0, .ref z.2.1), (1, .int (zi i))]) hx hb dX0_close_99 rfl hl (by decide) rfl (fun ls hl => ?_)
        refine lv_iload_n hx hb dX0_close_100 rfl (lv_at hl 0 rfl) ?_
        refine lv_aload_n hx hb dX0_close_101 rfl (lv_at hl 1 rfl) ?_
        refine kg_mk E w (v := xmk) rfl dX0_close_102 ?_
        refine zr_icmp_ge (tgt := 137) hx hb dX0_close_105 (by decide) (by omega) (by omega) (fun c_105 => ?_) (fun c_105 => ?_)
        · skip
          
          refine lv_iinc (v := zi (i + 1)) (lv' := [(1, .int (zi (i + 1))), (2, .int (zi (xlg i))), (0, .ref z.2.1)]) hx hb dX0_close_137 hl (k := 2) rfl (zi_add i 1) (by decide) rfl (fun ls hl => ?_)
          refine lv_goto (tgt := 85) hx hb dX0_close_140 (by decide) ?_
          exact ih (i + 1) g0 g1 g2 g3 y1 y2 y3 _ _ ls (by omega) (by omega) (fun k h1 h2 h3 => by
            by_cases q : k = i
            · subst q
              omega
            · exact j1 k h1 (by omega) h3) (fun x h1 h2 h3 => j2 x h1 h2 (fun k k1 k2 => h3 k k1 (by omega))) j3 w (lv_sub hl [2, 0] rfl)
        · skip
          have hg1 : g0 (xlg i) = 1 := by
            rw [j2 (xlg i) (by omega) (by omega) (fun k h1 h2 => hlgi k i h1 h2 (by omega))]
            exact hli.2
          refine lv_aload_n hx hb dX0_close_108 rfl (lv_at hl 1 rfl) ?_
          refine kg_go E w dX0_close_109 ?_
          refine lv_iload_n hx hb dX0_close_112 rfl (lv_at hl 0 rfl) ?_
          refine zr_iconst hx hb dX0_close_113 ?_
          refine ks_go E w (by omega) (by decide) dX0_close_114 (fun H locs w => ?_)
          refine lv_aload_n hx hb dX0_close_115 rfl (lv_at hl 1 rfl) ?_
          refine lv_aload_n hx hb dX0_close_116 rfl (lv_at hl 1 rfl) ?_
          refine kg_ac E w dX0_close_117 ?_
          refine lv_iload_n hx hb dX0_close_120 rfl (lv_at hl 0 rfl) ?_
          refine kl_ac E w (v := xac (xlg i)) (by omega) rfl dX0_close_121 ?_
          refine lv_aload_n hx hb dX0_close_122 rfl (lv_at hl 1 rfl) ?_
          refine kg_dy E w dX0_close_123 ?_
          refine lv_iload_n hx hb dX0_close_126 rfl (lv_at hl 0 rfl) ?_
          refine kl_dy E w (v := xdy (xlg i)) (by omega) rfl dX0_close_127 ?_
          refine lv_aload_n hx hb dX0_close_128 rfl (lv_at hl 1 rfl) ?_
          refine kg_am E w dX0_close_129 ?_
          refine lv_iload_n hx hb dX0_close_132 rfl (lv_at hl 0 rfl) ?_
          refine kl_am E w (v := xam (xlg i)) (by omega) rfl dX0_close_133 ?_
          refine bk_callV (as := [.int (zi (xac (xlg i))), .int (zi (xdy (xlg i))), .int (zi (xam (xlg i)))]) (rest := []) (n := 3) E hml w (bk_add l z (pb xmk xac xdy xam g0) j3 (xac (xlg i)) (xdy (xlg i)) (xam (xlg i)) q1 q2 (fun k _ _ => by rw [bump_on hli.1.1 (by omega) hg1]; exact pb_bound (by omega) (fun e h1 h2 => (he e h1 (by omega)).2.2.1) _ k)) q111 q113 qs4 q114 rfl rfl (by decide +kernel) (by rw [hR]; exact ⟨Nat.le_of_ble_eq_true rfl, Nat.le_of_ble_eq_true rfl⟩) rfl hl.1 rfl (Nat.le_of_ble_eq_true rfl) dX0_close_134 (fun u1 H locs hw w => ?_)
          obtain ⟨f1, f2, f3, rfl, ht⟩ := hw
          rw [bump_on hli.1.1 (by omega) hg1] at ht
          have w : bkG z A s.heap xac xdy xam (up g0 (xlg i) 0) xfl f1 f2 f3 xlg xn xlo xmk 0 y1 y2 y3 H locs := w
          refine lv_iinc (v := zi (i + 1)) (lv' := [(1, .int (zi (i + 1))), (2, .int (zi (xlg i))), (0, .ref z.2.1)]) hx hb dX0_close_137 hl (k := 2) rfl (zi_add i 1) (by decide) rfl (fun ls hl => ?_)
          refine lv_goto (tgt := 85) hx hb dX0_close_140 (by decide) ?_
          exact ih (i + 1) (up g0 (xlg i) 0) f1 f2 f3 y1 y2 y3 _ _ ls (by omega) (by omega) (fun k h1 h2 h3 => by
            by_cases q : xlg k = xlg i
            · rw [q, up_s]
            · rw [up_n _ _ q]
              by_cases q2 : k = i
              · exact absurd (by rw [q2]) q
              · exact j1 k h1 (by omega) h3) (fun x h1 h2 h3 => by
            rw [up_n _ _ (fun q => h3 i (by omega) (by omega) q.symm)]
            exact j2 x h1 h2 (fun k k1 k2 => h3 k k1 (by omega))) ht w (lv_sub hl [2, 0] rfl)
  have lpa (hb1 : xba = 1) (hns : ¬ sdd xfl P) : ∀ (n : Nat) (x : Int) (g0 g1 g2 g3 : Int → Int) (y1 y2 y3 : Int) (H : Heap) (locs : List Loc) (ls : Array Slot), xmk ≤ x + 1 ∧ x < xn → x + 2 ≤ (n : Int) + xmk → (∀ j, 0 ≤ j → j ≤ x → g0 j = xgo j) → tr g1 g2 g3 (pb (x + 1) xac xdy xam xgo) → bkG z A s.heap xac xdy xam g0 xfl g1 g2 g3 xlg xn xlo xmk 0 y1 y2 y3 H locs → lv_has ls 3 [(0, .ref z.2.1), (1, .int (zi x))] → W p l e R s m args below meth c H locs 0 0 Q (F0 m 30 ls []) := by
    intro n
    induction n with
    | zero =>
      intro x g0 g1 g2 g3 y1 y2 y3 H locs ls i1 hn9 i2 i3
      exfalso
      omega
    | succ n ih =>
      intro x g0 g1 g2 g3 y1 y2 y3 H locs ls i1 hn9 i2 i3 w hl
      have hmk9 := (hlg hb1).1
      refine lv_iload_n hx hb dX0_close_30 rfl (lv_at hl 1 rfl) ?_
      refine lv_aload_n hx hb dX0_close_31 rfl (lv_at hl 0 rfl) ?_
      refine kg_mk E w (v := xmk) rfl dX0_close_32 ?_
      refine zr_icmp_lt (tgt := 83) hx hb dX0_close_35 (by decide) (by omega) (by omega) (fun c_35 => ?_) (fun c_35 => ?_)
      · skip
        refine zr_iconst hx hb dX0_close_83 ?_
        refine lv_istore_n (lv' := [(1, .int (zi 0)), (0, .ref z.2.1)]) hx hb dX0_close_84 rfl hl (by decide) rfl (fun ls hl => ?_)
        have hx9 : x + 1 = xmk := by omega
        rw [hx9, pbf_congr (of' := g0) (fun j h1 h2 => ⟨rfl, rfl, rfl, (i2 j h1 (by omega)).symm⟩)] at i3
        exact lpb hb1 hns (xlo + 1).toNat 0 g0 g1 g2 g3 y1 y2 y3 _ _ _ (by have := (hlg hb1).2.1; omega) (by have := (hlg hb1).2.1; omega) (fun k h1 h2 => by omega) (fun j h1 h2 h3 => i2 j h1 (by omega)) i3 w (lv_sub hl [1, 0] rfl)
      · skip
        refine lv_aload_n hx hb dX0_close_38 rfl (lv_at hl 0 rfl) ?_
        refine kg_go E w dX0_close_39 ?_
        refine lv_iload_n hx hb dX0_close_42 rfl (lv_at hl 1 rfl) ?_
        have hgx := i2 x (by omega) (by omega)
        obtain ⟨q1, q2, q3, q4⟩ := he x (by omega) (by omega)
        refine kl_go E w (v := g0 x) (by omega) rfl dX0_close_43 ?_
        refine zr_if_ne (tgt := 70) hx hb dX0_close_44 (by decide) (by omega) (fun c_44 => ?_) (fun c_44 => ?_)
        · skip
          rw [pb_pop (by omega) (by omega)] at i3
          refine lv_aload_n hx hb dX0_close_70 rfl (lv_at hl 0 rfl) ?_
          refine kg_go E w dX0_close_71 ?_
          refine lv_iload_n hx hb dX0_close_74 rfl (lv_at hl 1 rfl) ?_
          refine zr_iconst hx hb dX0_close_75 ?_
          refine ks_go E w (by omega) (by decide) dX0_close_76 (fun H locs w => ?_)
          refine lv_iinc (v := zi (x + (-1))) (lv' := [(1, .int (zi (x + (-1)))), (0, .ref z.2.1)]) hx hb dX0_close_77 hl (k := 1) rfl (zi_add x (-1)) (by decide) rfl (fun ls hl => ?_)
          refine lv_goto (tgt := 30) hx hb dX0_close_80 (by decide) ?_
          exact ih (x + (-1)) (up g0 x 0) g1 g2 g3 y1 y2 y3 _ _ ls (by omega) (by omega) (fun j h1 h2 => by rw [up_n _ _ (by omega)]; exact i2 j h1 (by omega)) (by rw [show x + (-1) + 1 = x by omega]; exact i3) w (lv_sub hl [1, 0] rfl)
        · skip
          
          refine lv_aload_n hx hb dX0_close_47 rfl (lv_at hl 0 rfl) ?_
          refine lv_aload_n hx hb dX0_close_48 rfl (lv_at hl 0 rfl) ?_
          refine kg_ac E w dX0_close_49 ?_
          refine lv_iload_n hx hb dX0_close_52 rfl (lv_at hl 1 rfl) ?_
          refine kl_ac E w (v := xac x) (by omega) rfl dX0_close_53 ?_
          refine lv_aload_n hx hb dX0_close_54 rfl (lv_at hl 0 rfl) ?_
          refine kg_dy E w dX0_close_55 ?_
          refine lv_iload_n hx hb dX0_close_58 rfl (lv_at hl 1 rfl) ?_
          refine kl_dy E w (v := xdy x) (by omega) rfl dX0_close_59 ?_
          refine lv_aload_n hx hb dX0_close_60 rfl (lv_at hl 0 rfl) ?_
          refine kg_am E w dX0_close_61 ?_
          refine lv_iload_n hx hb dX0_close_64 rfl (lv_at hl 1 rfl) ?_
          refine kl_am E w (v := xam x) (by omega) rfl dX0_close_65 ?_
          refine zr_ineg hx hb dX0_close_66 ?_
          refine bk_callV (as := [.int (zi (xac x)), .int (zi (xdy x)), .int (zi (-(xam x)))]) (rest := []) (n := 3) E hml w (bk_add l z (pb (x + 1) xac xdy xam xgo) i3 (xac x) (xdy x) (-(xam x)) q1 q2 (fun k _ _ => by rw [bump_pop (by omega) (by omega)]; exact pb_bound (by omega) (fun e h1 h2 => (he e h1 (by omega)).2.2.1) _ k)) q111 q113 qs4 q114 rfl rfl (by decide +kernel) (by rw [hR]; exact ⟨Nat.le_of_ble_eq_true rfl, Nat.le_of_ble_eq_true rfl⟩) rfl hl.1 rfl (Nat.le_of_ble_eq_true rfl) dX0_close_67 (fun u1 H locs hw w => ?_)
          obtain ⟨f1, f2, f3, rfl, ht⟩ := hw
          rw [bump_pop (by omega) (by omega)] at ht
          have w : bkG z A s.heap xac xdy xam g0 xfl f1 f2 f3 xlg xn xlo xmk 0 y1 y2 y3 H locs := w
          refine lv_aload_n hx hb dX0_close_70 rfl (lv_at hl 0 rfl) ?_
          refine kg_go E w dX0_close_71 ?_
          refine lv_iload_n hx hb dX0_close_74 rfl (lv_at hl 1 rfl) ?_
          refine zr_iconst hx hb dX0_close_75 ?_
          refine ks_go E w (by omega) (by decide) dX0_close_76 (fun H locs w => ?_)
          refine lv_iinc (v := zi (x + (-1))) (lv' := [(1, .int (zi (x + (-1)))), (0, .ref z.2.1)]) hx hb dX0_close_77 hl (k := 1) rfl (zi_add x (-1)) (by decide) rfl (fun ls hl => ?_)
          refine lv_goto (tgt := 30) hx hb dX0_close_80 (by decide) ?_
          exact ih (x + (-1)) (up g0 x 0) f1 f2 f3 y1 y2 y3 _ _ ls (by omega) (by omega) (fun j h1 h2 => by rw [up_n _ _ (by omega)]; exact i2 j h1 (by omega)) (by rw [show x + (-1) + 1 = x by omega]; exact ht) w (lv_sub hl [1, 0] rfl)
  refine lv_aload_n hx hb dX0_close_0 rfl (lv_at hl 0 rfl) ?_
  refine kg_ba E w (v := xba) rfl dX0_close_1 ?_
  refine zr_if_ne (tgt := 9) hx hb dX0_close_4 (by decide) (by omega) (fun c_4 => ?_) (fun c_4 => ?_)
  · skip
    refine lv_aload_n hx hb dX0_close_9 rfl (lv_at hl 0 rfl) ?_
    refine zr_iconst hx hb dX0_close_10 ?_
    refine kp_ba E w (by decide) dX0_close_11 (fun H locs w => ?_)
    refine lv_aload_n hx hb dX0_close_14 rfl (lv_at hl 0 rfl) ?_
    refine bk_call (as := []) (rest := []) (n := 0) E hml w (bk_isSound l z P hT) q139 q141 qs6 q142 rfl rfl (by decide +kernel) (by rw [hR]; exact ⟨Nat.le_of_ble_eq_true rfl, Nat.le_of_ble_eq_true rfl⟩) rfl hl.1 rfl (Nat.le_of_ble_eq_true rfl) dX0_close_15 (fun k1 u1 H locs hk1 w => ?_)
    obtain ⟨⟨y1, y2, y3, rfl⟩, hk1⟩ := hk1
    have hk2 : k1 = 0 ∨ k1 = 1 := hk1.elim (fun q => Or.inr q.1) (fun q => Or.inl q.1)
    have hb1 : xba = 1 := by omega
    have w : bkG z A s.heap xac xdy xam xgo xfl xch xle xar xlg xn xlo xmk 0 y1 y2 y3 H locs := w
    refine zr_if_eq (tgt := 23) hx hb dX0_close_18 (by decide) (by omega) (fun c_18 => ?_) (fun c_18 => ?_)
    · skip
      have hns : ¬ sdd xfl P := hk1.elim (fun q => by omega) (fun q => q.2)
      refine lv_aload_n hx hb dX0_close_23 rfl (lv_at hl 0 rfl) ?_
      refine kg_n E w (v := xn) rfl dX0_close_24 ?_
      refine zr_iconst hx hb dX0_close_27 ?_
      refine zr_isub hx hb dX0_close_28 ?_
      refine lv_istore_n (lv' := [(1, .int (zi (xn - 1))), (0, .ref z.2.1)]) hx hb dX0_close_29 rfl hl (by decide) rfl (fun ls hl => ?_)
      exact lpa hb1 hns 61 (xn - 1) xgo xch xle xar y1 y2 y3 _ _ ls (by have := (hlg hb1).1; omega) (by have := (hlg hb1).1; omega) (fun j h1 h2 => rfl) (by rw [show xn - 1 + 1 = xn by omega, ← hP]; exact hT.1) w (lv_sub hl [1, 0] rfl)
    · skip
      
      refine zr_iconst hx hb dX0_close_21 ?_
      exact rt dX0_close_22 w (Or.inr ⟨_, _, _, Or.inl ⟨hb1, hk1.elim (fun q => q.2) (fun q => by omega), rfl, rfl⟩⟩) rfl
  · skip
    refine zr_iconst hx hb dX0_close_7 ?_
    exact rt dX0_close_8 w (Or.inl ⟨by omega, rfl, rfl⟩) rfl
end
section
/-! BackdatedBookModel: its checks, worth, holds, allSound, put -/
set_option maxHeartbeats 4000000 in
set_option maxRecDepth 100000 in
theorem md_bad (l : Launch) (z : mdZ) {xac xdy xam xof xfl xob : Int → Int} {xn xba xnb : Int} (a : Int) (ha : -2147483648 ≤ a ∧ a ≤ 2147483647) : mdM l yX1_bad cX1_bad 2 .boolean ({ frames := 0, cells := 0, slots := 0, locals := 0 }) z (mdC xn xac xdy xam xof xfl xba xnb xob) [.int (zi a)] (fun k u' => u' = mdC xn xac xdy xam xof xfl xba xnb xob ∧ ((k = 0 ∧ ((0 ≤ a ∧ a < 4))) ∨ (k = 1 ∧ ¬ ((0 ≤ a ∧ a < 4))))) := by
  refine md_enter (by decide) rfl (Nat.le_of_ble_eq_true rfl) ?_
  intro p e R s m args below meth c A Q hR E hml rt w ls hl
  have hx := E.1
  have hb := E.2.1
  have hts := E.2.2.1
  have hown := E.2.2.2.1
  have hl : lv_has ls 2 [(0, .ref z.2.1), (1, .int (zi a))] := hl
  have w : mdG z A s.heap xn xac xdy xam xof xfl xba xnb xob s.heap [] := w
  refine lv_iload_n hx hb dX1_bad_0 rfl (lv_at hl 1 rfl) ?_
  refine zr_if_lt (tgt := 9) hx hb dX1_bad_1 (by decide) (by omega) (fun c_1 => ?_) (fun c_1 => ?_)
  · skip
    refine zr_iconst hx hb dX1_bad_9 ?_
    refine lv_goto (tgt := 14) hx hb dX1_bad_10 (by decide) ?_
    exact rt dX1_bad_14 w (⟨rfl, by omega⟩) (by decide)
  · skip
    refine lv_iload_n hx hb dX1_bad_4 rfl (lv_at hl 1 rfl) ?_
    refine zr_iconst hx hb dX1_bad_5 ?_
    refine zr_icmp_le (tgt := 13) hx hb dX1_bad_6 (by decide) (by omega) (by omega) (fun c_6 => ?_) (fun c_6 => ?_)
    · skip
      refine zr_iconst hx hb dX1_bad_13 ?_
      exact rt dX1_bad_14 w (⟨rfl, by omega⟩) (by decide)
    · skip
      refine zr_iconst hx hb dX1_bad_9 ?_
      refine lv_goto (tgt := 14) hx hb dX1_bad_10 (by decide) ?_
      exact rt dX1_bad_14 w (⟨rfl, by omega⟩) (by decide)
set_option maxHeartbeats 4000000 in
set_option maxRecDepth 100000 in
theorem md_badDay (l : Launch) (z : mdZ) {xac xdy xam xof xfl xob : Int → Int} {xn xba xnb : Int} (d : Int) (hd : -2147483648 ≤ d ∧ d ≤ 2147483647) : mdM l yX1_badDay cX1_badDay 2 .boolean ({ frames := 0, cells := 0, slots := 0, locals := 0 }) z (mdC xn xac xdy xam xof xfl xba xnb xob) [.int (zi d)] (fun k u' => u' = mdC xn xac xdy xam xof xfl xba xnb xob ∧ ((k = 0 ∧ ((0 ≤ d ∧ d < 48))) ∨ (k = 1 ∧ ¬ ((0 ≤ d ∧ d < 48))))) := by
  refine md_enter (by decide) rfl (Nat.le_of_ble_eq_true rfl) ?_
  intro p e R s m args below meth c A Q hR E hml rt w ls hl
  have hx := E.1
  have hb := E.2.1
  have hts := E.2.2.1
  have hown := E.2.2.2.1
  have hl : lv_has ls 2 [(0, .ref z.2.1), (1, .int (zi d))] := hl
  have w : mdG z A s.heap xn xac xdy xam xof xfl xba xnb xob s.heap [] := w
  refine lv_iload_n hx hb dX1_badDay_0 rfl (lv_at hl 1 rfl) ?_
  refine zr_if_lt (tgt := 10) hx hb dX1_badDay_1 (by decide) (by omega) (fun c_1 => ?_) (fun c_1 => ?_)
  · skip
    refine zr_iconst hx hb dX1_badDay_10 ?_
    refine lv_goto (tgt := 15) hx hb dX1_badDay_11 (by decide) ?_
    exact rt dX1_badDay_15 w (⟨rfl, by omega⟩) (by decide)
  · skip
    refine lv_iload_n hx hb dX1_badDay_4 rfl (lv_at hl 1 rfl) ?_
    refine zr_bipush hx hb dX1_badDay_5 (by decide) ?_
    refine zr_icmp_le (tgt := 14) hx hb dX1_badDay_7 (by decide) (by omega) (by omega) (fun c_7 => ?_) (fun c_7 => ?_)
    · skip
      refine zr_iconst hx hb dX1_badDay_14 ?_
      exact rt dX1_badDay_15 w (⟨rfl, by omega⟩) (by decide)
    · skip
      refine zr_iconst hx hb dX1_badDay_10 ?_
      refine lv_goto (tgt := 15) hx hb dX1_badDay_11 (by decide) ?_
      exact rt dX1_badDay_15 w (⟨rfl, by omega⟩) (by decide)
set_option maxHeartbeats 4000000 in
set_option maxRecDepth 100000 in
theorem md_badStretch (l : Launch) (z : mdZ) {xac xdy xam xof xfl xob : Int → Int} {xn xba xnb : Int} (f t : Int) (hf : -2147483648 ≤ f ∧ f ≤ 2147483647) (ht : -2147483648 ≤ t ∧ t ≤ 2147483647) : mdM l yX1_badStretch cX1_badStretch 3 .boolean ({ frames := 0, cells := 0, slots := 0, locals := 0 }) z (mdC xn xac xdy xam xof xfl xba xnb xob) [.int (zi f), .int (zi t)] (fun k u' => u' = mdC xn xac xdy xam xof xfl xba xnb xob ∧ ((k = 0 ∧ ((0 ≤ f ∧ f ≤ t ∧ t < 48))) ∨ (k = 1 ∧ ¬ ((0 ≤ f ∧ f ≤ t ∧ t < 48))))) := by
  refine md_enter (by decide) rfl (Nat.le_of_ble_eq_true rfl) ?_
  intro p e R s m args below meth c A Q hR E hml rt w ls hl
  have hx := E.1
  have hb := E.2.1
  have hts := E.2.2.1
  have hown := E.2.2.2.1
  have hl : lv_has ls 3 [(0, .ref z.2.1), (1, .int (zi f)), (2, .int (zi t))] := hl
  have w : mdG z A s.heap xn xac xdy xam xof xfl xba xnb xob s.heap [] := w
  refine lv_iload_n hx hb dX1_badStretch_0 rfl (lv_at hl 1 rfl) ?_
  refine zr_if_lt (tgt := 15) hx hb dX1_badStretch_1 (by decide) (by omega) (fun c_1 => ?_) (fun c_1 => ?_)
  · skip
    refine zr_iconst hx hb dX1_badStretch_15 ?_
    refine lv_goto (tgt := 20) hx hb dX1_badStretch_16 (by decide) ?_
    exact rt dX1_badStretch_20 w (⟨rfl, by omega⟩) (by decide)
  · skip
    refine lv_iload_n hx hb dX1_badStretch_4 rfl (lv_at hl 1 rfl) ?_
    refine lv_iload_n hx hb dX1_badStretch_5 rfl (lv_at hl 2 rfl) ?_
    refine zr_icmp_gt (tgt := 15) hx hb dX1_badStretch_6 (by decide) (by omega) (by omega) (fun c_6 => ?_) (fun c_6 => ?_)
    · skip
      refine zr_iconst hx hb dX1_badStretch_15 ?_
      refine lv_goto (tgt := 20) hx hb dX1_badStretch_16 (by decide) ?_
      exact rt dX1_badStretch_20 w (⟨rfl, by omega⟩) (by decide)
    · skip
      refine lv_iload_n hx hb dX1_badStretch_9 rfl (lv_at hl 2 rfl) ?_
      refine zr_bipush hx hb dX1_badStretch_10 (by decide) ?_
      refine zr_icmp_le (tgt := 19) hx hb dX1_badStretch_12 (by decide) (by omega) (by omega) (fun c_12 => ?_) (fun c_12 => ?_)
      · skip
        refine zr_iconst hx hb dX1_badStretch_19 ?_
        exact rt dX1_badStretch_20 w (⟨rfl, by omega⟩) (by decide)
      · skip
        refine zr_iconst hx hb dX1_badStretch_15 ?_
        refine lv_goto (tgt := 20) hx hb dX1_badStretch_16 (by decide) ?_
        exact rt dX1_badStretch_20 w (⟨rfl, by omega⟩) (by decide)
set_option maxHeartbeats 4000000 in
set_option maxRecDepth 100000 in
theorem md_badEntry (l : Launch) (z : mdZ) {xac xdy xam xof xfl xob : Int → Int} {xn xba xnb : Int} (x : Int) (hx0 : -2147483648 ≤ x ∧ x ≤ 2147483647) (hn : 0 ≤ xn ∧ xn ≤ 60) : mdM l yX1_badEntry cX1_badEntry 2 .boolean ({ frames := 0, cells := 0, slots := 0, locals := 0 }) z (mdC xn xac xdy xam xof xfl xba xnb xob) [.int (zi x)] (fun k u' => u' = mdC xn xac xdy xam xof xfl xba xnb xob ∧ ((k = 0 ∧ (0 ≤ x ∧ x < xn)) ∨ (k = 1 ∧ ¬ (0 ≤ x ∧ x < xn)))) := by
  refine md_enter (by decide) rfl (Nat.le_of_ble_eq_true rfl) ?_
  intro p e R s m args below meth c A Q hR E hml rt w ls hl
  have hx := E.1
  have hb := E.2.1
  have hts := E.2.2.1
  have hown := E.2.2.2.1
  have hl : lv_has ls 2 [(0, .ref z.2.1), (1, .int (zi x))] := hl
  have w : mdG z A s.heap xn xac xdy xam xof xfl xba xnb xob s.heap [] := w
  refine lv_iload_n hx hb dX1_badEntry_0 rfl (lv_at hl 1 rfl) ?_
  refine zr_if_lt (tgt := 18) hx hb dX1_badEntry_1 (by decide) (by omega) (fun c_1 => ?_) (fun c_1 => ?_)
  · skip
    refine zr_iconst hx hb dX1_badEntry_18 ?_
    refine lv_goto (tgt := 23) hx hb dX1_badEntry_19 (by decide) ?_
    exact rt dX1_badEntry_23 w (⟨rfl, by omega⟩) (by decide)
  · skip
    refine lv_iload_n hx hb dX1_badEntry_4 rfl (lv_at hl 1 rfl) ?_
    refine lv_aload_n hx hb dX1_badEntry_5 rfl (lv_at hl 0 rfl) ?_
    refine mg_n E w (v := xn) rfl dX1_badEntry_6 ?_
    refine zr_icmp_ge (tgt := 18) hx hb dX1_badEntry_9 (by decide) (by omega) (by omega) (fun c_9 => ?_) (fun c_9 => ?_)
    · skip
      refine zr_iconst hx hb dX1_badEntry_18 ?_
      refine lv_goto (tgt := 23) hx hb dX1_badEntry_19 (by decide) ?_
      exact rt dX1_badEntry_23 w (⟨rfl, by omega⟩) (by decide)
    · skip
      refine lv_iload_n hx hb dX1_badEntry_12 rfl (lv_at hl 1 rfl) ?_
      refine zr_bipush hx hb dX1_badEntry_13 (by decide) ?_
      refine zr_icmp_lt (tgt := 22) hx hb dX1_badEntry_15 (by decide) (by omega) (by omega) (fun c_15 => ?_) (fun c_15 => ?_)
      · skip
        refine zr_iconst hx hb dX1_badEntry_22 ?_
        exact rt dX1_badEntry_23 w (⟨rfl, by omega⟩) (by decide)
      · skip
        refine zr_iconst hx hb dX1_badEntry_18 ?_
        refine lv_goto (tgt := 23) hx hb dX1_badEntry_19 (by decide) ?_
        exact rt dX1_badEntry_23 w (⟨rfl, by omega⟩) (by decide)
set_option maxHeartbeats 4000000 in
set_option maxRecDepth 100000 in
theorem md_worth (l : Launch) (z : mdZ) {xac xdy xam xof xfl xob : Int → Int} {xn xba xnb : Int} (P : Int → Int → Int) (hP : P = pb xn xac xdy xam xof) (hn : 0 ≤ xn ∧ xn ≤ 60) (he : eok xac xdy xam xof xn) (a d : Int) (ha : -2147483648 ≤ a ∧ a ≤ 2147483647) (hd : -2147483648 ≤ d ∧ d ≤ 2147483647) : mdM l yX1_worth cX1_worth 5 .int ({ frames := 0, cells := 0, slots := 0, locals := 0 }) z (mdC xn xac xdy xam xof xfl xba xnb xob) [.int (zi a), .int (zi d)] (fun k u' => u' = mdC xn xac xdy xam xof xfl xba xnb xob ∧ k = P a (d + 1)) := by
  refine md_enter (by decide) rfl (Nat.le_of_ble_eq_true rfl) ?_
  intro p e R s m args below meth c A Q hR E hml rt w ls hl
  have hx := E.1
  have hb := E.2.1
  have hts := E.2.2.1
  have hown := E.2.2.2.1
  have hl : lv_has ls 5 [(0, .ref z.2.1), (1, .int (zi a)), (2, .int (zi d))] := hl
  have w : mdG z A s.heap xn xac xdy xam xof xfl xba xnb xob s.heap [] := w
  have loop : ∀ (n : Nat) (i c1 : Int) (H : Heap) (locs : List Loc) (ls : Array Slot), 0 ≤ i ∧ i ≤ xn → xn + 1 ≤ (n : Int) + i → c1 = pb i xac xdy xam xof a (d + 1) → mdG z A s.heap xn xac xdy xam xof xfl xba xnb xob H locs → lv_has ls 5 [(0, .ref z.2.1), (1, .int (zi a)), (2, .int (zi d)), (3, .int (zi c1)), (4, .int (zi i))] → W p l e R s m args below meth c H locs 0 0 Q (F0 m 5 ls []) := by
    intro n
    induction n with
    | zero =>
      intro i c1 H locs ls i1 hn9 i2
      exfalso
      omega
    | succ n ih =>
      intro i c1 H locs ls i1 hn9 i2 w hl
      refine lv_iload hx hb dX1_worth_5 (lv_at hl 4 rfl) ?_
      refine lv_aload_n hx hb dX1_worth_7 rfl (lv_at hl 0 rfl) ?_
      refine mg_n E w (v := xn) rfl dX1_worth_8 ?_
      refine zr_icmp_ge (tgt := 69) hx hb dX1_worth_11 (by decide) (by omega) (by omega) (fun c_11 => ?_) (fun c_11 => ?_)
      · skip
        refine lv_iload_n hx hb dX1_worth_69 rfl (lv_at hl 3 rfl) ?_
        exact rt dX1_worth_70 w (⟨rfl, by rw [hP, i2, show i = xn by omega]⟩) rfl
      · skip
        refine lv_iload hx hb dX1_worth_14 (lv_at hl 4 rfl) ?_
        refine zr_bipush hx hb dX1_worth_16 (by decide) ?_
        refine zr_icmp_ge (tgt := 69) hx hb dX1_worth_18 (by decide) (by omega) (by omega) (fun c_18 => ?_) (fun c_18 => ?_)
        · skip
          refine lv_iload_n hx hb dX1_worth_69 rfl (lv_at hl 3 rfl) ?_
          exact rt dX1_worth_70 w (⟨rfl, by rw [hP, i2, show i = xn by omega]⟩) rfl
        · skip
          refine lv_aload_n hx hb dX1_worth_21 rfl (lv_at hl 0 rfl) ?_
          refine mg_of E w dX1_worth_22 ?_
          refine lv_iload hx hb dX1_worth_25 (lv_at hl 4 rfl) ?_
          obtain ⟨q1, q2, q3, q4⟩ := he i (by omega) (by omega)
          have hs := pb_succ (n := i) (by omega) xac xdy xam xof a (d + 1)
          unfold ew at hs
          refine ml_of E w (v := xof i) (by omega) rfl dX1_worth_27 ?_
          refine zr_if_ne (tgt := 63) hx hb dX1_worth_28 (by decide) (by omega) (fun c_28 => ?_) (fun c_28 => ?_)
          · skip
            rw [if_neg (fun q => by omega)] at hs
            refine lv_iinc (v := zi (i + 1)) (lv' := [(4, .int (zi (i + 1))), (0, .ref z.2.1), (1, .int (zi a)), (2, .int (zi d)), (3, .int (zi c1))]) hx hb dX1_worth_63 hl (k := 4) rfl (zi_add i 1) (by decide) rfl (fun ls hl => ?_)
            refine lv_goto (tgt := 5) hx hb dX1_worth_66 (by decide) ?_
            exact ih (i + 1) (c1) _ _ ls (by omega) (by omega) (by omega) w (lv_sub hl [1, 2, 3, 4, 0] rfl)
          · skip
            
            refine lv_aload_n hx hb dX1_worth_31 rfl (lv_at hl 0 rfl) ?_
            refine mg_ac E w dX1_worth_32 ?_
            refine lv_iload hx hb dX1_worth_35 (lv_at hl 4 rfl) ?_
            refine ml_ac E w (v := xac i) (by omega) rfl dX1_worth_37 ?_
            refine lv_iload_n hx hb dX1_worth_38 rfl (lv_at hl 1 rfl) ?_
            refine zr_icmp_ne (tgt := 63) hx hb dX1_worth_39 (by decide) (by omega) (by omega) (fun c_39 => ?_) (fun c_39 => ?_)
            · skip
              rw [if_neg (fun q => by omega)] at hs
              refine lv_iinc (v := zi (i + 1)) (lv' := [(4, .int (zi (i + 1))), (0, .ref z.2.1), (1, .int (zi a)), (2, .int (zi d)), (3, .int (zi c1))]) hx hb dX1_worth_63 hl (k := 4) rfl (zi_add i 1) (by decide) rfl (fun ls hl => ?_)
              refine lv_goto (tgt := 5) hx hb dX1_worth_66 (by decide) ?_
              exact ih (i + 1) (c1) _ _ ls (by omega) (by omega) (by omega) w (lv_sub hl [1, 2, 3, 4, 0] rfl)
            · skip
              
              refine lv_aload_n hx hb dX1_worth_42 rfl (lv_at hl 0 rfl) ?_
              refine mg_dy E w dX1_worth_43 ?_
              refine lv_iload hx hb dX1_worth_46 (lv_at hl 4 rfl) ?_
              refine ml_dy E w (v := xdy i) (by omega) rfl dX1_worth_48 ?_
              refine lv_iload_n hx hb dX1_worth_49 rfl (lv_at hl 2 rfl) ?_
              refine zr_icmp_gt (tgt := 63) hx hb dX1_worth_50 (by decide) (by omega) (by omega) (fun c_50 => ?_) (fun c_50 => ?_)
              · skip
                rw [if_neg (fun q => by omega)] at hs
                refine lv_iinc (v := zi (i + 1)) (lv' := [(4, .int (zi (i + 1))), (0, .ref z.2.1), (1, .int (zi a)), (2, .int (zi d)), (3, .int (zi c1))]) hx hb dX1_worth_63 hl (k := 4) rfl (zi_add i 1) (by decide) rfl (fun ls hl => ?_)
                refine lv_goto (tgt := 5) hx hb dX1_worth_66 (by decide) ?_
                exact ih (i + 1) (c1) _ _ ls (by omega) (by omega) (by omega) w (lv_sub hl [1, 2, 3, 4, 0] rfl)
              · skip
                rw [if_pos (by omega)] at hs
                refine lv_iload_n hx hb dX1_worth_53 rfl (lv_at hl 3 rfl) ?_
                refine lv_aload_n hx hb dX1_worth_54 rfl (lv_at hl 0 rfl) ?_
                refine mg_am E w dX1_worth_55 ?_
                refine lv_iload hx hb dX1_worth_58 (lv_at hl 4 rfl) ?_
                refine ml_am E w (v := xam i) (by omega) rfl dX1_worth_60 ?_
                refine zr_iadd hx hb dX1_worth_61 ?_
                refine lv_istore_n (lv' := [(3, .int (zi (c1 + (xam i)))), (0, .ref z.2.1), (1, .int (zi a)), (2, .int (zi d)), (4, .int (zi i))]) hx hb dX1_worth_62 rfl hl (by decide) rfl (fun ls hl => ?_)
                refine lv_iinc (v := zi (i + 1)) (lv' := [(4, .int (zi (i + 1))), (3, .int (zi (c1 + (xam i)))), (0, .ref z.2.1), (1, .int (zi a)), (2, .int (zi d))]) hx hb dX1_worth_63 hl (k := 4) rfl (zi_add i 1) (by decide) rfl (fun ls hl => ?_)
                refine lv_goto (tgt := 5) hx hb dX1_worth_66 (by decide) ?_
                exact ih (i + 1) (c1 + (xam i)) _ _ ls (by omega) (by omega) (by omega) w (lv_sub hl [2, 3, 4, 1, 0] rfl)
  refine zr_iconst hx hb dX1_worth_0 ?_
  refine lv_istore_n (lv' := [(3, .int (zi 0)), (0, .ref z.2.1), (1, .int (zi a)), (2, .int (zi d))]) hx hb dX1_worth_1 rfl hl (by decide) rfl (fun ls hl => ?_)
  refine zr_iconst hx hb dX1_worth_2 ?_
  refine lv_istore (lv' := [(4, .int (zi 0)), (3, .int (zi 0)), (0, .ref z.2.1), (1, .int (zi a)), (2, .int (zi d))]) hx hb dX1_worth_3 hl (by decide) rfl (fun ls hl => ?_)
  exact loop 61 0 0 _ _ ls (by omega) (by omega) rfl w (lv_sub hl [2, 3, 4, 1, 0] rfl)
set_option maxHeartbeats 4000000 in
set_option maxRecDepth 100000 in
theorem md_holds (l : Launch) (z : mdZ) {xac xdy xam xof xfl xob : Int → Int} {xn xba xnb : Int} (P : Int → Int → Int) (hP : P = pb xn xac xdy xam xof) (hn : 0 ≤ xn ∧ xn ≤ 60) (he : eok xac xdy xam xof xn) (hf0 : flok xfl) (a : Int) (ha : 0 ≤ a ∧ a < 4) : mdM l yX1_holds cX1_holds 3 .boolean ({ frames := 1, cells := 0, slots := 0, locals := 24 }) z (mdC xn xac xdy xam xof xfl xba xnb xob) [.int (zi a)] (fun k u' => u' = mdC xn xac xdy xam xof xfl xba xnb xob ∧ ((k = 1 ∧ (∀ j, 0 < j → j ≤ 48 → xfl a ≤ P a j)) ∨ (k = 0 ∧ ¬ (∀ j, 0 < j → j ≤ 48 → xfl a ≤ P a j)))) := by
  refine md_enter (by decide) rfl (Nat.le_of_ble_eq_true rfl) ?_
  intro p e R s m args below meth c A Q hR E hml rt w ls hl
  have hx := E.1
  have hb := E.2.1
  have hts := E.2.2.1
  have hown := E.2.2.2.1
  have hl : lv_has ls 3 [(0, .ref z.2.1), (1, .int (zi a))] := hl
  have w : mdG z A s.heap xn xac xdy xam xof xfl xba xnb xob s.heap [] := w
  have hfl := hf0 a ha.1 ha.2
  have loop : ∀ (n : Nat) (i : Int) (H : Heap) (locs : List Loc) (ls : Array Slot), 0 ≤ i ∧ i ≤ 48 → 49 ≤ (n : Int) + i → (∀ j, 0 < j → j ≤ i → xfl a ≤ P a j) → mdG z A s.heap xn xac xdy xam xof xfl xba xnb xob H locs → lv_has ls 3 [(0, .ref z.2.1), (1, .int (zi a)), (2, .int (zi i))] → W p l e R s m args below meth c H locs 0 0 Q (F0 m 2 ls []) := by
    intro n
    induction n with
    | zero =>
      intro i H locs ls i1 hn9 i2
      exfalso
      omega
    | succ n ih =>
      intro i H locs ls i1 hn9 i2 w hl
      refine lv_iload_n hx hb dX1_holds_2 rfl (lv_at hl 2 rfl) ?_
      refine zr_bipush hx hb dX1_holds_3 (by decide) ?_
      refine zr_icmp_ge (tgt := 31) hx hb dX1_holds_5 (by decide) (by omega) (by omega) (fun c_5 => ?_) (fun c_5 => ?_)
      · skip
        refine zr_iconst hx hb dX1_holds_31 ?_
        exact rt dX1_holds_32 w (⟨rfl, Or.inl ⟨rfl, fun j j1 j2 => i2 j j1 (by omega)⟩⟩) (by decide)
      · skip
        refine lv_aload_n hx hb dX1_holds_8 rfl (lv_at hl 0 rfl) ?_
        refine lv_iload_n hx hb dX1_holds_9 rfl (lv_at hl 1 rfl) ?_
        refine lv_iload_n hx hb dX1_holds_10 rfl (lv_at hl 2 rfl) ?_
        refine md_call (as := [.int (zi a), .int (zi i)]) (rest := []) (n := 2) E hml w (md_worth l z P hP hn he a i (by omega) (by omega)) q268 q270 qs15 q271 rfl rfl (by decide +kernel) (by rw [hR]; exact ⟨Nat.le_of_ble_eq_true rfl, Nat.le_of_ble_eq_true rfl⟩) rfl hl.1 rfl (Nat.le_of_ble_eq_true rfl) dX1_holds_11 (fun k3 u1 H locs hw w => ?_)
        obtain ⟨rfl, hk3⟩ := hw
        have hbk3 : -600000 ≤ k3 ∧ k3 ≤ 600000 := by
          rw [hk3, hP]
          exact pb_bound hn.2 (fun e h1 h2 => (he e h1 h2).2.2.1) _ _
        have w : mdG z A s.heap xn xac xdy xam xof xfl xba xnb xob H locs := w
        refine lv_aload_n hx hb dX1_holds_14 rfl (lv_at hl 0 rfl) ?_
        refine mg_fl E w dX1_holds_15 ?_
        refine lv_iload_n hx hb dX1_holds_18 rfl (lv_at hl 1 rfl) ?_
        refine ml_fl E w (v := xfl a) (by omega) rfl dX1_holds_19 ?_
        refine zr_icmp_ge (tgt := 25) hx hb dX1_holds_20 (by decide) (by omega) (by omega) (fun c_20 => ?_) (fun c_20 => ?_)
        · skip
          refine lv_iinc (v := zi (i + 1)) (lv' := [(2, .int (zi (i + 1))), (0, .ref z.2.1), (1, .int (zi a))]) hx hb dX1_holds_25 hl (k := 2) rfl (zi_add i 1) (by decide) rfl (fun ls hl => ?_)
          refine lv_goto (tgt := 2) hx hb dX1_holds_28 (by decide) ?_
          exact ih (i + 1) _ _ ls (by omega) (by omega) (fun j j1 j2 => by
            by_cases q : j = i + 1
            · rw [q]
              omega
            · exact i2 j j1 (by omega)) w (lv_sub hl [1, 2, 0] rfl)
        · skip
          refine zr_iconst hx hb dX1_holds_23 ?_
          exact rt dX1_holds_24 w (⟨rfl, Or.inr ⟨rfl, fun q => by have := q (i + 1) (by omega) (by omega); omega⟩⟩) (by decide)
  refine zr_iconst hx hb dX1_holds_0 ?_
  refine lv_istore_n (lv' := [(2, .int (zi 0)), (0, .ref z.2.1), (1, .int (zi a))]) hx hb dX1_holds_1 rfl hl (by decide) rfl (fun ls hl => ?_)
  exact loop 49 0 _ _ ls (by omega) (by omega) (fun j j1 j2 => by omega) w (lv_sub hl [1, 2, 0] rfl)
set_option maxHeartbeats 4000000 in
set_option maxRecDepth 100000 in
theorem md_allSound (l : Launch) (z : mdZ) {xac xdy xam xof xfl xob : Int → Int} {xn xba xnb : Int} (P : Int → Int → Int) (hP : P = pb xn xac xdy xam xof) (hn : 0 ≤ xn ∧ xn ≤ 60) (he : eok xac xdy xam xof xn) (hf0 : flok xfl) : mdM l yX1_allSound cX1_allSound 1 .boolean ({ frames := 2, cells := 0, slots := 0, locals := 46 }) z (mdC xn xac xdy xam xof xfl xba xnb xob) [] (fun k u' => u' = mdC xn xac xdy xam xof xfl xba xnb xob ∧ ((k = 1 ∧ (sdd xfl P)) ∨ (k = 0 ∧ ¬ (sdd xfl P)))) := by
  refine md_enter (by decide) rfl (Nat.le_of_ble_eq_true rfl) ?_
  intro p e R s m args below meth c A Q hR E hml rt w ls hl
  have hx := E.1
  have hb := E.2.1
  have hts := E.2.2.1
  have hown := E.2.2.2.1
  have hl : lv_has ls 1 [(0, .ref z.2.1)] := hl
  have w : mdG z A s.heap xn xac xdy xam xof xfl xba xnb xob s.heap [] := w
  refine lv_aload_n hx hb dX1_allSound_0 rfl (lv_at hl 0 rfl) ?_
  refine zr_iconst hx hb dX1_allSound_1 ?_
  refine md_call (as := [.int (zi 0)]) (rest := []) (n := 1) E hml w (md_holds l z P hP hn he hf0 0 (by omega)) q264 q266 qs14 q267 rfl rfl (by decide +kernel) (by rw [hR]; exact ⟨Nat.le_of_ble_eq_true rfl, Nat.le_of_ble_eq_true rfl⟩) rfl hl.1 rfl (Nat.le_of_ble_eq_true rfl) dX1_allSound_2 (fun k0 u1 H locs hw w => ?_)
  obtain ⟨rfl, h0⟩ := hw
  have g0 : k0 = 0 ∨ k0 = 1 := h0.elim (fun q => Or.inr q.1) (fun q => Or.inl q.1)
  have w : mdG z A s.heap xn xac xdy xam xof xfl xba xnb xob H locs := w
  refine zr_if_eq (tgt := 36) hx hb dX1_allSound_5 (by decide) (by omega) (fun c_5 => ?_) (fun c_5 => ?_)
  · skip
    refine zr_iconst hx hb dX1_allSound_36 ?_
    exact rt dX1_allSound_37 w (⟨rfl, Or.inr ⟨rfl, fun q => h0.elim (fun z => by omega) (fun z => z.2 (fun j j1 j2 => q 0 (by omega) (by omega) j j1 j2))⟩⟩) (by decide)
  · skip
    refine lv_aload_n hx hb dX1_allSound_8 rfl (lv_at hl 0 rfl) ?_
    refine zr_iconst hx hb dX1_allSound_9 ?_
    refine md_call (as := [.int (zi 1)]) (rest := []) (n := 1) E hml w (md_holds l z P hP hn he hf0 1 (by omega)) q264 q266 qs14 q267 rfl rfl (by decide +kernel) (by rw [hR]; exact ⟨Nat.le_of_ble_eq_true rfl, Nat.le_of_ble_eq_true rfl⟩) rfl hl.1 rfl (Nat.le_of_ble_eq_true rfl) dX1_allSound_10 (fun k1 u1 H locs hw w => ?_)
    obtain ⟨rfl, h1⟩ := hw
    have g1 : k1 = 0 ∨ k1 = 1 := h1.elim (fun q => Or.inr q.1) (fun q => Or.inl q.1)
    have w : mdG z A s.heap xn xac xdy xam xof xfl xba xnb xob H locs := w
    refine zr_if_eq (tgt := 36) hx hb dX1_allSound_13 (by decide) (by omega) (fun c_13 => ?_) (fun c_13 => ?_)
    · skip
      refine zr_iconst hx hb dX1_allSound_36 ?_
      exact rt dX1_allSound_37 w (⟨rfl, Or.inr ⟨rfl, fun q => h1.elim (fun z => by omega) (fun z => z.2 (fun j j1 j2 => q 1 (by omega) (by omega) j j1 j2))⟩⟩) (by decide)
    · skip
      refine lv_aload_n hx hb dX1_allSound_16 rfl (lv_at hl 0 rfl) ?_
      refine zr_iconst hx hb dX1_allSound_17 ?_
      refine md_call (as := [.int (zi 2)]) (rest := []) (n := 1) E hml w (md_holds l z P hP hn he hf0 2 (by omega)) q264 q266 qs14 q267 rfl rfl (by decide +kernel) (by rw [hR]; exact ⟨Nat.le_of_ble_eq_true rfl, Nat.le_of_ble_eq_true rfl⟩) rfl hl.1 rfl (Nat.le_of_ble_eq_true rfl) dX1_allSound_18 (fun k2 u1 H locs hw w => ?_)
      obtain ⟨rfl, h2⟩ := hw
      have g2 : k2 = 0 ∨ k2 = 1 := h2.elim (fun q => Or.inr q.1) (fun q => Or.inl q.1)
      have w : mdG z A s.heap xn xac xdy xam xof xfl xba xnb xob H locs := w
      refine zr_if_eq (tgt := 36) hx hb dX1_allSound_21 (by decide) (by omega) (fun c_21 => ?_) (fun c_21 => ?_)
      · skip
        refine zr_iconst hx hb dX1_allSound_36 ?_
        exact rt dX1_allSound_37 w (⟨rfl, Or.inr ⟨rfl, fun q => h2.elim (fun z => by omega) (fun z => z.2 (fun j j1 j2 => q 2 (by omega) (by omega) j j1 j2))⟩⟩) (by decide)
      · skip
        refine lv_aload_n hx hb dX1_allSound_24 rfl (lv_at hl 0 rfl) ?_
        refine zr_iconst hx hb dX1_allSound_25 ?_
        refine md_call (as := [.int (zi 3)]) (rest := []) (n := 1) E hml w (md_holds l z P hP hn he hf0 3 (by omega)) q264 q266 qs14 q267 rfl rfl (by decide +kernel) (by rw [hR]; exact ⟨Nat.le_of_ble_eq_true rfl, Nat.le_of_ble_eq_true rfl⟩) rfl hl.1 rfl (Nat.le_of_ble_eq_true rfl) dX1_allSound_26 (fun k3 u1 H locs hw w => ?_)
        obtain ⟨rfl, h3⟩ := hw
        have g3 : k3 = 0 ∨ k3 = 1 := h3.elim (fun q => Or.inr q.1) (fun q => Or.inl q.1)
        have w : mdG z A s.heap xn xac xdy xam xof xfl xba xnb xob H locs := w
        refine zr_if_eq (tgt := 36) hx hb dX1_allSound_29 (by decide) (by omega) (fun c_29 => ?_) (fun c_29 => ?_)
        · skip
          refine zr_iconst hx hb dX1_allSound_36 ?_
          exact rt dX1_allSound_37 w (⟨rfl, Or.inr ⟨rfl, fun q => h3.elim (fun z => by omega) (fun z => z.2 (fun j j1 j2 => q 3 (by omega) (by omega) j j1 j2))⟩⟩) (by decide)
        · skip
          refine zr_iconst hx hb dX1_allSound_32 ?_
          refine lv_goto (tgt := 37) hx hb dX1_allSound_33 (by decide) ?_
          refine rt dX1_allSound_37 w ?_ (by decide)
          refine ⟨rfl, Or.inl ⟨rfl, fun a a1 a2 => ?_⟩⟩
          rcases (show a = 0 ∨ a = 1 ∨ a = 2 ∨ a = 3 by omega) with rfl | rfl | rfl | rfl
          · exact h0.elim (fun z => z.2) (fun z => by omega)
          · exact h1.elim (fun z => z.2) (fun z => by omega)
          · exact h2.elim (fun z => z.2) (fun z => by omega)
          · exact h3.elim (fun z => z.2) (fun z => by omega)
set_option maxHeartbeats 4000000 in
set_option maxRecDepth 100000 in
theorem md_put (l : Launch) (z : mdZ) {xac xdy xam xof xfl xob : Int → Int} {xn xba xnb : Int} (hn : 0 ≤ xn ∧ xn < 60) (a d x : Int) : mdV l yX1_put cX1_put 5 ({ frames := 0, cells := 0, slots := 0, locals := 0 }) z (mdC xn xac xdy xam xof xfl xba xnb xob) [.int (zi a), .int (zi d), .int (zi x)] (fun u' => u' = mdC (xn + 1) (up xac xn a) (up xdy xn d) (up xam xn x) (up xof xn 0) xfl xba xnb xob) := by
  refine md_enterV (by decide) rfl (Nat.le_of_ble_eq_true rfl) ?_
  intro p e R s m args below meth c A Q hR E hml rt w ls hl
  have hx := E.1
  have hb := E.2.1
  have hts := E.2.2.1
  have hown := E.2.2.2.1
  have hl : lv_has ls 5 [(0, .ref z.2.1), (1, .int (zi a)), (2, .int (zi d)), (3, .int (zi x))] := hl
  have w : mdG z A s.heap xn xac xdy xam xof xfl xba xnb xob s.heap [] := w
  refine lv_aload_n hx hb dX1_put_0 rfl (lv_at hl 0 rfl) ?_
  refine mg_n E w (v := xn) rfl dX1_put_1 ?_
  refine lv_istore (lv' := [(4, .int (zi xn)), (0, .ref z.2.1), (1, .int (zi a)), (2, .int (zi d)), (3, .int (zi x))]) hx hb dX1_put_4 hl (by decide) rfl (fun ls hl => ?_)
  refine lv_iload hx hb dX1_put_6 (lv_at hl 0 rfl) ?_
  refine zr_bipush hx hb dX1_put_8 (by decide) ?_
  refine zr_icmp_lt (tgt := 14) hx hb dX1_put_10 (by decide) (by omega) (by omega) (fun c_10 => ?_) (fun c_10 => ?_)
  · skip
    
    refine lv_aload_n hx hb dX1_put_14 rfl (lv_at hl 1 rfl) ?_
    refine mg_ac E w dX1_put_15 ?_
    refine lv_iload hx hb dX1_put_18 (lv_at hl 0 rfl) ?_
    refine lv_iload_n hx hb dX1_put_20 rfl (lv_at hl 2 rfl) ?_
    refine ms_ac E w (by omega) dX1_put_21 (fun H locs w => ?_)
    refine lv_aload_n hx hb dX1_put_22 rfl (lv_at hl 1 rfl) ?_
    refine mg_dy E w dX1_put_23 ?_
    refine lv_iload hx hb dX1_put_26 (lv_at hl 0 rfl) ?_
    refine lv_iload_n hx hb dX1_put_28 rfl (lv_at hl 3 rfl) ?_
    refine ms_dy E w (by omega) dX1_put_29 (fun H locs w => ?_)
    refine lv_aload_n hx hb dX1_put_30 rfl (lv_at hl 1 rfl) ?_
    refine mg_am E w dX1_put_31 ?_
    refine lv_iload hx hb dX1_put_34 (lv_at hl 0 rfl) ?_
    refine lv_iload_n hx hb dX1_put_36 rfl (lv_at hl 4 rfl) ?_
    refine ms_am E w (by omega) dX1_put_37 (fun H locs w => ?_)
    refine lv_aload_n hx hb dX1_put_38 rfl (lv_at hl 1 rfl) ?_
    refine mg_of E w dX1_put_39 ?_
    refine lv_iload hx hb dX1_put_42 (lv_at hl 0 rfl) ?_
    refine zr_iconst hx hb dX1_put_44 ?_
    refine ms_of E w (by omega) (by decide) dX1_put_45 (fun H locs w => ?_)
    refine lv_aload_n hx hb dX1_put_46 rfl (lv_at hl 1 rfl) ?_
    refine lv_iload hx hb dX1_put_47 (lv_at hl 0 rfl) ?_
    refine zr_iconst hx hb dX1_put_49 ?_
    refine zr_iadd hx hb dX1_put_50 ?_
    refine mp_n E w dX1_put_51 (fun H locs w => ?_)
    exact rt dX1_put_54 w (rfl)
  · skip
    exfalso; omega
end
section
/-! BackdatedBookModel: the public methods that ask -/
set_option maxHeartbeats 4000000 in
set_option maxRecDepth 100000 in
theorem md_isOpen (l : Launch) (z : mdZ) {xac xdy xam xof xfl xob : Int → Int} {xn xba xnb : Int} (hba : xba = 0 ∨ xba = 1) : mdM l yX1_isOpen cX1_isOpen 1 .int ({ frames := 0, cells := 0, slots := 0, locals := 0 }) z (mdC xn xac xdy xam xof xfl xba xnb xob) [] (fun k u' => u' = mdC xn xac xdy xam xof xfl xba xnb xob ∧ k = xba) := by
  refine md_enter (by decide) rfl (Nat.le_of_ble_eq_true rfl) ?_
  intro p e R s m args below meth c A Q hR E hml rt w ls hl
  have hx := E.1
  have hb := E.2.1
  have hts := E.2.2.1
  have hown := E.2.2.2.1
  have hl : lv_has ls 1 [(0, .ref z.2.1)] := hl
  have w : mdG z A s.heap xn xac xdy xam xof xfl xba xnb xob s.heap [] := w
  refine lv_aload_n hx hb dX1_isOpen_0 rfl (lv_at hl 0 rfl) ?_
  refine mg_ba E w (v := xba) rfl dX1_isOpen_1 ?_
  refine zr_if_eq (tgt := 11) hx hb dX1_isOpen_4 (by decide) (by omega) (fun c_4 => ?_) (fun c_4 => ?_)
  · skip
    refine zr_iconst hx hb dX1_isOpen_11 ?_
    exact rt dX1_isOpen_12 w (⟨rfl, by omega⟩) rfl
  · skip
    refine zr_iconst hx hb dX1_isOpen_7 ?_
    refine lv_goto (tgt := 12) hx hb dX1_isOpen_8 (by decide) ?_
    exact rt dX1_isOpen_12 w (⟨rfl, by omega⟩) rfl
set_option maxHeartbeats 4000000 in
set_option maxRecDepth 100000 in
theorem md_entries (l : Launch) (z : mdZ) {xac xdy xam xof xfl xob : Int → Int} {xn xba xnb : Int}  : mdM l yX1_entries cX1_entries 1 .int ({ frames := 0, cells := 0, slots := 0, locals := 0 }) z (mdC xn xac xdy xam xof xfl xba xnb xob) [] (fun k u' => u' = mdC xn xac xdy xam xof xfl xba xnb xob ∧ k = xn) := by
  refine md_enter (by decide) rfl (Nat.le_of_ble_eq_true rfl) ?_
  intro p e R s m args below meth c A Q hR E hml rt w ls hl
  have hx := E.1
  have hb := E.2.1
  have hts := E.2.2.1
  have hown := E.2.2.2.1
  have hl : lv_has ls 1 [(0, .ref z.2.1)] := hl
  have w : mdG z A s.heap xn xac xdy xam xof xfl xba xnb xob s.heap [] := w
  refine lv_aload_n hx hb dX1_entries_0 rfl (lv_at hl 0 rfl) ?_
  refine mg_n E w (v := xn) rfl dX1_entries_1 ?_
  exact rt dX1_entries_4 w (⟨rfl, rfl⟩) rfl
set_option maxHeartbeats 4000000 in
set_option maxRecDepth 100000 in
theorem md_cancelled (l : Launch) (z : mdZ) {xac xdy xam xof xfl xob : Int → Int} {xn xba xnb : Int} (x : Int) (hx0 : -2147483648 ≤ x ∧ x ≤ 2147483647) (hn : 0 ≤ xn ∧ xn ≤ 60) (he : eok xac xdy xam xof xn) : mdM l yX1_cancelled cX1_cancelled 2 .int ({ frames := 1, cells := 0, slots := 0, locals := 21 }) z (mdC xn xac xdy xam xof xfl xba xnb xob) [.int (zi x)] (fun k u' => u' = mdC xn xac xdy xam xof xfl xba xnb xob ∧ ((¬ (0 ≤ x ∧ x < xn) ∧ k = -1) ∨ ((0 ≤ x ∧ x < xn) ∧ k = xof x))) := by
  refine md_enter (by decide) rfl (Nat.le_of_ble_eq_true rfl) ?_
  intro p e R s m args below meth c A Q hR E hml rt w ls hl
  have hx := E.1
  have hb := E.2.1
  have hts := E.2.2.1
  have hown := E.2.2.2.1
  have hl : lv_has ls 2 [(0, .ref z.2.1), (1, .int (zi x))] := hl
  have w : mdG z A s.heap xn xac xdy xam xof xfl xba xnb xob s.heap [] := w
  refine lv_aload_n hx hb dX1_cancelled_0 rfl (lv_at hl 0 rfl) ?_
  refine lv_iload_n hx hb dX1_cancelled_1 rfl (lv_at hl 1 rfl) ?_
  refine md_call (as := [.int (zi x)]) (rest := []) (n := 1) E hml w (md_badEntry l z x hx0 hn) q280 q282 qs16 q283 rfl rfl (by decide +kernel) (by rw [hR]; exact ⟨Nat.le_of_ble_eq_true rfl, Nat.le_of_ble_eq_true rfl⟩) rfl hl.1 rfl (Nat.le_of_ble_eq_true rfl) dX1_cancelled_2 (fun k1 u1 H locs hk1 w => ?_)
  obtain ⟨rfl, hk1⟩ := hk1
  have w : mdG z A s.heap xn xac xdy xam xof xfl xba xnb xob H locs := w
  refine zr_if_eq (tgt := 10) hx hb dX1_cancelled_5 (by decide) (by omega) (fun c_5 => ?_) (fun c_5 => ?_)
  · skip
    refine lv_aload_n hx hb dX1_cancelled_10 rfl (lv_at hl 0 rfl) ?_
    refine mg_of E w dX1_cancelled_11 ?_
    refine lv_iload_n hx hb dX1_cancelled_14 rfl (lv_at hl 1 rfl) ?_
    have hgo := (he x (by omega) (by omega)).2.2.2
    refine ml_of E w (v := xof x) (by omega) rfl dX1_cancelled_15 ?_
    refine zr_if_eq (tgt := 23) hx hb dX1_cancelled_16 (by decide) (by omega) (fun c_16 => ?_) (fun c_16 => ?_)
    · skip
      refine zr_iconst hx hb dX1_cancelled_23 ?_
      exact rt dX1_cancelled_24 w (⟨rfl, by omega⟩) rfl
    · skip
      refine zr_iconst hx hb dX1_cancelled_19 ?_
      refine lv_goto (tgt := 24) hx hb dX1_cancelled_20 (by decide) ?_
      exact rt dX1_cancelled_24 w (⟨rfl, by omega⟩) rfl
  · skip
    refine zr_iconst hx hb dX1_cancelled_8 ?_
    exact rt dX1_cancelled_9 w (⟨rfl, by omega⟩) rfl
set_option maxHeartbeats 4000000 in
set_option maxRecDepth 100000 in
theorem md_amountOf (l : Launch) (z : mdZ) {xac xdy xam xof xfl xob : Int → Int} {xn xba xnb : Int} (x : Int) (hx0 : -2147483648 ≤ x ∧ x ≤ 2147483647) (hn : 0 ≤ xn ∧ xn ≤ 60) (he : eok xac xdy xam xof xn) : mdM l yX1_amountOf cX1_amountOf 2 .int ({ frames := 1, cells := 0, slots := 0, locals := 21 }) z (mdC xn xac xdy xam xof xfl xba xnb xob) [.int (zi x)] (fun k u' => u' = mdC xn xac xdy xam xof xfl xba xnb xob ∧ ((¬ (0 ≤ x ∧ x < xn) ∧ k = 0) ∨ ((0 ≤ x ∧ x < xn) ∧ k = xam x))) := by
  refine md_enter (by decide) rfl (Nat.le_of_ble_eq_true rfl) ?_
  intro p e R s m args below meth c A Q hR E hml rt w ls hl
  have hx := E.1
  have hb := E.2.1
  have hts := E.2.2.1
  have hown := E.2.2.2.1
  have hl : lv_has ls 2 [(0, .ref z.2.1), (1, .int (zi x))] := hl
  have w : mdG z A s.heap xn xac xdy xam xof xfl xba xnb xob s.heap [] := w
  refine lv_aload_n hx hb dX1_amountOf_0 rfl (lv_at hl 0 rfl) ?_
  refine lv_iload_n hx hb dX1_amountOf_1 rfl (lv_at hl 1 rfl) ?_
  refine md_call (as := [.int (zi x)]) (rest := []) (n := 1) E hml w (md_badEntry l z x hx0 hn) q280 q282 qs16 q283 rfl rfl (by decide +kernel) (by rw [hR]; exact ⟨Nat.le_of_ble_eq_true rfl, Nat.le_of_ble_eq_true rfl⟩) rfl hl.1 rfl (Nat.le_of_ble_eq_true rfl) dX1_amountOf_2 (fun k1 u1 H locs hk1 w => ?_)
  obtain ⟨rfl, hk1⟩ := hk1
  have w : mdG z A s.heap xn xac xdy xam xof xfl xba xnb xob H locs := w
  refine zr_if_eq (tgt := 12) hx hb dX1_amountOf_5 (by decide) (by omega) (fun c_5 => ?_) (fun c_5 => ?_)
  · skip
    refine lv_aload_n hx hb dX1_amountOf_12 rfl (lv_at hl 0 rfl) ?_
    refine mg_am E w dX1_amountOf_13 ?_
    refine lv_iload_n hx hb dX1_amountOf_16 rfl (lv_at hl 1 rfl) ?_
    refine ml_am E w (v := xam x) (by omega) rfl dX1_amountOf_17 ?_
    exact rt dX1_amountOf_18 w (⟨rfl, by omega⟩) rfl
  · skip
    refine zr_iconst hx hb dX1_amountOf_8 ?_
    refine lv_goto (tgt := 18) hx hb dX1_amountOf_9 (by decide) ?_
    exact rt dX1_amountOf_18 w (⟨rfl, by omega⟩) rfl
set_option maxHeartbeats 4000000 in
set_option maxRecDepth 100000 in
theorem md_sound (l : Launch) (z : mdZ) {xac xdy xam xof xfl xob : Int → Int} {xn xba xnb : Int} (P : Int → Int → Int) (hP : P = pb xn xac xdy xam xof) (hn : 0 ≤ xn ∧ xn ≤ 60) (he : eok xac xdy xam xof xn) (hf0 : flok xfl) : mdM l yX1_sound cX1_sound 1 .int ({ frames := 3, cells := 0, slots := 0, locals := 66 }) z (mdC xn xac xdy xam xof xfl xba xnb xob) [] (fun k u' => u' = mdC xn xac xdy xam xof xfl xba xnb xob ∧ ((k = 1 ∧ (sdd xfl P)) ∨ (k = 0 ∧ ¬ (sdd xfl P)))) := by
  refine md_enter (by decide) rfl (Nat.le_of_ble_eq_true rfl) ?_
  intro p e R s m args below meth c A Q hR E hml rt w ls hl
  have hx := E.1
  have hb := E.2.1
  have hts := E.2.2.1
  have hown := E.2.2.2.1
  have hl : lv_has ls 1 [(0, .ref z.2.1)] := hl
  have w : mdG z A s.heap xn xac xdy xam xof xfl xba xnb xob s.heap [] := w
  refine lv_aload_n hx hb dX1_sound_0 rfl (lv_at hl 0 rfl) ?_
  refine md_call (as := []) (rest := []) (n := 0) E hml w (md_allSound l z P hP hn he hf0) q260 q262 qs13 q263 rfl rfl (by decide +kernel) (by rw [hR]; exact ⟨Nat.le_of_ble_eq_true rfl, Nat.le_of_ble_eq_true rfl⟩) rfl hl.1 rfl (Nat.le_of_ble_eq_true rfl) dX1_sound_1 (fun k1 u1 H locs hk1 w => ?_)
  obtain ⟨rfl, hk1⟩ := hk1
  have hk2 : k1 = 0 ∨ k1 = 1 := hk1.elim (fun q => Or.inr q.1) (fun q => Or.inl q.1)
  have w : mdG z A s.heap xn xac xdy xam xof xfl xba xnb xob H locs := w
  refine zr_if_eq (tgt := 11) hx hb dX1_sound_4 (by decide) (by omega) (fun c_4 => ?_) (fun c_4 => ?_)
  · skip
    refine zr_iconst hx hb dX1_sound_11 ?_
    exact rt dX1_sound_12 w (⟨rfl, hk1.imp (fun q => ⟨by omega, q.2⟩) (fun q => ⟨by omega, q.2⟩)⟩) rfl
  · skip
    refine zr_iconst hx hb dX1_sound_7 ?_
    refine lv_goto (tgt := 12) hx hb dX1_sound_8 (by decide) ?_
    exact rt dX1_sound_12 w (⟨rfl, hk1.imp (fun q => ⟨by omega, q.2⟩) (fun q => ⟨by omega, q.2⟩)⟩) rfl
set_option maxHeartbeats 4000000 in
set_option maxRecDepth 100000 in
theorem md_balance (l : Launch) (z : mdZ) {xac xdy xam xof xfl xob : Int → Int} {xn xba xnb : Int} (P : Int → Int → Int) (hP : P = pb xn xac xdy xam xof) (hn : 0 ≤ xn ∧ xn ≤ 60) (he : eok xac xdy xam xof xn) (a d : Int) (ha : -2147483648 ≤ a ∧ a ≤ 2147483647) (hd : -2147483648 ≤ d ∧ d ≤ 2147483647) : mdM l yX1_balance cX1_balance 3 .int ({ frames := 1, cells := 0, slots := 0, locals := 24 }) z (mdC xn xac xdy xam xof xfl xba xnb xob) [.int (zi a), .int (zi d)] (fun k u' => u' = mdC xn xac xdy xam xof xfl xba xnb xob ∧ ((¬ ((0 ≤ a ∧ a < 4) ∧ (0 ≤ d ∧ d < 48)) ∧ k = -1000000) ∨ (((0 ≤ a ∧ a < 4) ∧ (0 ≤ d ∧ d < 48)) ∧ k = P a (d + 1)))) := by
  refine md_enter (by decide) rfl (Nat.le_of_ble_eq_true rfl) ?_
  intro p e R s m args below meth c A Q hR E hml rt w ls hl
  have hx := E.1
  have hb := E.2.1
  have hts := E.2.2.1
  have hown := E.2.2.2.1
  have hl : lv_has ls 3 [(0, .ref z.2.1), (1, .int (zi a)), (2, .int (zi d))] := hl
  have w : mdG z A s.heap xn xac xdy xam xof xfl xba xnb xob s.heap [] := w
  refine lv_aload_n hx hb dX1_balance_0 rfl (lv_at hl 0 rfl) ?_
  refine lv_iload_n hx hb dX1_balance_1 rfl (lv_at hl 1 rfl) ?_
  refine md_call (as := [.int (zi a)]) (rest := []) (n := 1) E hml w (md_bad l z a ha) q248 q250 qs10 q251 rfl rfl (by decide +kernel) (by rw [hR]; exact ⟨Nat.le_of_ble_eq_true rfl, Nat.le_of_ble_eq_true rfl⟩) rfl hl.1 rfl (Nat.le_of_ble_eq_true rfl) dX1_balance_2 (fun k1 u1 H locs hk1 w => ?_)
  obtain ⟨rfl, hk1⟩ := hk1
  have w : mdG z A s.heap xn xac xdy xam xof xfl xba xnb xob H locs := w
  refine zr_if_ne (tgt := 16) hx hb dX1_balance_5 (by decide) (by omega) (fun c_5 => ?_) (fun c_5 => ?_)
  · skip
    refine zr_ldc hx hb (-1000000) hown (hts _ q320) (by decide) dX1_balance_16 ?_
    refine lv_goto (tgt := 27) hx hb dX1_balance_18 (by decide) ?_
    exact rt dX1_balance_27 w (⟨rfl, by omega⟩) rfl
  · skip
    refine lv_aload_n hx hb dX1_balance_8 rfl (lv_at hl 0 rfl) ?_
    refine lv_iload_n hx hb dX1_balance_9 rfl (lv_at hl 2 rfl) ?_
    refine md_call (as := [.int (zi d)]) (rest := []) (n := 1) E hml w (md_badDay l z d hd) q252 q254 qs11 q255 rfl rfl (by decide +kernel) (by rw [hR]; exact ⟨Nat.le_of_ble_eq_true rfl, Nat.le_of_ble_eq_true rfl⟩) rfl hl.1 rfl (Nat.le_of_ble_eq_true rfl) dX1_balance_10 (fun k2 u1 H locs hk2 w => ?_)
    obtain ⟨rfl, hk2⟩ := hk2
    have w : mdG z A s.heap xn xac xdy xam xof xfl xba xnb xob H locs := w
    refine zr_if_eq (tgt := 21) hx hb dX1_balance_13 (by decide) (by omega) (fun c_13 => ?_) (fun c_13 => ?_)
    · skip
      refine lv_aload_n hx hb dX1_balance_21 rfl (lv_at hl 0 rfl) ?_
      refine lv_iload_n hx hb dX1_balance_22 rfl (lv_at hl 1 rfl) ?_
      refine lv_iload_n hx hb dX1_balance_23 rfl (lv_at hl 2 rfl) ?_
      refine md_call (as := [.int (zi a), .int (zi d)]) (rest := []) (n := 2) E hml w (md_worth l z P hP hn he a d (by omega) (by omega)) q268 q270 qs15 q271 rfl rfl (by decide +kernel) (by rw [hR]; exact ⟨Nat.le_of_ble_eq_true rfl, Nat.le_of_ble_eq_true rfl⟩) rfl hl.1 rfl (Nat.le_of_ble_eq_true rfl) dX1_balance_24 (fun k3 u1 H locs hw w => ?_)
      obtain ⟨rfl, hk3⟩ := hw
      have hbk3 : -600000 ≤ k3 ∧ k3 ≤ 600000 := by
        rw [hk3, hP]
        exact pb_bound hn.2 (fun e h1 h2 => (he e h1 h2).2.2.1) _ _
      have w : mdG z A s.heap xn xac xdy xam xof xfl xba xnb xob H locs := w
      exact rt dX1_balance_27 w (⟨rfl, by omega⟩) rfl
    · skip
      refine zr_ldc hx hb (-1000000) hown (hts _ q320) (by decide) dX1_balance_16 ?_
      refine lv_goto (tgt := 27) hx hb dX1_balance_18 (by decide) ?_
      exact rt dX1_balance_27 w (⟨rfl, by omega⟩) rfl
set_option maxHeartbeats 4000000 in
set_option maxRecDepth 100000 in
theorem md_lowest (l : Launch) (z : mdZ) {xac xdy xam xof xfl xob : Int → Int} {xn xba xnb : Int} (P : Int → Int → Int) (hP : P = pb xn xac xdy xam xof) (hn : 0 ≤ xn ∧ xn ≤ 60) (he : eok xac xdy xam xof xn) (a f t : Int) (ha : -2147483648 ≤ a ∧ a ≤ 2147483647) (hf : -2147483648 ≤ f ∧ f ≤ 2147483647) (ht : -2147483648 ≤ t ∧ t ≤ 2147483647) : mdM l yX1_lowest cX1_lowest 7 .int ({ frames := 1, cells := 0, slots := 0, locals := 24 }) z (mdC xn xac xdy xam xof xfl xba xnb xob) [.int (zi a), .int (zi f), .int (zi t)] (fun k u' => u' = mdC xn xac xdy xam xof xfl xba xnb xob ∧ ((¬ (0 ≤ a ∧ a < 4) ∧ k = -1000000) ∨ ((0 ≤ a ∧ a < 4) ∧ ¬ (0 ≤ f ∧ f ≤ t ∧ t < 48) ∧ k = -2000000) ∨ ((0 ≤ a ∧ a < 4) ∧ (0 ≤ f ∧ f ≤ t ∧ t < 48) ∧ lwp P a f t k))) := by
  refine md_enter (by decide) rfl (Nat.le_of_ble_eq_true rfl) ?_
  intro p e R s m args below meth c A Q hR E hml rt w ls hl
  have hx := E.1
  have hb := E.2.1
  have hts := E.2.2.1
  have hown := E.2.2.2.1
  have hl : lv_has ls 7 [(0, .ref z.2.1), (1, .int (zi a)), (2, .int (zi f)), (3, .int (zi t))] := hl
  have w : mdG z A s.heap xn xac xdy xam xof xfl xba xnb xob s.heap [] := w
  have loop0 (hq : (0 ≤ a ∧ a < 4) ∧ (0 ≤ f ∧ f ≤ t ∧ t < 48)) : ∀ (n : Nat) (i g : Int) (H : Heap) (locs : List Loc) (ls : Array Slot), f ≤ i ∧ i ≤ t + 1 → t + 2 ≤ (n : Int) + i → -600000 ≤ g ∧ g ≤ 600000 → (∀ j, f < j → j ≤ i → g ≤ P a j) → (∃ j, f < j ∧ j ≤ t + 1 ∧ g = P a j) → mdG z A s.heap xn xac xdy xam xof xfl xba xnb xob H locs → lv_has ls 7 [(0, .ref z.2.1), (1, .int (zi a)), (2, .int (zi f)), (3, .int (zi t)), (4, .int (zi g)), (5, .int (zi i))] → W p l e R s m args below meth c H locs 0 0 Q (F0 m 34 ls []) := by
    intro n
    induction n with
    | zero =>
      intro i g H locs ls i1 hn9 hbg i3 i4
      exfalso
      omega
    | succ n ih =>
      intro i g H locs ls i1 hn9 hbg i3 i4 w hl
      refine lv_iload hx hb dX1_lowest_34 (lv_at hl 5 rfl) ?_
      refine lv_iload_n hx hb dX1_lowest_36 rfl (lv_at hl 3 rfl) ?_
      refine zr_icmp_gt (tgt := 66) hx hb dX1_lowest_37 (by decide) (by omega) (by omega) (fun c_37 => ?_) (fun c_37 => ?_)
      · skip
        refine lv_iload hx hb dX1_lowest_66 (lv_at hl 4 rfl) ?_
        exact rt dX1_lowest_68 w (⟨rfl, Or.inr (Or.inr ⟨hq.1, hq.2, fun j j1 j2 => i3 j j1 (by omega), i4⟩)⟩) rfl
      · skip
        refine lv_aload_n hx hb dX1_lowest_40 rfl (lv_at hl 0 rfl) ?_
        refine lv_iload_n hx hb dX1_lowest_41 rfl (lv_at hl 1 rfl) ?_
        refine lv_iload hx hb dX1_lowest_42 (lv_at hl 5 rfl) ?_
        refine md_call (as := [.int (zi a), .int (zi i)]) (rest := []) (n := 2) E hml w (md_worth l z P hP hn he a i (by omega) (by omega)) q268 q270 qs15 q271 rfl rfl (by decide +kernel) (by rw [hR]; exact ⟨Nat.le_of_ble_eq_true rfl, Nat.le_of_ble_eq_true rfl⟩) rfl hl.1 rfl (Nat.le_of_ble_eq_true rfl) dX1_lowest_44 (fun k4 u1 H locs hw w => ?_)
        obtain ⟨rfl, hk4⟩ := hw
        have hbk4 : -600000 ≤ k4 ∧ k4 ≤ 600000 := by
          rw [hk4, hP]
          exact pb_bound hn.2 (fun e h1 h2 => (he e h1 h2).2.2.1) _ _
        have w : mdG z A s.heap xn xac xdy xam xof xfl xba xnb xob H locs := w
        refine lv_istore (lv' := [(6, .int (zi k4)), (0, .ref z.2.1), (1, .int (zi a)), (2, .int (zi f)), (3, .int (zi t)), (4, .int (zi g)), (5, .int (zi i))]) hx hb dX1_lowest_47 hl (by decide) rfl (fun ls hl => ?_)
        refine lv_iload hx hb dX1_lowest_49 (lv_at hl 0 rfl) ?_
        refine lv_iload hx hb dX1_lowest_51 (lv_at hl 5 rfl) ?_
        refine zr_icmp_ge (tgt := 60) hx hb dX1_lowest_53 (by decide) (by omega) (by omega) (fun c_53 => ?_) (fun c_53 => ?_)
        · skip
          refine lv_iinc (v := zi (i + 1)) (lv' := [(5, .int (zi (i + 1))), (6, .int (zi k4)), (0, .ref z.2.1), (1, .int (zi a)), (2, .int (zi f)), (3, .int (zi t)), (4, .int (zi g))]) hx hb dX1_lowest_60 hl (k := 6) rfl (zi_add i 1) (by decide) rfl (fun ls hl => ?_)
          refine lv_goto (tgt := 34) hx hb dX1_lowest_63 (by decide) ?_
          exact ih (i + 1) g _ _ ls (by omega) (by omega) hbg (fun j j1 j2 => by
            by_cases q : j = i + 1
            · rw [q]
              omega
            · exact i3 j j1 (by omega)) i4 w (lv_sub hl [2, 3, 4, 5, 6, 0] rfl)
        · skip
          refine lv_iload hx hb dX1_lowest_56 (lv_at hl 0 rfl) ?_
          refine lv_istore (lv' := [(4, .int (zi k4)), (6, .int (zi k4)), (0, .ref z.2.1), (1, .int (zi a)), (2, .int (zi f)), (3, .int (zi t)), (5, .int (zi i))]) hx hb dX1_lowest_58 hl (by decide) rfl (fun ls hl => ?_)
          refine lv_iinc (v := zi (i + 1)) (lv' := [(5, .int (zi (i + 1))), (4, .int (zi k4)), (6, .int (zi k4)), (0, .ref z.2.1), (1, .int (zi a)), (2, .int (zi f)), (3, .int (zi t))]) hx hb dX1_lowest_60 hl (k := 6) rfl (zi_add i 1) (by decide) rfl (fun ls hl => ?_)
          refine lv_goto (tgt := 34) hx hb dX1_lowest_63 (by decide) ?_
          exact ih (i + 1) k4 _ _ ls (by omega) (by omega) (by omega) (fun j j1 j2 => by
            by_cases q : j = i + 1
            · rw [q]
              omega
            · have := i3 j j1 (by omega)
              omega) ⟨i + 1, by omega, by omega, hk4⟩ w (lv_sub hl [3, 4, 5, 6, 1, 0] rfl)
  refine lv_aload_n hx hb dX1_lowest_0 rfl (lv_at hl 0 rfl) ?_
  refine lv_iload_n hx hb dX1_lowest_1 rfl (lv_at hl 1 rfl) ?_
  refine md_call (as := [.int (zi a)]) (rest := []) (n := 1) E hml w (md_bad l z a ha) q248 q250 qs10 q251 rfl rfl (by decide +kernel) (by rw [hR]; exact ⟨Nat.le_of_ble_eq_true rfl, Nat.le_of_ble_eq_true rfl⟩) rfl hl.1 rfl (Nat.le_of_ble_eq_true rfl) dX1_lowest_2 (fun k1 u1 H locs hk1 w => ?_)
  obtain ⟨rfl, hk1⟩ := hk1
  have w : mdG z A s.heap xn xac xdy xam xof xfl xba xnb xob H locs := w
  refine zr_if_eq (tgt := 11) hx hb dX1_lowest_5 (by decide) (by omega) (fun c_5 => ?_) (fun c_5 => ?_)
  · skip
    refine lv_aload_n hx hb dX1_lowest_11 rfl (lv_at hl 0 rfl) ?_
    refine lv_iload_n hx hb dX1_lowest_12 rfl (lv_at hl 2 rfl) ?_
    refine lv_iload_n hx hb dX1_lowest_13 rfl (lv_at hl 3 rfl) ?_
    refine md_call (as := [.int (zi f), .int (zi t)]) (rest := []) (n := 2) E hml w (md_badStretch l z f t hf ht) q325 q327 qs17 q328 rfl rfl (by decide +kernel) (by rw [hR]; exact ⟨Nat.le_of_ble_eq_true rfl, Nat.le_of_ble_eq_true rfl⟩) rfl hl.1 rfl (Nat.le_of_ble_eq_true rfl) dX1_lowest_14 (fun k2 u1 H locs hk2 w => ?_)
    obtain ⟨rfl, hk2⟩ := hk2
    have w : mdG z A s.heap xn xac xdy xam xof xfl xba xnb xob H locs := w
    refine zr_if_eq (tgt := 23) hx hb dX1_lowest_17 (by decide) (by omega) (fun c_17 => ?_) (fun c_17 => ?_)
    · skip
      refine lv_aload_n hx hb dX1_lowest_23 rfl (lv_at hl 0 rfl) ?_
      refine lv_iload_n hx hb dX1_lowest_24 rfl (lv_at hl 1 rfl) ?_
      refine lv_iload_n hx hb dX1_lowest_25 rfl (lv_at hl 2 rfl) ?_
      refine md_call (as := [.int (zi a), .int (zi f)]) (rest := []) (n := 2) E hml w (md_worth l z P hP hn he a f (by omega) (by omega)) q268 q270 qs15 q271 rfl rfl (by decide +kernel) (by rw [hR]; exact ⟨Nat.le_of_ble_eq_true rfl, Nat.le_of_ble_eq_true rfl⟩) rfl hl.1 rfl (Nat.le_of_ble_eq_true rfl) dX1_lowest_26 (fun k3 u1 H locs hw w => ?_)
      obtain ⟨rfl, hk3⟩ := hw
      have hbk3 : -600000 ≤ k3 ∧ k3 ≤ 600000 := by
        rw [hk3, hP]
        exact pb_bound hn.2 (fun e h1 h2 => (he e h1 h2).2.2.1) _ _
      have w : mdG z A s.heap xn xac xdy xam xof xfl xba xnb xob H locs := w
      refine lv_istore (lv' := [(4, .int (zi k3)), (0, .ref z.2.1), (1, .int (zi a)), (2, .int (zi f)), (3, .int (zi t))]) hx hb dX1_lowest_29 hl (by decide) rfl (fun ls hl => ?_)
      refine lv_iload_n hx hb dX1_lowest_31 rfl (lv_at hl 3 rfl) ?_
      refine lv_istore (lv' := [(5, .int (zi f)), (4, .int (zi k3)), (0, .ref z.2.1), (1, .int (zi a)), (2, .int (zi f)), (3, .int (zi t))]) hx hb dX1_lowest_32 hl (by decide) rfl (fun ls hl => ?_)
      exact loop0 (by omega) 50 f k3 _ _ ls (by omega) (by omega) hbk3 (fun j j1 j2 => by omega) ⟨f + 1, by omega, by omega, hk3⟩ w (lv_sub hl [2, 3, 4, 5, 1, 0] rfl)
    · skip
      refine zr_ldc hx hb (-2000000) hown (hts _ q329) (by decide) dX1_lowest_20 ?_
      exact rt dX1_lowest_22 w (⟨rfl, Or.inr (Or.inl ⟨by omega, by omega, rfl⟩)⟩) rfl
  · skip
    refine zr_ldc hx hb (-1000000) hown (hts _ q320) (by decide) dX1_lowest_8 ?_
    exact rt dX1_lowest_10 w (⟨rfl, Or.inl ⟨by omega, rfl⟩⟩) rfl
set_option maxHeartbeats 4000000 in
set_option maxRecDepth 100000 in
theorem md_total (l : Launch) (z : mdZ) {xac xdy xam xof xfl xob : Int → Int} {xn xba xnb : Int} (P : Int → Int → Int) (hP : P = pb xn xac xdy xam xof) (hn : 0 ≤ xn ∧ xn ≤ 60) (he : eok xac xdy xam xof xn) (a f t : Int) (ha : -2147483648 ≤ a ∧ a ≤ 2147483647) (hf : -2147483648 ≤ f ∧ f ≤ 2147483647) (ht : -2147483648 ≤ t ∧ t ≤ 2147483647) : mdM l yX1_total cX1_total 6 .int ({ frames := 1, cells := 0, slots := 0, locals := 24 }) z (mdC xn xac xdy xam xof xfl xba xnb xob) [.int (zi a), .int (zi f), .int (zi t)] (fun k u' => u' = mdC xn xac xdy xam xof xfl xba xnb xob ∧ ((¬ ((0 ≤ a ∧ a < 4) ∧ (0 ≤ f ∧ f ≤ t ∧ t < 48)) ∧ k = -2000000000) ∨ (((0 ≤ a ∧ a < 4) ∧ (0 ≤ f ∧ f ≤ t ∧ t < 48)) ∧ k = gs (P a) (t + 1).toNat - gs (P a) f.toNat))) := by
  refine md_enter (by decide) rfl (Nat.le_of_ble_eq_true rfl) ?_
  intro p e R s m args below meth c A Q hR E hml rt w ls hl
  have hx := E.1
  have hb := E.2.1
  have hts := E.2.2.1
  have hown := E.2.2.2.1
  have hl : lv_has ls 6 [(0, .ref z.2.1), (1, .int (zi a)), (2, .int (zi f)), (3, .int (zi t))] := hl
  have w : mdG z A s.heap xn xac xdy xam xof xfl xba xnb xob s.heap [] := w
  have loop0 (hq : (0 ≤ a ∧ a < 4) ∧ (0 ≤ f ∧ f ≤ t ∧ t < 48)) : ∀ (n : Nat) (i c1 : Int) (H : Heap) (locs : List Loc) (ls : Array Slot), f ≤ i ∧ i ≤ t + 1 → t + 2 ≤ (n : Int) + i → c1 = gs (P a) i.toNat - gs (P a) f.toNat → mdG z A s.heap xn xac xdy xam xof xfl xba xnb xob H locs → lv_has ls 6 [(0, .ref z.2.1), (1, .int (zi a)), (2, .int (zi f)), (3, .int (zi t)), (4, .int (zi c1)), (5, .int (zi i))] → W p l e R s m args below meth c H locs 0 0 Q (F0 m 26 ls []) := by
    intro n
    induction n with
    | zero =>
      intro i c1 H locs ls i1 hn9 i3
      exfalso
      omega
    | succ n ih =>
      intro i c1 H locs ls i1 hn9 i3 w hl
      refine lv_iload hx hb dX1_total_26 (lv_at hl 5 rfl) ?_
      refine lv_iload_n hx hb dX1_total_28 rfl (lv_at hl 3 rfl) ?_
      refine zr_icmp_gt (tgt := 50) hx hb dX1_total_29 (by decide) (by omega) (by omega) (fun c_29 => ?_) (fun c_29 => ?_)
      · skip
        refine lv_iload hx hb dX1_total_50 (lv_at hl 4 rfl) ?_
        exact rt dX1_total_52 w (⟨rfl, Or.inr ⟨hq, by rw [i3, show i = t + 1 by omega]⟩⟩) rfl
      · skip
        refine lv_iload hx hb dX1_total_32 (lv_at hl 4 rfl) ?_
        refine lv_aload_n hx hb dX1_total_34 rfl (lv_at hl 0 rfl) ?_
        refine lv_iload_n hx hb dX1_total_35 rfl (lv_at hl 1 rfl) ?_
        refine lv_iload hx hb dX1_total_36 (lv_at hl 5 rfl) ?_
        refine md_call (as := [.int (zi a), .int (zi i)]) (rest := [.int (zi c1)]) (n := 2) E hml w (md_worth l z P hP hn he a i (by omega) (by omega)) q268 q270 qs15 q271 rfl rfl (by decide +kernel) (by rw [hR]; exact ⟨Nat.le_of_ble_eq_true rfl, Nat.le_of_ble_eq_true rfl⟩) rfl hl.1 rfl (Nat.le_of_ble_eq_true rfl) dX1_total_38 (fun k4 u1 H locs hw w => ?_)
        obtain ⟨rfl, hk4⟩ := hw
        have hbk4 : -600000 ≤ k4 ∧ k4 ≤ 600000 := by
          rw [hk4, hP]
          exact pb_bound hn.2 (fun e h1 h2 => (he e h1 h2).2.2.1) _ _
        have w : mdG z A s.heap xn xac xdy xam xof xfl xba xnb xob H locs := w
        refine zr_iadd hx hb dX1_total_41 ?_
        refine lv_istore (lv' := [(4, .int (zi (c1 + k4))), (0, .ref z.2.1), (1, .int (zi a)), (2, .int (zi f)), (3, .int (zi t)), (5, .int (zi i))]) hx hb dX1_total_42 hl (by decide) rfl (fun ls hl => ?_)
        refine lv_iinc (v := zi (i + 1)) (lv' := [(5, .int (zi (i + 1))), (4, .int (zi (c1 + k4))), (0, .ref z.2.1), (1, .int (zi a)), (2, .int (zi f)), (3, .int (zi t))]) hx hb dX1_total_44 hl (k := 5) rfl (zi_add i 1) (by decide) rfl (fun ls hl => ?_)
        refine lv_goto (tgt := 26) hx hb dX1_total_47 (by decide) ?_
        exact ih (i + 1) (c1 + k4) _ _ ls (by omega) (by omega) (by rw [gs_succ (P a) (by omega)]; omega) w (lv_sub hl [2, 3, 4, 5, 1, 0] rfl)
  refine lv_aload_n hx hb dX1_total_0 rfl (lv_at hl 0 rfl) ?_
  refine lv_iload_n hx hb dX1_total_1 rfl (lv_at hl 1 rfl) ?_
  refine md_call (as := [.int (zi a)]) (rest := []) (n := 1) E hml w (md_bad l z a ha) q248 q250 qs10 q251 rfl rfl (by decide +kernel) (by rw [hR]; exact ⟨Nat.le_of_ble_eq_true rfl, Nat.le_of_ble_eq_true rfl⟩) rfl hl.1 rfl (Nat.le_of_ble_eq_true rfl) dX1_total_2 (fun k1 u1 H locs hk1 w => ?_)
  obtain ⟨rfl, hk1⟩ := hk1
  have w : mdG z A s.heap xn xac xdy xam xof xfl xba xnb xob H locs := w
  refine zr_if_ne (tgt := 17) hx hb dX1_total_5 (by decide) (by omega) (fun c_5 => ?_) (fun c_5 => ?_)
  · skip
    refine zr_ldc hx hb (-2000000000) hown (hts _ q334) (by decide) dX1_total_17 ?_
    exact rt dX1_total_19 w (⟨rfl, Or.inl ⟨by omega, rfl⟩⟩) rfl
  · skip
    refine lv_aload_n hx hb dX1_total_8 rfl (lv_at hl 0 rfl) ?_
    refine lv_iload_n hx hb dX1_total_9 rfl (lv_at hl 2 rfl) ?_
    refine lv_iload_n hx hb dX1_total_10 rfl (lv_at hl 3 rfl) ?_
    refine md_call (as := [.int (zi f), .int (zi t)]) (rest := []) (n := 2) E hml w (md_badStretch l z f t hf ht) q325 q327 qs17 q328 rfl rfl (by decide +kernel) (by rw [hR]; exact ⟨Nat.le_of_ble_eq_true rfl, Nat.le_of_ble_eq_true rfl⟩) rfl hl.1 rfl (Nat.le_of_ble_eq_true rfl) dX1_total_11 (fun k2 u1 H locs hk2 w => ?_)
    obtain ⟨rfl, hk2⟩ := hk2
    have w : mdG z A s.heap xn xac xdy xam xof xfl xba xnb xob H locs := w
    refine zr_if_eq (tgt := 20) hx hb dX1_total_14 (by decide) (by omega) (fun c_14 => ?_) (fun c_14 => ?_)
    · skip
      refine zr_iconst hx hb dX1_total_20 ?_
      refine lv_istore (lv' := [(4, .int (zi 0)), (0, .ref z.2.1), (1, .int (zi a)), (2, .int (zi f)), (3, .int (zi t))]) hx hb dX1_total_21 hl (by decide) rfl (fun ls hl => ?_)
      refine lv_iload_n hx hb dX1_total_23 rfl (lv_at hl 3 rfl) ?_
      refine lv_istore (lv' := [(5, .int (zi f)), (4, .int (zi 0)), (0, .ref z.2.1), (1, .int (zi a)), (2, .int (zi f)), (3, .int (zi t))]) hx hb dX1_total_24 hl (by decide) rfl (fun ls hl => ?_)
      exact loop0 (by omega) 50 f 0 _ _ ls (by omega) (by omega) (by omega) w (lv_sub hl [2, 3, 4, 5, 1, 0] rfl)
    · skip
      refine zr_ldc hx hb (-2000000000) hown (hts _ q334) (by decide) dX1_total_17 ?_
      exact rt dX1_total_19 w (⟨rfl, Or.inl ⟨by omega, rfl⟩⟩) rfl
set_option maxHeartbeats 4000000 in
set_option maxRecDepth 100000 in
theorem md_firstBelow (l : Launch) (z : mdZ) {xac xdy xam xof xfl xob : Int → Int} {xn xba xnb : Int} (P : Int → Int → Int) (hP : P = pb xn xac xdy xam xof) (hn : 0 ≤ xn ∧ xn ≤ 60) (he : eok xac xdy xam xof xn) (a d b : Int) (ha : -2147483648 ≤ a ∧ a ≤ 2147483647) (hd : -2147483648 ≤ d ∧ d ≤ 2147483647) (hb0 : -2147483648 ≤ b ∧ b ≤ 2147483647) : mdM l yX1_firstBelow cX1_firstBelow 5 .int ({ frames := 1, cells := 0, slots := 0, locals := 24 }) z (mdC xn xac xdy xam xof xfl xba xnb xob) [.int (zi a), .int (zi d), .int (zi b)] (fun k u' => u' = mdC xn xac xdy xam xof xfl xba xnb xob ∧ ((¬ (0 ≤ a ∧ a < 4) ∧ k = -1) ∨ ((0 ≤ a ∧ a < 4) ∧ ¬ (0 ≤ d ∧ d < 48) ∧ k = -2) ∨ ((0 ≤ a ∧ a < 4) ∧ (0 ≤ d ∧ d < 48) ∧ ((k = -3 ∧ ∀ j, d < j → j ≤ 48 → b ≤ P a j) ∨ ((d ≤ k ∧ k < 48) ∧ P a (k + 1) < b ∧ ∀ j, d < j → j ≤ k → b ≤ P a j))))) := by
  refine md_enter (by decide) rfl (Nat.le_of_ble_eq_true rfl) ?_
  intro p e R s m args below meth c A Q hR E hml rt w ls hl
  have hx := E.1
  have hb := E.2.1
  have hts := E.2.2.1
  have hown := E.2.2.2.1
  have hl : lv_has ls 5 [(0, .ref z.2.1), (1, .int (zi a)), (2, .int (zi d)), (3, .int (zi b))] := hl
  have w : mdG z A s.heap xn xac xdy xam xof xfl xba xnb xob s.heap [] := w
  have loop0 (hq : (0 ≤ a ∧ a < 4) ∧ (0 ≤ d ∧ d < 48)) : ∀ (n : Nat) (i : Int) (H : Heap) (locs : List Loc) (ls : Array Slot), d ≤ i ∧ i ≤ 48 → 49 ≤ (n : Int) + i → (∀ j, d < j → j ≤ i → b ≤ P a j) → mdG z A s.heap xn xac xdy xam xof xfl xba xnb xob H locs → lv_has ls 5 [(0, .ref z.2.1), (1, .int (zi a)), (2, .int (zi d)), (3, .int (zi b)), (4, .int (zi i))] → W p l e R s m args below meth c H locs 0 0 Q (F0 m 24 ls []) := by
    intro n
    induction n with
    | zero =>
      intro i H locs ls i1 hn9 i3
      exfalso
      omega
    | succ n ih =>
      intro i H locs ls i1 hn9 i3 w hl
      refine lv_iload hx hb dX1_firstBelow_24 (lv_at hl 4 rfl) ?_
      refine zr_bipush hx hb dX1_firstBelow_26 (by decide) ?_
      refine zr_icmp_ge (tgt := 51) hx hb dX1_firstBelow_28 (by decide) (by omega) (by omega) (fun c_28 => ?_) (fun c_28 => ?_)
      · skip
        refine zr_bipush hx hb dX1_firstBelow_51 (by decide) ?_
        exact rt dX1_firstBelow_53 w (⟨rfl, Or.inr (Or.inr ⟨hq.1, hq.2, Or.inl ⟨rfl, fun j j1 j2 => i3 j j1 (by omega)⟩⟩)⟩) rfl
      · skip
        refine lv_aload_n hx hb dX1_firstBelow_31 rfl (lv_at hl 0 rfl) ?_
        refine lv_iload_n hx hb dX1_firstBelow_32 rfl (lv_at hl 1 rfl) ?_
        refine lv_iload hx hb dX1_firstBelow_33 (lv_at hl 4 rfl) ?_
        refine md_call (as := [.int (zi a), .int (zi i)]) (rest := []) (n := 2) E hml w (md_worth l z P hP hn he a i (by omega) (by omega)) q268 q270 qs15 q271 rfl rfl (by decide +kernel) (by rw [hR]; exact ⟨Nat.le_of_ble_eq_true rfl, Nat.le_of_ble_eq_true rfl⟩) rfl hl.1 rfl (Nat.le_of_ble_eq_true rfl) dX1_firstBelow_35 (fun k4 u1 H locs hw w => ?_)
        obtain ⟨rfl, hk4⟩ := hw
        have hbk4 : -600000 ≤ k4 ∧ k4 ≤ 600000 := by
          rw [hk4, hP]
          exact pb_bound hn.2 (fun e h1 h2 => (he e h1 h2).2.2.1) _ _
        have w : mdG z A s.heap xn xac xdy xam xof xfl xba xnb xob H locs := w
        refine lv_iload_n hx hb dX1_firstBelow_38 rfl (lv_at hl 3 rfl) ?_
        refine zr_icmp_ge (tgt := 45) hx hb dX1_firstBelow_39 (by decide) (by omega) (by omega) (fun c_39 => ?_) (fun c_39 => ?_)
        · skip
          refine lv_iinc (v := zi (i + 1)) (lv' := [(4, .int (zi (i + 1))), (0, .ref z.2.1), (1, .int (zi a)), (2, .int (zi d)), (3, .int (zi b))]) hx hb dX1_firstBelow_45 hl (k := 4) rfl (zi_add i 1) (by decide) rfl (fun ls hl => ?_)
          refine lv_goto (tgt := 24) hx hb dX1_firstBelow_48 (by decide) ?_
          exact ih (i + 1) _ _ ls (by omega) (by omega) (fun j j1 j2 => by
            by_cases q : j = i + 1
            · rw [q]
              omega
            · exact i3 j j1 (by omega)) w (lv_sub hl [1, 2, 3, 4, 0] rfl)
        · skip
          refine lv_iload hx hb dX1_firstBelow_42 (lv_at hl 4 rfl) ?_
          exact rt dX1_firstBelow_44 w (⟨rfl, Or.inr (Or.inr ⟨hq.1, hq.2, Or.inr ⟨by omega, by omega, i3⟩⟩)⟩) rfl
  refine lv_aload_n hx hb dX1_firstBelow_0 rfl (lv_at hl 0 rfl) ?_
  refine lv_iload_n hx hb dX1_firstBelow_1 rfl (lv_at hl 1 rfl) ?_
  refine md_call (as := [.int (zi a)]) (rest := []) (n := 1) E hml w (md_bad l z a ha) q248 q250 qs10 q251 rfl rfl (by decide +kernel) (by rw [hR]; exact ⟨Nat.le_of_ble_eq_true rfl, Nat.le_of_ble_eq_true rfl⟩) rfl hl.1 rfl (Nat.le_of_ble_eq_true rfl) dX1_firstBelow_2 (fun k1 u1 H locs hk1 w => ?_)
  obtain ⟨rfl, hk1⟩ := hk1
  have w : mdG z A s.heap xn xac xdy xam xof xfl xba xnb xob H locs := w
  refine zr_if_eq (tgt := 10) hx hb dX1_firstBelow_5 (by decide) (by omega) (fun c_5 => ?_) (fun c_5 => ?_)
  · skip
    refine lv_aload_n hx hb dX1_firstBelow_10 rfl (lv_at hl 0 rfl) ?_
    refine lv_iload_n hx hb dX1_firstBelow_11 rfl (lv_at hl 2 rfl) ?_
    refine md_call (as := [.int (zi d)]) (rest := []) (n := 1) E hml w (md_badDay l z d hd) q252 q254 qs11 q255 rfl rfl (by decide +kernel) (by rw [hR]; exact ⟨Nat.le_of_ble_eq_true rfl, Nat.le_of_ble_eq_true rfl⟩) rfl hl.1 rfl (Nat.le_of_ble_eq_true rfl) dX1_firstBelow_12 (fun k2 u1 H locs hk2 w => ?_)
    obtain ⟨rfl, hk2⟩ := hk2
    have w : mdG z A s.heap xn xac xdy xam xof xfl xba xnb xob H locs := w
    refine zr_if_eq (tgt := 21) hx hb dX1_firstBelow_15 (by decide) (by omega) (fun c_15 => ?_) (fun c_15 => ?_)
    · skip
      refine lv_iload_n hx hb dX1_firstBelow_21 rfl (lv_at hl 2 rfl) ?_
      refine lv_istore (lv' := [(4, .int (zi d)), (0, .ref z.2.1), (1, .int (zi a)), (2, .int (zi d)), (3, .int (zi b))]) hx hb dX1_firstBelow_22 hl (by decide) rfl (fun ls hl => ?_)
      exact loop0 (by omega) 50 d _ _ ls (by omega) (by omega) (fun j j1 j2 => by omega) w (lv_sub hl [1, 2, 3, 4, 0] rfl)
    · skip
      refine zr_bipush hx hb dX1_firstBelow_18 (by decide) ?_
      exact rt dX1_firstBelow_20 w (⟨rfl, Or.inr (Or.inl ⟨by omega, by omega, rfl⟩)⟩) rfl
  · skip
    refine zr_iconst hx hb dX1_firstBelow_8 ?_
    exact rt dX1_firstBelow_9 w (⟨rfl, Or.inl ⟨by omega, rfl⟩⟩) rfl
end
section
/-! BackdatedBookModel: spare, free, firstFree, daysBelow -/
set_option maxHeartbeats 4000000 in
set_option maxRecDepth 100000 in
theorem md_spare (l : Launch) (z : mdZ) {xac xdy xam xof xfl xob : Int → Int} {xn xba xnb : Int} (P : Int → Int → Int) (hP : P = pb xn xac xdy xam xof) (hn : 0 ≤ xn ∧ xn ≤ 60) (he : eok xac xdy xam xof xn) (hf0 : flok xfl) (a d : Int) (ha : 0 ≤ a ∧ a < 4) (hd : 0 ≤ d ∧ d < 48) : mdM l yX1_spare cX1_spare 6 .int ({ frames := 1, cells := 0, slots := 0, locals := 24 }) z (mdC xn xac xdy xam xof xfl xba xnb xob) [.int (zi a), .int (zi d)] (fun k u' => u' = mdC xn xac xdy xam xof xfl xba xnb xob ∧ ∃ g : Int, lwp P a d 47 g ∧ ((g - xfl a < 0 ∧ k = 0) ∨ (0 ≤ g - xfl a ∧ k = g - xfl a))) := by
  refine md_enter (by decide) rfl (Nat.le_of_ble_eq_true rfl) ?_
  intro p e R s m args below meth c A Q hR E hml rt w ls hl
  have hx := E.1
  have hb := E.2.1
  have hts := E.2.2.1
  have hown := E.2.2.2.1
  have hl : lv_has ls 6 [(0, .ref z.2.1), (1, .int (zi a)), (2, .int (zi d))] := hl
  have w : mdG z A s.heap xn xac xdy xam xof xfl xba xnb xob s.heap [] := w
  have hfl := hf0 a ha.1 ha.2
  have loop : ∀ (n : Nat) (i g : Int) (H : Heap) (locs : List Loc) (ls : Array Slot), d ≤ i ∧ i ≤ 48 → 49 ≤ (n : Int) + i → -700000 ≤ g ∧ g ≤ 700000 → (∀ j, d < j → j ≤ i → g ≤ P a j - xfl a) → (∃ j, d < j ∧ j ≤ 48 ∧ g = P a j - xfl a) → mdG z A s.heap xn xac xdy xam xof xfl xba xnb xob H locs → lv_has ls 6 [(0, .ref z.2.1), (1, .int (zi a)), (2, .int (zi d)), (3, .int (zi g)), (4, .int (zi i))] → W p l e R s m args below meth c H locs 0 0 Q (F0 m 17 ls []) := by
    intro n
    induction n with
    | zero =>
      intro i g H locs ls i1 hn9 hbg i3 i4
      exfalso
      omega
    | succ n ih =>
      intro i g H locs ls i1 hn9 hbg i3 i4 w hl
      refine lv_iload hx hb dX1_spare_17 (lv_at hl 4 rfl) ?_
      refine zr_bipush hx hb dX1_spare_19 (by decide) ?_
      refine zr_icmp_ge (tgt := 55) hx hb dX1_spare_21 (by decide) (by omega) (by omega) (fun c_21 => ?_) (fun c_21 => ?_)
      · skip
        refine lv_iload_n hx hb dX1_spare_55 rfl (lv_at hl 3 rfl) ?_
        refine zr_if_ge (tgt := 63) hx hb dX1_spare_56 (by decide) (by omega) (fun c_56 => ?_) (fun c_56 => ?_)
        · skip
          refine lv_iload_n hx hb dX1_spare_63 rfl (lv_at hl 3 rfl) ?_
          exact rt dX1_spare_64 w (⟨rfl, g + xfl a, ⟨fun j j1 j2 => by have := i3 j j1 (by omega); omega, by obtain ⟨j, j1, j2, j3⟩ := i4; exact ⟨j, j1, by omega, by omega⟩⟩, by omega⟩) rfl
        · skip
          refine zr_iconst hx hb dX1_spare_59 ?_
          refine lv_goto (tgt := 64) hx hb dX1_spare_60 (by decide) ?_
          exact rt dX1_spare_64 w (⟨rfl, g + xfl a, ⟨fun j j1 j2 => by have := i3 j j1 (by omega); omega, by obtain ⟨j, j1, j2, j3⟩ := i4; exact ⟨j, j1, by omega, by omega⟩⟩, by omega⟩) rfl
      · skip
        refine lv_aload_n hx hb dX1_spare_24 rfl (lv_at hl 0 rfl) ?_
        refine lv_iload_n hx hb dX1_spare_25 rfl (lv_at hl 1 rfl) ?_
        refine lv_iload hx hb dX1_spare_26 (lv_at hl 4 rfl) ?_
        refine md_call (as := [.int (zi a), .int (zi i)]) (rest := []) (n := 2) E hml w (md_worth l z P hP hn he a i (by omega) (by omega)) q268 q270 qs15 q271 rfl rfl (by decide +kernel) (by rw [hR]; exact ⟨Nat.le_of_ble_eq_true rfl, Nat.le_of_ble_eq_true rfl⟩) rfl hl.1 rfl (Nat.le_of_ble_eq_true rfl) dX1_spare_28 (fun k4 u1 H locs hw w => ?_)
        obtain ⟨rfl, hk4⟩ := hw
        have hbk4 : -600000 ≤ k4 ∧ k4 ≤ 600000 := by
          rw [hk4, hP]
          exact pb_bound hn.2 (fun e h1 h2 => (he e h1 h2).2.2.1) _ _
        have w : mdG z A s.heap xn xac xdy xam xof xfl xba xnb xob H locs := w
        refine lv_aload_n hx hb dX1_spare_31 rfl (lv_at hl 0 rfl) ?_
        refine mg_fl E w dX1_spare_32 ?_
        refine lv_iload_n hx hb dX1_spare_35 rfl (lv_at hl 1 rfl) ?_
        refine ml_fl E w (v := xfl a) (by omega) rfl dX1_spare_36 ?_
        refine zr_isub hx hb dX1_spare_37 ?_
        refine lv_istore (lv' := [(5, .int (zi (k4 - (xfl a)))), (0, .ref z.2.1), (1, .int (zi a)), (2, .int (zi d)), (3, .int (zi g)), (4, .int (zi i))]) hx hb dX1_spare_38 hl (by decide) rfl (fun ls hl => ?_)
        refine lv_iload hx hb dX1_spare_40 (lv_at hl 0 rfl) ?_
        refine lv_iload_n hx hb dX1_spare_42 rfl (lv_at hl 4 rfl) ?_
        refine zr_icmp_ge (tgt := 49) hx hb dX1_spare_43 (by decide) (by omega) (by omega) (fun c_43 => ?_) (fun c_43 => ?_)
        · skip
          refine lv_iinc (v := zi (i + 1)) (lv' := [(4, .int (zi (i + 1))), (5, .int (zi (k4 - (xfl a)))), (0, .ref z.2.1), (1, .int (zi a)), (2, .int (zi d)), (3, .int (zi g))]) hx hb dX1_spare_49 hl (k := 5) rfl (zi_add i 1) (by decide) rfl (fun ls hl => ?_)
          refine lv_goto (tgt := 17) hx hb dX1_spare_52 (by decide) ?_
          exact ih (i + 1) g _ _ ls (by omega) (by omega) hbg (fun j j1 j2 => by
            by_cases q : j = i + 1
            · rw [q]
              omega
            · exact i3 j j1 (by omega)) i4 w (lv_sub hl [2, 3, 4, 5, 0] rfl)
        · skip
          refine lv_iload hx hb dX1_spare_46 (lv_at hl 0 rfl) ?_
          refine lv_istore_n (lv' := [(3, .int (zi (k4 - (xfl a)))), (5, .int (zi (k4 - (xfl a)))), (0, .ref z.2.1), (1, .int (zi a)), (2, .int (zi d)), (4, .int (zi i))]) hx hb dX1_spare_48 rfl hl (by decide) rfl (fun ls hl => ?_)
          refine lv_iinc (v := zi (i + 1)) (lv' := [(4, .int (zi (i + 1))), (3, .int (zi (k4 - (xfl a)))), (5, .int (zi (k4 - (xfl a)))), (0, .ref z.2.1), (1, .int (zi a)), (2, .int (zi d))]) hx hb dX1_spare_49 hl (k := 5) rfl (zi_add i 1) (by decide) rfl (fun ls hl => ?_)
          refine lv_goto (tgt := 17) hx hb dX1_spare_52 (by decide) ?_
          exact ih (i + 1) (k4 - xfl a) _ _ ls (by omega) (by omega) (by omega) (fun j j1 j2 => by
            by_cases q : j = i + 1
            · rw [q]
              omega
            · have := i3 j j1 (by omega)
              omega) ⟨i + 1, by omega, by omega, by omega⟩ w (lv_sub hl [3, 4, 5, 1, 0] rfl)
  refine lv_aload_n hx hb dX1_spare_0 rfl (lv_at hl 0 rfl) ?_
  refine lv_iload_n hx hb dX1_spare_1 rfl (lv_at hl 1 rfl) ?_
  refine lv_iload_n hx hb dX1_spare_2 rfl (lv_at hl 2 rfl) ?_
  refine md_call (as := [.int (zi a), .int (zi d)]) (rest := []) (n := 2) E hml w (md_worth l z P hP hn he a d (by omega) (by omega)) q268 q270 qs15 q271 rfl rfl (by decide +kernel) (by rw [hR]; exact ⟨Nat.le_of_ble_eq_true rfl, Nat.le_of_ble_eq_true rfl⟩) rfl hl.1 rfl (Nat.le_of_ble_eq_true rfl) dX1_spare_3 (fun k3 u1 H locs hw w => ?_)
  obtain ⟨rfl, hk3⟩ := hw
  have hbk3 : -600000 ≤ k3 ∧ k3 ≤ 600000 := by
    rw [hk3, hP]
    exact pb_bound hn.2 (fun e h1 h2 => (he e h1 h2).2.2.1) _ _
  have w : mdG z A s.heap xn xac xdy xam xof xfl xba xnb xob H locs := w
  refine lv_aload_n hx hb dX1_spare_6 rfl (lv_at hl 0 rfl) ?_
  refine mg_fl E w dX1_spare_7 ?_
  refine lv_iload_n hx hb dX1_spare_10 rfl (lv_at hl 1 rfl) ?_
  refine ml_fl E w (v := xfl a) (by omega) rfl dX1_spare_11 ?_
  refine zr_isub hx hb dX1_spare_12 ?_
  refine lv_istore_n (lv' := [(3, .int (zi (k3 - (xfl a)))), (0, .ref z.2.1), (1, .int (zi a)), (2, .int (zi d))]) hx hb dX1_spare_13 rfl hl (by decide) rfl (fun ls hl => ?_)
  refine lv_iload_n hx hb dX1_spare_14 rfl (lv_at hl 3 rfl) ?_
  refine lv_istore (lv' := [(4, .int (zi d)), (3, .int (zi (k3 - (xfl a)))), (0, .ref z.2.1), (1, .int (zi a)), (2, .int (zi d))]) hx hb dX1_spare_15 hl (by decide) rfl (fun ls hl => ?_)
  exact loop 50 d (k3 - xfl a) _ _ ls (by omega) (by omega) (by omega) (fun j j1 j2 => by omega) ⟨d + 1, by omega, by omega, by omega⟩ w (lv_sub hl [2, 3, 4, 1, 0] rfl)
set_option maxHeartbeats 4000000 in
set_option maxRecDepth 100000 in
theorem md_free (l : Launch) (z : mdZ) {xac xdy xam xof xfl xob : Int → Int} {xn xba xnb : Int} (P : Int → Int → Int) (hP : P = pb xn xac xdy xam xof) (hn : 0 ≤ xn ∧ xn ≤ 60) (he : eok xac xdy xam xof xn) (hf0 : flok xfl) (a d : Int) (ha : -2147483648 ≤ a ∧ a ≤ 2147483647) (hd : -2147483648 ≤ d ∧ d ≤ 2147483647) : mdM l yX1_free cX1_free 3 .int ({ frames := 2, cells := 0, slots := 0, locals := 49 }) z (mdC xn xac xdy xam xof xfl xba xnb xob) [.int (zi a), .int (zi d)] (fun k u' => u' = mdC xn xac xdy xam xof xfl xba xnb xob ∧ ((¬ (0 ≤ a ∧ a < 4) ∧ k = -1) ∨ ((0 ≤ a ∧ a < 4) ∧ ¬ (0 ≤ d ∧ d < 48) ∧ k = -2) ∨ ((0 ≤ a ∧ a < 4) ∧ (0 ≤ d ∧ d < 48) ∧ ∃ g : Int, lwp P a d 47 g ∧ ((g - xfl a < 0 ∧ k = 0) ∨ (0 ≤ g - xfl a ∧ k = g - xfl a))))) := by
  refine md_enter (by decide) rfl (Nat.le_of_ble_eq_true rfl) ?_
  intro p e R s m args below meth c A Q hR E hml rt w ls hl
  have hx := E.1
  have hb := E.2.1
  have hts := E.2.2.1
  have hown := E.2.2.2.1
  have hl : lv_has ls 3 [(0, .ref z.2.1), (1, .int (zi a)), (2, .int (zi d))] := hl
  have w : mdG z A s.heap xn xac xdy xam xof xfl xba xnb xob s.heap [] := w
  refine lv_aload_n hx hb dX1_free_0 rfl (lv_at hl 0 rfl) ?_
  refine lv_iload_n hx hb dX1_free_1 rfl (lv_at hl 1 rfl) ?_
  refine md_call (as := [.int (zi a)]) (rest := []) (n := 1) E hml w (md_bad l z a ha) q248 q250 qs10 q251 rfl rfl (by decide +kernel) (by rw [hR]; exact ⟨Nat.le_of_ble_eq_true rfl, Nat.le_of_ble_eq_true rfl⟩) rfl hl.1 rfl (Nat.le_of_ble_eq_true rfl) dX1_free_2 (fun k1 u1 H locs hk1 w => ?_)
  obtain ⟨rfl, hk1⟩ := hk1
  have w : mdG z A s.heap xn xac xdy xam xof xfl xba xnb xob H locs := w
  refine zr_if_eq (tgt := 10) hx hb dX1_free_5 (by decide) (by omega) (fun c_5 => ?_) (fun c_5 => ?_)
  · skip
    refine lv_aload_n hx hb dX1_free_10 rfl (lv_at hl 0 rfl) ?_
    refine lv_iload_n hx hb dX1_free_11 rfl (lv_at hl 2 rfl) ?_
    refine md_call (as := [.int (zi d)]) (rest := []) (n := 1) E hml w (md_badDay l z d hd) q252 q254 qs11 q255 rfl rfl (by decide +kernel) (by rw [hR]; exact ⟨Nat.le_of_ble_eq_true rfl, Nat.le_of_ble_eq_true rfl⟩) rfl hl.1 rfl (Nat.le_of_ble_eq_true rfl) dX1_free_12 (fun k2 u1 H locs hk2 w => ?_)
    obtain ⟨rfl, hk2⟩ := hk2
    have w : mdG z A s.heap xn xac xdy xam xof xfl xba xnb xob H locs := w
    refine zr_if_eq (tgt := 21) hx hb dX1_free_15 (by decide) (by omega) (fun c_15 => ?_) (fun c_15 => ?_)
    · skip
      refine lv_aload_n hx hb dX1_free_21 rfl (lv_at hl 0 rfl) ?_
      refine lv_iload_n hx hb dX1_free_22 rfl (lv_at hl 1 rfl) ?_
      refine lv_iload_n hx hb dX1_free_23 rfl (lv_at hl 2 rfl) ?_
      refine md_call (as := [.int (zi a), .int (zi d)]) (rest := []) (n := 2) E hml w (md_spare l z P hP hn he hf0 a d (by omega) (by omega)) q343 q345 qs18 q346 rfl rfl (by decide +kernel) (by rw [hR]; exact ⟨Nat.le_of_ble_eq_true rfl, Nat.le_of_ble_eq_true rfl⟩) rfl hl.1 rfl (Nat.le_of_ble_eq_true rfl) dX1_free_24 (fun k3 u1 H locs hw w => ?_)
      obtain ⟨rfl, hk3⟩ := hw
      have w : mdG z A s.heap xn xac xdy xam xof xfl xba xnb xob H locs := w
      exact rt dX1_free_27 w (⟨rfl, Or.inr (Or.inr ⟨by omega, by omega, hk3⟩)⟩) rfl
    · skip
      refine zr_bipush hx hb dX1_free_18 (by decide) ?_
      exact rt dX1_free_20 w (⟨rfl, Or.inr (Or.inl ⟨by omega, by omega, rfl⟩)⟩) rfl
  · skip
    refine zr_iconst hx hb dX1_free_8 ?_
    exact rt dX1_free_9 w (⟨rfl, Or.inl ⟨by omega, rfl⟩⟩) rfl
set_option maxHeartbeats 4000000 in
set_option maxRecDepth 100000 in
theorem md_firstFree (l : Launch) (z : mdZ) {xac xdy xam xof xfl xob : Int → Int} {xn xba xnb : Int} (P : Int → Int → Int) (hP : P = pb xn xac xdy xam xof) (hn : 0 ≤ xn ∧ xn ≤ 60) (he : eok xac xdy xam xof xn) (hf0 : flok xfl) (a x : Int) (ha : -2147483648 ≤ a ∧ a ≤ 2147483647) (hx0 : -2147483648 ≤ x ∧ x ≤ 2147483647) : mdM l yX1_firstFree cX1_firstFree 4 .int ({ frames := 2, cells := 0, slots := 0, locals := 49 }) z (mdC xn xac xdy xam xof xfl xba xnb xob) [.int (zi a), .int (zi x)] (fun k u' => u' = mdC xn xac xdy xam xof xfl xba xnb xob ∧ ((¬ (0 ≤ a ∧ a < 4) ∧ k = -1) ∨ ((0 ≤ a ∧ a < 4) ∧ ¬ (1 ≤ x ∧ x ≤ 1000000) ∧ k = -2) ∨ ((0 ≤ a ∧ a < 4) ∧ (1 ≤ x ∧ x ≤ 1000000) ∧ ((k = -3 ∧ P a 48 < xfl a + x) ∨ ((0 ≤ k ∧ k < 48) ∧ (k = 0 ∨ P a k < xfl a + x) ∧ ∀ j, k < j → j ≤ 48 → xfl a + x ≤ P a j))))) := by
  refine md_enter (by decide) rfl (Nat.le_of_ble_eq_true rfl) ?_
  intro p e R s m args below meth c A Q hR E hml rt w ls hl
  have hx := E.1
  have hb := E.2.1
  have hts := E.2.2.1
  have hown := E.2.2.2.1
  have hl : lv_has ls 4 [(0, .ref z.2.1), (1, .int (zi a)), (2, .int (zi x))] := hl
  have w : mdG z A s.heap xn xac xdy xam xof xfl xba xnb xob s.heap [] := w
  have loop0 (hq : (0 ≤ a ∧ a < 4) ∧ (1 ≤ x ∧ x ≤ 1000000)) : ∀ (n : Nat) (i : Int) (H : Heap) (locs : List Loc) (ls : Array Slot), 0 ≤ i ∧ i ≤ 48 → 49 ≤ (n : Int) + i → (i = 0 ∨ ∃ j, i - 1 < j ∧ j ≤ 48 ∧ P a j < xfl a + x) → mdG z A s.heap xn xac xdy xam xof xfl xba xnb xob H locs → lv_has ls 4 [(0, .ref z.2.1), (1, .int (zi a)), (2, .int (zi x)), (3, .int (zi i))] → W p l e R s m args below meth c H locs 0 0 Q (F0 m 26 ls []) := by
    intro n
    induction n with
    | zero =>
      intro i H locs ls i1 hn9 i3
      exfalso
      omega
    | succ n ih =>
      intro i H locs ls i1 hn9 i3 w hl
      refine lv_iload_n hx hb dX1_firstFree_26 rfl (lv_at hl 3 rfl) ?_
      refine zr_bipush hx hb dX1_firstFree_27 (by decide) ?_
      refine zr_icmp_ge (tgt := 50) hx hb dX1_firstFree_29 (by decide) (by omega) (by omega) (fun c_29 => ?_) (fun c_29 => ?_)
      · skip
        refine zr_bipush hx hb dX1_firstFree_50 (by decide) ?_
        refine rt dX1_firstFree_52 w ?_ rfl
        refine ⟨rfl, Or.inr (Or.inr ⟨hq.1, hq.2, Or.inl ⟨rfl, ?_⟩⟩)⟩
        rcases i3 with q | ⟨j, q1, q2, q3⟩
        · omega
        · rw [show (48 : Int) = j by omega]
          exact q3
      · skip
        refine lv_aload_n hx hb dX1_firstFree_32 rfl (lv_at hl 0 rfl) ?_
        refine lv_iload_n hx hb dX1_firstFree_33 rfl (lv_at hl 1 rfl) ?_
        refine lv_iload_n hx hb dX1_firstFree_34 rfl (lv_at hl 3 rfl) ?_
        refine md_call (as := [.int (zi a), .int (zi i)]) (rest := []) (n := 2) E hml w (md_spare l z P hP hn he hf0 a i (by omega) (by omega)) q343 q345 qs18 q346 rfl rfl (by decide +kernel) (by rw [hR]; exact ⟨Nat.le_of_ble_eq_true rfl, Nat.le_of_ble_eq_true rfl⟩) rfl hl.1 rfl (Nat.le_of_ble_eq_true rfl) dX1_firstFree_35 (fun k4 u1 H locs hw w => ?_)
        obtain ⟨rfl, g, hg1, hg2⟩ := hw
        obtain ⟨j0, j1, j2, j3⟩ := hg1.2
        have hbj : -600000 ≤ P a j0 ∧ P a j0 ≤ 600000 := by
          rw [hP]
          exact pb_bound hn.2 (fun e h1 h2 => (he e h1 h2).2.2.1) _ _
        have hfl := hf0 a (by omega) (by omega)
        have w : mdG z A s.heap xn xac xdy xam xof xfl xba xnb xob H locs := w
        refine lv_iload_n hx hb dX1_firstFree_38 rfl (lv_at hl 2 rfl) ?_
        refine zr_icmp_lt (tgt := 44) hx hb dX1_firstFree_39 (by decide) (by omega) (by omega) (fun c_39 => ?_) (fun c_39 => ?_)
        · skip
          refine lv_iinc (v := zi (i + 1)) (lv' := [(3, .int (zi (i + 1))), (0, .ref z.2.1), (1, .int (zi a)), (2, .int (zi x))]) hx hb dX1_firstFree_44 hl (k := 3) rfl (zi_add i 1) (by decide) rfl (fun ls hl => ?_)
          refine lv_goto (tgt := 26) hx hb dX1_firstFree_47 (by decide) ?_
          exact ih (i + 1) _ _ ls (by omega) (by omega) (Or.inr ⟨j0, by omega, by omega, by omega⟩) w (lv_sub hl [1, 2, 3, 0] rfl)
        · skip
          refine lv_iload_n hx hb dX1_firstFree_42 rfl (lv_at hl 3 rfl) ?_
          refine rt dX1_firstFree_43 w ?_ rfl
          have hal : ∀ j, i < j → j ≤ 48 → xfl a + x ≤ P a j := fun j q1 q2 => by
            have := hg1.1 j q1 (by omega)
            omega
          refine ⟨rfl, Or.inr (Or.inr ⟨hq.1, hq.2, Or.inr ⟨by omega, ?_, hal⟩⟩)⟩
          rcases i3 with q | ⟨j, q1, q2, q3⟩
          · exact Or.inl q
          · by_cases q4 : j = i
            · rw [q4] at q3
              exact Or.inr q3
            · have := hal j (by omega) q2
              omega
  refine lv_aload_n hx hb dX1_firstFree_0 rfl (lv_at hl 0 rfl) ?_
  refine lv_iload_n hx hb dX1_firstFree_1 rfl (lv_at hl 1 rfl) ?_
  refine md_call (as := [.int (zi a)]) (rest := []) (n := 1) E hml w (md_bad l z a ha) q248 q250 qs10 q251 rfl rfl (by decide +kernel) (by rw [hR]; exact ⟨Nat.le_of_ble_eq_true rfl, Nat.le_of_ble_eq_true rfl⟩) rfl hl.1 rfl (Nat.le_of_ble_eq_true rfl) dX1_firstFree_2 (fun k1 u1 H locs hk1 w => ?_)
  obtain ⟨rfl, hk1⟩ := hk1
  have w : mdG z A s.heap xn xac xdy xam xof xfl xba xnb xob H locs := w
  refine zr_if_eq (tgt := 10) hx hb dX1_firstFree_5 (by decide) (by omega) (fun c_5 => ?_) (fun c_5 => ?_)
  · skip
    refine lv_iload_n hx hb dX1_firstFree_10 rfl (lv_at hl 2 rfl) ?_
    refine zr_iconst hx hb dX1_firstFree_11 ?_
    refine zr_icmp_lt (tgt := 21) hx hb dX1_firstFree_12 (by decide) (by omega) (by omega) (fun c_12 => ?_) (fun c_12 => ?_)
    · skip
      refine zr_bipush hx hb dX1_firstFree_21 (by decide) ?_
      exact rt dX1_firstFree_23 w (⟨rfl, Or.inr (Or.inl ⟨by omega, by omega, rfl⟩)⟩) rfl
    · skip
      refine lv_iload_n hx hb dX1_firstFree_15 rfl (lv_at hl 2 rfl) ?_
      refine zr_ldc hx hb (1000000) hown (hts _ q351) (by decide) dX1_firstFree_16 ?_
      refine zr_icmp_le (tgt := 24) hx hb dX1_firstFree_18 (by decide) (by omega) (by omega) (fun c_18 => ?_) (fun c_18 => ?_)
      · skip
        refine zr_iconst hx hb dX1_firstFree_24 ?_
        refine lv_istore_n (lv' := [(3, .int (zi 0)), (0, .ref z.2.1), (1, .int (zi a)), (2, .int (zi x))]) hx hb dX1_firstFree_25 rfl hl (by decide) rfl (fun ls hl => ?_)
        exact loop0 (by omega) 50 0 _ _ ls (by omega) (by omega) (Or.inl rfl) w (lv_sub hl [1, 2, 3, 0] rfl)
      · skip
        refine zr_bipush hx hb dX1_firstFree_21 (by decide) ?_
        exact rt dX1_firstFree_23 w (⟨rfl, Or.inr (Or.inl ⟨by omega, by omega, rfl⟩)⟩) rfl
  · skip
    refine zr_iconst hx hb dX1_firstFree_8 ?_
    exact rt dX1_firstFree_9 w (⟨rfl, Or.inl ⟨by omega, rfl⟩⟩) rfl
set_option maxHeartbeats 4000000 in
set_option maxRecDepth 100000 in
theorem md_daysBelow (l : Launch) (z : mdZ) {xac xdy xam xof xfl xob : Int → Int} {xn xba xnb : Int} (P : Int → Int → Int) (hP : P = pb xn xac xdy xam xof) (hn : 0 ≤ xn ∧ xn ≤ 60) (he : eok xac xdy xam xof xn) (a b : Int) (ha : -2147483648 ≤ a ∧ a ≤ 2147483647) (hb0 : -2147483648 ≤ b ∧ b ≤ 2147483647) : mdM l yX1_daysBelow cX1_daysBelow 5 .int ({ frames := 1, cells := 0, slots := 0, locals := 24 }) z (mdC xn xac xdy xam xof xfl xba xnb xob) [.int (zi a), .int (zi b)] (fun k u' => u' = mdC xn xac xdy xam xof xfl xba xnb xob ∧ ((¬ (0 ≤ a ∧ a < 4) ∧ k = -1) ∨ ((0 ≤ a ∧ a < 4) ∧ k = cb (P a) b (48 : Int).toNat))) := by
  refine md_enter (by decide) rfl (Nat.le_of_ble_eq_true rfl) ?_
  intro p e R s m args below meth c A Q hR E hml rt w ls hl
  have hx := E.1
  have hb := E.2.1
  have hts := E.2.2.1
  have hown := E.2.2.2.1
  have hl : lv_has ls 5 [(0, .ref z.2.1), (1, .int (zi a)), (2, .int (zi b))] := hl
  have w : mdG z A s.heap xn xac xdy xam xof xfl xba xnb xob s.heap [] := w
  have loop0 (hq : (0 ≤ a ∧ a < 4)) : ∀ (n : Nat) (i c1 : Int) (H : Heap) (locs : List Loc) (ls : Array Slot), 0 ≤ i ∧ i ≤ 48 → 49 ≤ (n : Int) + i → c1 = cb (P a) b i.toNat → mdG z A s.heap xn xac xdy xam xof xfl xba xnb xob H locs → lv_has ls 5 [(0, .ref z.2.1), (1, .int (zi a)), (2, .int (zi b)), (3, .int (zi c1)), (4, .int (zi i))] → W p l e R s m args below meth c H locs 0 0 Q (F0 m 15 ls []) := by
    intro n
    induction n with
    | zero =>
      intro i c1 H locs ls i1 hn9 i3
      exfalso
      omega
    | succ n ih =>
      intro i c1 H locs ls i1 hn9 i3 w hl
      refine lv_iload hx hb dX1_daysBelow_15 (lv_at hl 4 rfl) ?_
      refine zr_bipush hx hb dX1_daysBelow_17 (by decide) ?_
      refine zr_icmp_ge (tgt := 42) hx hb dX1_daysBelow_19 (by decide) (by omega) (by omega) (fun c_19 => ?_) (fun c_19 => ?_)
      · skip
        refine lv_iload_n hx hb dX1_daysBelow_42 rfl (lv_at hl 3 rfl) ?_
        exact rt dX1_daysBelow_43 w (⟨rfl, Or.inr ⟨hq, by rw [i3, show i = 48 by omega]⟩⟩) rfl
      · skip
        refine lv_aload_n hx hb dX1_daysBelow_22 rfl (lv_at hl 0 rfl) ?_
        refine lv_iload_n hx hb dX1_daysBelow_23 rfl (lv_at hl 1 rfl) ?_
        refine lv_iload hx hb dX1_daysBelow_24 (lv_at hl 4 rfl) ?_
        refine md_call (as := [.int (zi a), .int (zi i)]) (rest := []) (n := 2) E hml w (md_worth l z P hP hn he a i (by omega) (by omega)) q268 q270 qs15 q271 rfl rfl (by decide +kernel) (by rw [hR]; exact ⟨Nat.le_of_ble_eq_true rfl, Nat.le_of_ble_eq_true rfl⟩) rfl hl.1 rfl (Nat.le_of_ble_eq_true rfl) dX1_daysBelow_26 (fun k4 u1 H locs hw w => ?_)
        obtain ⟨rfl, hk4⟩ := hw
        have hbk4 : -600000 ≤ k4 ∧ k4 ≤ 600000 := by
          rw [hk4, hP]
          exact pb_bound hn.2 (fun e h1 h2 => (he e h1 h2).2.2.1) _ _
        have w : mdG z A s.heap xn xac xdy xam xof xfl xba xnb xob H locs := w
        have hcs := cb_succ (P a) b (x := i) (by omega)
        refine lv_iload_n hx hb dX1_daysBelow_29 rfl (lv_at hl 2 rfl) ?_
        refine zr_icmp_ge (tgt := 36) hx hb dX1_daysBelow_30 (by decide) (by omega) (by omega) (fun c_30 => ?_) (fun c_30 => ?_)
        · skip
          rw [if_neg (by omega)] at hcs
          refine lv_iinc (v := zi (i + 1)) (lv' := [(4, .int (zi (i + 1))), (0, .ref z.2.1), (1, .int (zi a)), (2, .int (zi b)), (3, .int (zi c1))]) hx hb dX1_daysBelow_36 hl (k := 4) rfl (zi_add i 1) (by decide) rfl (fun ls hl => ?_)
          refine lv_goto (tgt := 15) hx hb dX1_daysBelow_39 (by decide) ?_
          exact ih (i + 1) (c1) _ _ ls (by omega) (by omega) (by omega) w (lv_sub hl [1, 2, 3, 4, 0] rfl)
        · skip
          rw [if_pos (by omega)] at hcs
          refine lv_iinc (v := zi (c1 + 1)) (lv' := [(3, .int (zi (c1 + 1))), (0, .ref z.2.1), (1, .int (zi a)), (2, .int (zi b)), (4, .int (zi i))]) hx hb dX1_daysBelow_33 hl (k := 3) rfl (zi_add c1 1) (by decide) rfl (fun ls hl => ?_)
          refine lv_iinc (v := zi (i + 1)) (lv' := [(4, .int (zi (i + 1))), (3, .int (zi (c1 + 1))), (0, .ref z.2.1), (1, .int (zi a)), (2, .int (zi b))]) hx hb dX1_daysBelow_36 hl (k := 4) rfl (zi_add i 1) (by decide) rfl (fun ls hl => ?_)
          refine lv_goto (tgt := 15) hx hb dX1_daysBelow_39 (by decide) ?_
          exact ih (i + 1) (c1 + 1) _ _ ls (by omega) (by omega) (by omega) w (lv_sub hl [2, 3, 4, 1, 0] rfl)
  refine lv_aload_n hx hb dX1_daysBelow_0 rfl (lv_at hl 0 rfl) ?_
  refine lv_iload_n hx hb dX1_daysBelow_1 rfl (lv_at hl 1 rfl) ?_
  refine md_call (as := [.int (zi a)]) (rest := []) (n := 1) E hml w (md_bad l z a ha) q248 q250 qs10 q251 rfl rfl (by decide +kernel) (by rw [hR]; exact ⟨Nat.le_of_ble_eq_true rfl, Nat.le_of_ble_eq_true rfl⟩) rfl hl.1 rfl (Nat.le_of_ble_eq_true rfl) dX1_daysBelow_2 (fun k1 u1 H locs hk1 w => ?_)
  obtain ⟨rfl, hk1⟩ := hk1
  have w : mdG z A s.heap xn xac xdy xam xof xfl xba xnb xob H locs := w
  refine zr_if_eq (tgt := 10) hx hb dX1_daysBelow_5 (by decide) (by omega) (fun c_5 => ?_) (fun c_5 => ?_)
  · skip
    refine zr_iconst hx hb dX1_daysBelow_10 ?_
    refine lv_istore_n (lv' := [(3, .int (zi 0)), (0, .ref z.2.1), (1, .int (zi a)), (2, .int (zi b))]) hx hb dX1_daysBelow_11 rfl hl (by decide) rfl (fun ls hl => ?_)
    refine zr_iconst hx hb dX1_daysBelow_12 ?_
    refine lv_istore (lv' := [(4, .int (zi 0)), (3, .int (zi 0)), (0, .ref z.2.1), (1, .int (zi a)), (2, .int (zi b))]) hx hb dX1_daysBelow_13 hl (by decide) rfl (fun ls hl => ?_)
    exact loop0 (by omega) 50 0 0 _ _ ls (by omega) (by omega) rfl w (lv_sub hl [2, 3, 4, 1, 0] rfl)
  · skip
    refine zr_iconst hx hb dX1_daysBelow_8 ?_
    exact rt dX1_daysBelow_9 w (⟨rfl, Or.inl ⟨by omega, rfl⟩⟩) rfl
end
section
/-! BackdatedBookModel: post, transfer, cancel, floor -/
set_option maxHeartbeats 4000000 in
set_option maxRecDepth 100000 in
theorem md_post (l : Launch) (z : mdZ) {xac xdy xam xof xfl xob : Int → Int} {xn xba xnb : Int} (P : Int → Int → Int) (hP : P = pb xn xac xdy xam xof) (hn : 0 ≤ xn ∧ xn ≤ 60) (he : eok xac xdy xam xof xn) (hf0 : flok xfl) (hba : xba = 0 ∨ xba = 1) (a d x : Int) (ha : -2147483648 ≤ a ∧ a ≤ 2147483647) (hd : -2147483648 ≤ d ∧ d ≤ 2147483647) (hx0 : -2147483648 ≤ x ∧ x ≤ 2147483647) : mdM l yX1_post cX1_post 4 .int ({ frames := 3, cells := 0, slots := 0, locals := 66 }) z (mdC xn xac xdy xam xof xfl xba xnb xob) [.int (zi a), .int (zi d), .int (zi x)] (fun k u' => (u' = mdC xn xac xdy xam xof xfl xba xnb xob ∧ ((¬ (0 ≤ a ∧ a < 4) ∧ k = -1) ∨ ((0 ≤ a ∧ a < 4) ∧ ¬ (0 ≤ d ∧ d < 48) ∧ k = -2) ∨ ((0 ≤ a ∧ a < 4) ∧ (0 ≤ d ∧ d < 48) ∧ ¬ (¬ x = 0 ∧ -10000 ≤ x ∧ x ≤ 10000) ∧ k = -3) ∨ ((0 ≤ a ∧ a < 4) ∧ (0 ≤ d ∧ d < 48) ∧ (¬ x = 0 ∧ -10000 ≤ x ∧ x ≤ 10000) ∧ xn = 60 ∧ k = -4))) ∨ (((0 ≤ a ∧ a < 4) ∧ (0 ≤ d ∧ d < 48) ∧ (¬ x = 0 ∧ -10000 ≤ x ∧ x ≤ 10000) ∧ xn < 60) ∧ ((u' = mdC xn (up xac xn a) (up xdy xn d) (up xam xn x) (up xof xn 0) xfl xba xnb xob ∧ xba = 0 ∧ ¬ sdd xfl (pb (xn + 1) (up xac xn a) (up xdy xn d) (up xam xn x) (up xof xn 0)) ∧ k = -5) ∨ (u' = mdC (xn + 1) (up xac xn a) (up xdy xn d) (up xam xn x) (up xof xn 0) xfl xba xnb xob ∧ (xba = 0 → sdd xfl (pb (xn + 1) (up xac xn a) (up xdy xn d) (up xam xn x) (up xof xn 0))) ∧ k = xn)))) := by
  refine md_enter (by decide) rfl (Nat.le_of_ble_eq_true rfl) ?_
  intro p e R s m args below meth c A Q hR E hml rt w ls hl
  have hx := E.1
  have hb := E.2.1
  have hts := E.2.2.1
  have hown := E.2.2.2.1
  have hl : lv_has ls 4 [(0, .ref z.2.1), (1, .int (zi a)), (2, .int (zi d)), (3, .int (zi x))] := hl
  have w : mdG z A s.heap xn xac xdy xam xof xfl xba xnb xob s.heap [] := w
  refine lv_aload_n hx hb dX1_post_0 rfl (lv_at hl 0 rfl) ?_
  refine lv_iload_n hx hb dX1_post_1 rfl (lv_at hl 1 rfl) ?_
  refine md_call (as := [.int (zi a)]) (rest := []) (n := 1) E hml w (md_bad l z a ha) q248 q250 qs10 q251 rfl rfl (by decide +kernel) (by rw [hR]; exact ⟨Nat.le_of_ble_eq_true rfl, Nat.le_of_ble_eq_true rfl⟩) rfl hl.1 rfl (Nat.le_of_ble_eq_true rfl) dX1_post_2 (fun k1 u1 H locs hk1 w => ?_)
  obtain ⟨rfl, hk1⟩ := hk1
  have w : mdG z A s.heap xn xac xdy xam xof xfl xba xnb xob H locs := w
  refine zr_if_eq (tgt := 10) hx hb dX1_post_5 (by decide) (by omega) (fun c_5 => ?_) (fun c_5 => ?_)
  · skip
    refine lv_aload_n hx hb dX1_post_10 rfl (lv_at hl 0 rfl) ?_
    refine lv_iload_n hx hb dX1_post_11 rfl (lv_at hl 2 rfl) ?_
    refine md_call (as := [.int (zi d)]) (rest := []) (n := 1) E hml w (md_badDay l z d hd) q252 q254 qs11 q255 rfl rfl (by decide +kernel) (by rw [hR]; exact ⟨Nat.le_of_ble_eq_true rfl, Nat.le_of_ble_eq_true rfl⟩) rfl hl.1 rfl (Nat.le_of_ble_eq_true rfl) dX1_post_12 (fun k2 u1 H locs hk2 w => ?_)
    obtain ⟨rfl, hk2⟩ := hk2
    have w : mdG z A s.heap xn xac xdy xam xof xfl xba xnb xob H locs := w
    refine zr_if_eq (tgt := 21) hx hb dX1_post_15 (by decide) (by omega) (fun c_15 => ?_) (fun c_15 => ?_)
    · skip
      refine lv_iload_n hx hb dX1_post_21 rfl (lv_at hl 3 rfl) ?_
      refine zr_if_eq (tgt := 39) hx hb dX1_post_22 (by decide) (by omega) (fun c_22 => ?_) (fun c_22 => ?_)
      · skip
        refine zr_bipush hx hb dX1_post_39 (by decide) ?_
        exact rt dX1_post_41 w (Or.inl ⟨rfl, Or.inr (Or.inr (Or.inl ⟨by omega, by omega, by omega, rfl⟩))⟩) rfl
      · skip
        refine lv_iload_n hx hb dX1_post_25 rfl (lv_at hl 3 rfl) ?_
        refine zr_sipush hx hb dX1_post_26 (by decide) ?_
        refine zr_icmp_lt (tgt := 39) hx hb dX1_post_29 (by decide) (by omega) (by omega) (fun c_29 => ?_) (fun c_29 => ?_)
        · skip
          refine zr_bipush hx hb dX1_post_39 (by decide) ?_
          exact rt dX1_post_41 w (Or.inl ⟨rfl, Or.inr (Or.inr (Or.inl ⟨by omega, by omega, by omega, rfl⟩))⟩) rfl
        · skip
          refine lv_iload_n hx hb dX1_post_32 rfl (lv_at hl 3 rfl) ?_
          refine zr_sipush hx hb dX1_post_33 (by decide) ?_
          refine zr_icmp_le (tgt := 42) hx hb dX1_post_36 (by decide) (by omega) (by omega) (fun c_36 => ?_) (fun c_36 => ?_)
          · skip
            refine lv_aload_n hx hb dX1_post_42 rfl (lv_at hl 0 rfl) ?_
            refine mg_n E w (v := xn) rfl dX1_post_43 ?_
            refine zr_bipush hx hb dX1_post_46 (by decide) ?_
            refine zr_icmp_lt (tgt := 54) hx hb dX1_post_48 (by decide) (by omega) (by omega) (fun c_48 => ?_) (fun c_48 => ?_)
            · skip
              refine lv_aload_n hx hb dX1_post_54 rfl (lv_at hl 0 rfl) ?_
              refine lv_iload_n hx hb dX1_post_55 rfl (lv_at hl 1 rfl) ?_
              refine lv_iload_n hx hb dX1_post_56 rfl (lv_at hl 2 rfl) ?_
              refine lv_iload_n hx hb dX1_post_57 rfl (lv_at hl 3 rfl) ?_
              refine md_callV (as := [.int (zi a), .int (zi d), .int (zi x)]) (rest := []) (n := 3) E hml w (md_put l z (by omega) a d x) q256 q258 qs12 q259 rfl rfl (by decide +kernel) (by rw [hR]; exact ⟨Nat.le_of_ble_eq_true rfl, Nat.le_of_ble_eq_true rfl⟩) rfl hl.1 rfl (Nat.le_of_ble_eq_true rfl) dX1_post_58 (fun u1 H locs hw w => ?_)
              subst hw
              have he1 := eok_push he (a := a) (d := d) (x := x) (by omega) (by omega) (by omega)
              have w : mdG z A s.heap (xn + 1) (up xac xn a) (up xdy xn d) (up xam xn x) (up xof xn 0) xfl xba xnb xob H locs := w
              refine lv_aload_n hx hb dX1_post_61 rfl (lv_at hl 0 rfl) ?_
              refine mg_ba E w (v := xba) rfl dX1_post_62 ?_
              refine zr_if_ne (tgt := 88) hx hb dX1_post_65 (by decide) (by omega) (fun c_65 => ?_) (fun c_65 => ?_)
              · skip
                refine lv_aload_n hx hb dX1_post_88 rfl (lv_at hl 0 rfl) ?_
                refine mg_n E w (v := xn + 1) rfl dX1_post_89 ?_
                refine zr_iconst hx hb dX1_post_92 ?_
                refine zr_isub hx hb dX1_post_93 ?_
                refine zr_top xn (by omega) ?_
                exact rt dX1_post_94 w (Or.inr ⟨by omega, Or.inr ⟨rfl, fun q => by omega, rfl⟩⟩) rfl
              · skip
                refine lv_aload_n hx hb dX1_post_68 rfl (lv_at hl 0 rfl) ?_
                refine md_call (as := []) (rest := []) (n := 0) E hml w (md_allSound l z (pb (xn + 1) (up xac xn a) (up xdy xn d) (up xam xn x) (up xof xn 0)) rfl (by omega) he1 hf0) q260 q262 qs13 q263 rfl rfl (by decide +kernel) (by rw [hR]; exact ⟨Nat.le_of_ble_eq_true rfl, Nat.le_of_ble_eq_true rfl⟩) rfl hl.1 rfl (Nat.le_of_ble_eq_true rfl) dX1_post_69 (fun k3 u1 H locs hk3 w => ?_)
                obtain ⟨rfl, hk3⟩ := hk3
                have hk4 : k3 = 0 ∨ k3 = 1 := hk3.elim (fun q => Or.inr q.1) (fun q => Or.inl q.1)
                have w : mdG z A s.heap (xn + 1) (up xac xn a) (up xdy xn d) (up xam xn x) (up xof xn 0) xfl xba xnb xob H locs := w
                refine zr_if_ne (tgt := 88) hx hb dX1_post_72 (by decide) (by omega) (fun c_72 => ?_) (fun c_72 => ?_)
                · skip
                  refine lv_aload_n hx hb dX1_post_88 rfl (lv_at hl 0 rfl) ?_
                  refine mg_n E w (v := xn + 1) rfl dX1_post_89 ?_
                  refine zr_iconst hx hb dX1_post_92 ?_
                  refine zr_isub hx hb dX1_post_93 ?_
                  refine zr_top xn (by omega) ?_
                  exact rt dX1_post_94 w (Or.inr ⟨by omega, Or.inr ⟨rfl, fun _ => hk3.elim (fun q => q.2) (fun q => by omega), rfl⟩⟩) rfl
                · skip
                  refine lv_aload_n hx hb dX1_post_75 rfl (lv_at hl 0 rfl) ?_
                  refine lv_dup hx hb dX1_post_76 rfl ?_
                  refine mg_n E w (v := xn + 1) rfl dX1_post_77 ?_
                  refine zr_iconst hx hb dX1_post_80 ?_
                  refine zr_isub hx hb dX1_post_81 ?_
                  refine zr_top xn (by omega) ?_
                  refine mp_n E w dX1_post_82 (fun H locs w => ?_)
                  refine zr_bipush hx hb dX1_post_85 (by decide) ?_
                  exact rt dX1_post_87 w (Or.inr ⟨by omega, Or.inl ⟨rfl, by omega, hk3.elim (fun q => by omega) (fun q => q.2), rfl⟩⟩) rfl
            · skip
              refine zr_bipush hx hb dX1_post_51 (by decide) ?_
              exact rt dX1_post_53 w (Or.inl ⟨rfl, Or.inr (Or.inr (Or.inr ⟨by omega, by omega, by omega, by omega, rfl⟩))⟩) rfl
          · skip
            refine zr_bipush hx hb dX1_post_39 (by decide) ?_
            exact rt dX1_post_41 w (Or.inl ⟨rfl, Or.inr (Or.inr (Or.inl ⟨by omega, by omega, by omega, rfl⟩))⟩) rfl
    · skip
      refine zr_bipush hx hb dX1_post_18 (by decide) ?_
      exact rt dX1_post_20 w (Or.inl ⟨rfl, Or.inr (Or.inl ⟨by omega, by omega, rfl⟩)⟩) rfl
  · skip
    refine zr_iconst hx hb dX1_post_8 ?_
    exact rt dX1_post_9 w (Or.inl ⟨rfl, Or.inl ⟨by omega, rfl⟩⟩) rfl
set_option maxHeartbeats 4000000 in
set_option maxRecDepth 100000 in
theorem md_transfer (l : Launch) (z : mdZ) {xac xdy xam xof xfl xob : Int → Int} {xn xba xnb : Int} (P : Int → Int → Int) (hP : P = pb xn xac xdy xam xof) (hn : 0 ≤ xn ∧ xn ≤ 60) (he : eok xac xdy xam xof xn) (hf0 : flok xfl) (hba : xba = 0 ∨ xba = 1) (r d x : Int) (hr : -2147483648 ≤ r ∧ r ≤ 2147483647) (hd : -2147483648 ≤ d ∧ d ≤ 2147483647) (hx0 : -2147483648 ≤ x ∧ x ≤ 2147483647) : mdM l yX1_transfer cX1_transfer 4 .int ({ frames := 3, cells := 0, slots := 0, locals := 66 }) z (mdC xn xac xdy xam xof xfl xba xnb xob) [.int (zi r), .int (zi d), .int (zi x)] (fun k u' => (u' = mdC xn xac xdy xam xof xfl xba xnb xob ∧ ((¬ ((0 ≤ r ∧ r ≤ 15) ∧ ¬ r / 4 = r % 4) ∧ k = -1) ∨ (((0 ≤ r ∧ r ≤ 15) ∧ ¬ r / 4 = r % 4) ∧ ¬ (0 ≤ d ∧ d < 48) ∧ k = -2) ∨ (((0 ≤ r ∧ r ≤ 15) ∧ ¬ r / 4 = r % 4) ∧ (0 ≤ d ∧ d < 48) ∧ ¬ (1 ≤ x ∧ x ≤ 10000) ∧ k = -3) ∨ (((0 ≤ r ∧ r ≤ 15) ∧ ¬ r / 4 = r % 4) ∧ (0 ≤ d ∧ d < 48) ∧ (1 ≤ x ∧ x ≤ 10000) ∧ 58 < xn ∧ k = -4))) ∨ ((((0 ≤ r ∧ r ≤ 15) ∧ ¬ r / 4 = r % 4) ∧ (0 ≤ d ∧ d < 48) ∧ (1 ≤ x ∧ x ≤ 10000) ∧ xn ≤ 58) ∧ ((u' = mdC xn (up (up xac xn (r / 4)) (xn + 1) (r % 4)) (up (up xdy xn d) (xn + 1) d) (up (up xam xn (-x)) (xn + 1) x) (up (up xof xn 0) (xn + 1) 0) xfl xba xnb xob ∧ xba = 0 ∧ ¬ sdd xfl (pb (xn + 1 + 1) (up (up xac xn (r / 4)) (xn + 1) (r % 4)) (up (up xdy xn d) (xn + 1) d) (up (up xam xn (-x)) (xn + 1) x) (up (up xof xn 0) (xn + 1) 0)) ∧ k = -5) ∨ (u' = mdC (xn + 1 + 1) (up (up xac xn (r / 4)) (xn + 1) (r % 4)) (up (up xdy xn d) (xn + 1) d) (up (up xam xn (-x)) (xn + 1) x) (up (up xof xn 0) (xn + 1) 0) xfl xba xnb xob ∧ (xba = 0 → sdd xfl (pb (xn + 1 + 1) (up (up xac xn (r / 4)) (xn + 1) (r % 4)) (up (up xdy xn d) (xn + 1) d) (up (up xam xn (-x)) (xn + 1) x) (up (up xof xn 0) (xn + 1) 0))) ∧ k = xn)))) := by
  refine md_enter (by decide) rfl (Nat.le_of_ble_eq_true rfl) ?_
  intro p e R s m args below meth c A Q hR E hml rt w ls hl
  have hx := E.1
  have hb := E.2.1
  have hts := E.2.2.1
  have hown := E.2.2.2.1
  have hl : lv_has ls 4 [(0, .ref z.2.1), (1, .int (zi r)), (2, .int (zi d)), (3, .int (zi x))] := hl
  have w : mdG z A s.heap xn xac xdy xam xof xfl xba xnb xob s.heap [] := w
  refine lv_iload_n hx hb dX1_transfer_0 rfl (lv_at hl 1 rfl) ?_
  refine zr_if_lt (tgt := 19) hx hb dX1_transfer_1 (by decide) (by omega) (fun c_1 => ?_) (fun c_1 => ?_)
  · skip
    refine zr_iconst hx hb dX1_transfer_19 ?_
    exact rt dX1_transfer_20 w (Or.inl ⟨rfl, Or.inl ⟨by omega, rfl⟩⟩) rfl
  · skip
    refine lv_iload_n hx hb dX1_transfer_4 rfl (lv_at hl 1 rfl) ?_
    refine zr_bipush hx hb dX1_transfer_5 (by decide) ?_
    refine zr_icmp_gt (tgt := 19) hx hb dX1_transfer_7 (by decide) (by omega) (by omega) (fun c_7 => ?_) (fun c_7 => ?_)
    · skip
      refine zr_iconst hx hb dX1_transfer_19 ?_
      exact rt dX1_transfer_20 w (Or.inl ⟨rfl, Or.inl ⟨by omega, rfl⟩⟩) rfl
    · skip
      refine lv_iload_n hx hb dX1_transfer_10 rfl (lv_at hl 1 rfl) ?_
      refine zr_iconst hx hb dX1_transfer_11 ?_
      refine zr_idiv hx hb dX1_transfer_12 (by omega) (by omega) ?_
      refine lv_iload_n hx hb dX1_transfer_13 rfl (lv_at hl 1 rfl) ?_
      refine zr_iconst hx hb dX1_transfer_14 ?_
      refine zr_irem hx hb dX1_transfer_15 (by omega) (by omega) ?_
      refine zr_icmp_ne (tgt := 21) hx hb dX1_transfer_16 (by decide) (by omega) (by omega) (fun c_16 => ?_) (fun c_16 => ?_)
      · skip
        refine lv_aload_n hx hb dX1_transfer_21 rfl (lv_at hl 0 rfl) ?_
        refine lv_iload_n hx hb dX1_transfer_22 rfl (lv_at hl 2 rfl) ?_
        refine md_call (as := [.int (zi d)]) (rest := []) (n := 1) E hml w (md_badDay l z d hd) q252 q254 qs11 q255 rfl rfl (by decide +kernel) (by rw [hR]; exact ⟨Nat.le_of_ble_eq_true rfl, Nat.le_of_ble_eq_true rfl⟩) rfl hl.1 rfl (Nat.le_of_ble_eq_true rfl) dX1_transfer_23 (fun k2 u1 H locs hk2 w => ?_)
        obtain ⟨rfl, hk2⟩ := hk2
        have w : mdG z A s.heap xn xac xdy xam xof xfl xba xnb xob H locs := w
        refine zr_if_eq (tgt := 32) hx hb dX1_transfer_26 (by decide) (by omega) (fun c_26 => ?_) (fun c_26 => ?_)
        · skip
          refine lv_iload_n hx hb dX1_transfer_32 rfl (lv_at hl 3 rfl) ?_
          refine zr_iconst hx hb dX1_transfer_33 ?_
          refine zr_icmp_lt (tgt := 44) hx hb dX1_transfer_34 (by decide) (by omega) (by omega) (fun c_34 => ?_) (fun c_34 => ?_)
          · skip
            refine zr_bipush hx hb dX1_transfer_44 (by decide) ?_
            exact rt dX1_transfer_46 w (Or.inl ⟨rfl, Or.inr (Or.inr (Or.inl ⟨by omega, by omega, by omega, rfl⟩))⟩) rfl
          · skip
            refine lv_iload_n hx hb dX1_transfer_37 rfl (lv_at hl 3 rfl) ?_
            refine zr_sipush hx hb dX1_transfer_38 (by decide) ?_
            refine zr_icmp_le (tgt := 47) hx hb dX1_transfer_41 (by decide) (by omega) (by omega) (fun c_41 => ?_) (fun c_41 => ?_)
            · skip
              refine lv_aload_n hx hb dX1_transfer_47 rfl (lv_at hl 0 rfl) ?_
              refine mg_n E w (v := xn) rfl dX1_transfer_48 ?_
              refine zr_bipush hx hb dX1_transfer_51 (by decide) ?_
              refine zr_icmp_le (tgt := 59) hx hb dX1_transfer_53 (by decide) (by omega) (by omega) (fun c_53 => ?_) (fun c_53 => ?_)
              · skip
                refine lv_aload_n hx hb dX1_transfer_59 rfl (lv_at hl 0 rfl) ?_
                refine lv_iload_n hx hb dX1_transfer_60 rfl (lv_at hl 1 rfl) ?_
                refine zr_iconst hx hb dX1_transfer_61 ?_
                refine zr_idiv hx hb dX1_transfer_62 (by omega) (by omega) ?_
                refine lv_iload_n hx hb dX1_transfer_63 rfl (lv_at hl 2 rfl) ?_
                refine lv_iload_n hx hb dX1_transfer_64 rfl (lv_at hl 3 rfl) ?_
                refine zr_ineg hx hb dX1_transfer_65 ?_
                refine md_callV (as := [.int (zi (r / 4)), .int (zi d), .int (zi (-x))]) (rest := []) (n := 3) E hml w (md_put l z (by omega) (r / 4) d (-x)) q256 q258 qs12 q259 rfl rfl (by decide +kernel) (by rw [hR]; exact ⟨Nat.le_of_ble_eq_true rfl, Nat.le_of_ble_eq_true rfl⟩) rfl hl.1 rfl (Nat.le_of_ble_eq_true rfl) dX1_transfer_66 (fun u1 H locs hw w => ?_)
                subst hw
                have he1 := eok_push he (a := r / 4) (d := d) (x := -x) (by omega) (by omega) (by omega)
                have w : mdG z A s.heap (xn + 1) (up xac xn (r / 4)) (up xdy xn d) (up xam xn (-x)) (up xof xn 0) xfl xba xnb xob H locs := w
                refine lv_aload_n hx hb dX1_transfer_69 rfl (lv_at hl 0 rfl) ?_
                refine lv_iload_n hx hb dX1_transfer_70 rfl (lv_at hl 1 rfl) ?_
                refine zr_iconst hx hb dX1_transfer_71 ?_
                refine zr_irem hx hb dX1_transfer_72 (by omega) (by omega) ?_
                refine lv_iload_n hx hb dX1_transfer_73 rfl (lv_at hl 2 rfl) ?_
                refine lv_iload_n hx hb dX1_transfer_74 rfl (lv_at hl 3 rfl) ?_
                refine md_callV (as := [.int (zi (r % 4)), .int (zi d), .int (zi x)]) (rest := []) (n := 3) E hml w (md_put l z (by omega) (r % 4) d x) q256 q258 qs12 q259 rfl rfl (by decide +kernel) (by rw [hR]; exact ⟨Nat.le_of_ble_eq_true rfl, Nat.le_of_ble_eq_true rfl⟩) rfl hl.1 rfl (Nat.le_of_ble_eq_true rfl) dX1_transfer_75 (fun u1 H locs hw w => ?_)
                subst hw
                have he2 := eok_push he1 (a := r % 4) (d := d) (x := x) (by omega) (by omega) (by omega)
                have w : mdG z A s.heap (xn + 1 + 1) (up (up xac xn (r / 4)) (xn + 1) (r % 4)) (up (up xdy xn d) (xn + 1) d) (up (up xam xn (-x)) (xn + 1) x) (up (up xof xn 0) (xn + 1) 0) xfl xba xnb xob H locs := w
                refine lv_aload_n hx hb dX1_transfer_78 rfl (lv_at hl 0 rfl) ?_
                refine mg_ba E w (v := xba) rfl dX1_transfer_79 ?_
                refine zr_if_ne (tgt := 105) hx hb dX1_transfer_82 (by decide) (by omega) (fun c_82 => ?_) (fun c_82 => ?_)
                · skip
                  refine lv_aload_n hx hb dX1_transfer_105 rfl (lv_at hl 0 rfl) ?_
                  refine mg_n E w (v := xn + 1 + 1) rfl dX1_transfer_106 ?_
                  refine zr_iconst hx hb dX1_transfer_109 ?_
                  refine zr_isub hx hb dX1_transfer_110 ?_
                  refine zr_top xn (by omega) ?_
                  exact rt dX1_transfer_111 w (Or.inr ⟨by omega, Or.inr ⟨rfl, fun q => by omega, rfl⟩⟩) rfl
                · skip
                  refine lv_aload_n hx hb dX1_transfer_85 rfl (lv_at hl 0 rfl) ?_
                  refine md_call (as := []) (rest := []) (n := 0) E hml w (md_allSound l z (pb (xn + 1 + 1) (up (up xac xn (r / 4)) (xn + 1) (r % 4)) (up (up xdy xn d) (xn + 1) d) (up (up xam xn (-x)) (xn + 1) x) (up (up xof xn 0) (xn + 1) 0)) rfl (by omega) he2 hf0) q260 q262 qs13 q263 rfl rfl (by decide +kernel) (by rw [hR]; exact ⟨Nat.le_of_ble_eq_true rfl, Nat.le_of_ble_eq_true rfl⟩) rfl hl.1 rfl (Nat.le_of_ble_eq_true rfl) dX1_transfer_86 (fun k3 u1 H locs hk3 w => ?_)
                  obtain ⟨rfl, hk3⟩ := hk3
                  have hk4 : k3 = 0 ∨ k3 = 1 := hk3.elim (fun q => Or.inr q.1) (fun q => Or.inl q.1)
                  have w : mdG z A s.heap (xn + 1 + 1) (up (up xac xn (r / 4)) (xn + 1) (r % 4)) (up (up xdy xn d) (xn + 1) d) (up (up xam xn (-x)) (xn + 1) x) (up (up xof xn 0) (xn + 1) 0) xfl xba xnb xob H locs := w
                  refine zr_if_ne (tgt := 105) hx hb dX1_transfer_89 (by decide) (by omega) (fun c_89 => ?_) (fun c_89 => ?_)
                  · skip
                    refine lv_aload_n hx hb dX1_transfer_105 rfl (lv_at hl 0 rfl) ?_
                    refine mg_n E w (v := xn + 1 + 1) rfl dX1_transfer_106 ?_
                    refine zr_iconst hx hb dX1_transfer_109 ?_
                    refine zr_isub hx hb dX1_transfer_110 ?_
                    refine zr_top xn (by omega) ?_
                    exact rt dX1_transfer_111 w (Or.inr ⟨by omega, Or.inr ⟨rfl, fun _ => hk3.elim (fun q => q.2) (fun q => by omega), rfl⟩⟩) rfl
                  · skip
                    refine lv_aload_n hx hb dX1_transfer_92 rfl (lv_at hl 0 rfl) ?_
                    refine lv_dup hx hb dX1_transfer_93 rfl ?_
                    refine mg_n E w (v := xn + 1 + 1) rfl dX1_transfer_94 ?_
                    refine zr_iconst hx hb dX1_transfer_97 ?_
                    refine zr_isub hx hb dX1_transfer_98 ?_
                    refine zr_top xn (by omega) ?_
                    refine mp_n E w dX1_transfer_99 (fun H locs w => ?_)
                    refine zr_bipush hx hb dX1_transfer_102 (by decide) ?_
                    exact rt dX1_transfer_104 w (Or.inr ⟨by omega, Or.inl ⟨rfl, by omega, hk3.elim (fun q => by omega) (fun q => q.2), rfl⟩⟩) rfl
              · skip
                refine zr_bipush hx hb dX1_transfer_56 (by decide) ?_
                exact rt dX1_transfer_58 w (Or.inl ⟨rfl, Or.inr (Or.inr (Or.inr ⟨by omega, by omega, by omega, by omega, rfl⟩))⟩) rfl
            · skip
              refine zr_bipush hx hb dX1_transfer_44 (by decide) ?_
              exact rt dX1_transfer_46 w (Or.inl ⟨rfl, Or.inr (Or.inr (Or.inl ⟨by omega, by omega, by omega, rfl⟩))⟩) rfl
        · skip
          refine zr_bipush hx hb dX1_transfer_29 (by decide) ?_
          exact rt dX1_transfer_31 w (Or.inl ⟨rfl, Or.inr (Or.inl ⟨by omega, by omega, rfl⟩)⟩) rfl
      · skip
        refine zr_iconst hx hb dX1_transfer_19 ?_
        exact rt dX1_transfer_20 w (Or.inl ⟨rfl, Or.inl ⟨by omega, rfl⟩⟩) rfl
set_option maxHeartbeats 4000000 in
set_option maxRecDepth 100000 in
theorem md_cancel (l : Launch) (z : mdZ) {xac xdy xam xof xfl xob : Int → Int} {xn xba xnb : Int} (P : Int → Int → Int) (hP : P = pb xn xac xdy xam xof) (hn : 0 ≤ xn ∧ xn ≤ 60) (he : eok xac xdy xam xof xn) (hf0 : flok xfl) (hba : xba = 0 ∨ xba = 1) (x : Int) (hx0 : -2147483648 ≤ x ∧ x ≤ 2147483647) : mdM l yX1_cancel cX1_cancel 2 .int ({ frames := 3, cells := 0, slots := 0, locals := 66 }) z (mdC xn xac xdy xam xof xfl xba xnb xob) [.int (zi x)] (fun k u' => (u' = mdC xn xac xdy xam xof xfl xba xnb xob ∧ ((¬ (0 ≤ x ∧ x < xn) ∧ k = -1) ∨ ((0 ≤ x ∧ x < xn) ∧ xof x = 1 ∧ k = -2))) ∨ (((0 ≤ x ∧ x < xn) ∧ xof x = 0) ∧ ((u' = mdC xn xac xdy xam (up (up xof x 1) x 0) xfl xba xnb xob ∧ xba = 0 ∧ ¬ sdd xfl (pb xn xac xdy xam (up xof x 1)) ∧ k = -3) ∨ (u' = mdC xn xac xdy xam (up xof x 1) xfl xba xnb xob ∧ (xba = 0 → sdd xfl (pb xn xac xdy xam (up xof x 1))) ∧ k = xam x)))) := by
  refine md_enter (by decide) rfl (Nat.le_of_ble_eq_true rfl) ?_
  intro p e R s m args below meth c A Q hR E hml rt w ls hl
  have hx := E.1
  have hb := E.2.1
  have hts := E.2.2.1
  have hown := E.2.2.2.1
  have hl : lv_has ls 2 [(0, .ref z.2.1), (1, .int (zi x))] := hl
  have w : mdG z A s.heap xn xac xdy xam xof xfl xba xnb xob s.heap [] := w
  refine lv_aload_n hx hb dX1_cancel_0 rfl (lv_at hl 0 rfl) ?_
  refine lv_iload_n hx hb dX1_cancel_1 rfl (lv_at hl 1 rfl) ?_
  refine md_call (as := [.int (zi x)]) (rest := []) (n := 1) E hml w (md_badEntry l z x hx0 hn) q280 q282 qs16 q283 rfl rfl (by decide +kernel) (by rw [hR]; exact ⟨Nat.le_of_ble_eq_true rfl, Nat.le_of_ble_eq_true rfl⟩) rfl hl.1 rfl (Nat.le_of_ble_eq_true rfl) dX1_cancel_2 (fun k1 u1 H locs hk1 w => ?_)
  obtain ⟨rfl, hk1⟩ := hk1
  have w : mdG z A s.heap xn xac xdy xam xof xfl xba xnb xob H locs := w
  refine zr_if_eq (tgt := 10) hx hb dX1_cancel_5 (by decide) (by omega) (fun c_5 => ?_) (fun c_5 => ?_)
  · skip
    have hex : 0 ≤ x ∧ x < xn := by omega
    have hgo := (he x hex.1 hex.2).2.2.2
    have he1 := eok_go he x (x := 1) (Or.inr rfl)
    refine lv_aload_n hx hb dX1_cancel_10 rfl (lv_at hl 0 rfl) ?_
    refine mg_of E w dX1_cancel_11 ?_
    refine lv_iload_n hx hb dX1_cancel_14 rfl (lv_at hl 1 rfl) ?_
    refine ml_of E w (v := xof x) (by omega) rfl dX1_cancel_15 ?_
    refine zr_if_eq (tgt := 22) hx hb dX1_cancel_16 (by decide) (by omega) (fun c_16 => ?_) (fun c_16 => ?_)
    · skip
      refine lv_aload_n hx hb dX1_cancel_22 rfl (lv_at hl 0 rfl) ?_
      refine mg_of E w dX1_cancel_23 ?_
      refine lv_iload_n hx hb dX1_cancel_26 rfl (lv_at hl 1 rfl) ?_
      refine zr_iconst hx hb dX1_cancel_27 ?_
      refine ms_of E w (by omega) (by decide) dX1_cancel_28 (fun H locs w => ?_)
      refine lv_aload_n hx hb dX1_cancel_29 rfl (lv_at hl 0 rfl) ?_
      refine mg_ba E w (v := xba) rfl dX1_cancel_30 ?_
      refine zr_if_ne (tgt := 53) hx hb dX1_cancel_33 (by decide) (by omega) (fun c_33 => ?_) (fun c_33 => ?_)
      · skip
        refine lv_aload_n hx hb dX1_cancel_53 rfl (lv_at hl 0 rfl) ?_
        refine mg_am E w dX1_cancel_54 ?_
        refine lv_iload_n hx hb dX1_cancel_57 rfl (lv_at hl 1 rfl) ?_
        refine ml_am E w (v := xam x) (by omega) rfl dX1_cancel_58 ?_
        exact rt dX1_cancel_59 w (Or.inr ⟨by omega, Or.inr ⟨rfl, fun q => by omega, rfl⟩⟩) rfl
      · skip
        refine lv_aload_n hx hb dX1_cancel_36 rfl (lv_at hl 0 rfl) ?_
        refine md_call (as := []) (rest := []) (n := 0) E hml w (md_allSound l z (pb xn xac xdy xam (up xof x 1)) rfl hn he1 hf0) q260 q262 qs13 q263 rfl rfl (by decide +kernel) (by rw [hR]; exact ⟨Nat.le_of_ble_eq_true rfl, Nat.le_of_ble_eq_true rfl⟩) rfl hl.1 rfl (Nat.le_of_ble_eq_true rfl) dX1_cancel_37 (fun k3 u1 H locs hk3 w => ?_)
        obtain ⟨rfl, hk3⟩ := hk3
        have hk4 : k3 = 0 ∨ k3 = 1 := hk3.elim (fun q => Or.inr q.1) (fun q => Or.inl q.1)
        have w : mdG z A s.heap xn xac xdy xam (up xof x 1) xfl xba xnb xob H locs := w
        refine zr_if_ne (tgt := 53) hx hb dX1_cancel_40 (by decide) (by omega) (fun c_40 => ?_) (fun c_40 => ?_)
        · skip
          refine lv_aload_n hx hb dX1_cancel_53 rfl (lv_at hl 0 rfl) ?_
          refine mg_am E w dX1_cancel_54 ?_
          refine lv_iload_n hx hb dX1_cancel_57 rfl (lv_at hl 1 rfl) ?_
          refine ml_am E w (v := xam x) (by omega) rfl dX1_cancel_58 ?_
          exact rt dX1_cancel_59 w (Or.inr ⟨by omega, Or.inr ⟨rfl, fun _ => hk3.elim (fun q => q.2) (fun q => by omega), rfl⟩⟩) rfl
        · skip
          refine lv_aload_n hx hb dX1_cancel_43 rfl (lv_at hl 0 rfl) ?_
          refine mg_of E w dX1_cancel_44 ?_
          refine lv_iload_n hx hb dX1_cancel_47 rfl (lv_at hl 1 rfl) ?_
          refine zr_iconst hx hb dX1_cancel_48 ?_
          refine ms_of E w (by omega) (by decide) dX1_cancel_49 (fun H locs w => ?_)
          refine zr_bipush hx hb dX1_cancel_50 (by decide) ?_
          exact rt dX1_cancel_52 w (Or.inr ⟨by omega, Or.inl ⟨rfl, by omega, hk3.elim (fun q => by omega) (fun q => q.2), rfl⟩⟩) rfl
    · skip
      refine zr_bipush hx hb dX1_cancel_19 (by decide) ?_
      exact rt dX1_cancel_21 w (Or.inl ⟨rfl, Or.inr ⟨hex, by omega, rfl⟩⟩) rfl
  · skip
    
    refine zr_iconst hx hb dX1_cancel_8 ?_
    exact rt dX1_cancel_9 w (Or.inl ⟨rfl, Or.inl ⟨by omega, rfl⟩⟩) rfl
theorem flok_up {fl : Int → Int} (h : flok fl) (a : Int) {g : Int} (hg : -10000 ≤ g ∧ g ≤ 10000) : flok (up fl a g) := by
  intro b h1 h2
  by_cases q : b = a
  · rw [q, up_s]
    exact hg
  · rw [up_n _ _ q]
    exact h b h1 h2
set_option maxHeartbeats 4000000 in
set_option maxRecDepth 100000 in
theorem md_floor (l : Launch) (z : mdZ) {xac xdy xam xof xfl xob : Int → Int} {xn xba xnb : Int} (P : Int → Int → Int) (hP : P = pb xn xac xdy xam xof) (hn : 0 ≤ xn ∧ xn ≤ 60) (he : eok xac xdy xam xof xn) (hf0 : flok xfl) (hba : xba = 0 ∨ xba = 1) (a g : Int) (ha : -2147483648 ≤ a ∧ a ≤ 2147483647) (hg : -2147483648 ≤ g ∧ g ≤ 2147483647) : mdM l yX1_floor cX1_floor 4 .int ({ frames := 3, cells := 0, slots := 0, locals := 66 }) z (mdC xn xac xdy xam xof xfl xba xnb xob) [.int (zi a), .int (zi g)] (fun k u' => (u' = mdC xn xac xdy xam xof xfl xba xnb xob ∧ ((¬ (0 ≤ a ∧ a < 4) ∧ k = -1) ∨ ((0 ≤ a ∧ a < 4) ∧ ¬ (-10000 ≤ g ∧ g ≤ 10000) ∧ k = -2) ∨ ((0 ≤ a ∧ a < 4) ∧ (-10000 ≤ g ∧ g ≤ 10000) ∧ xba = 1 ∧ k = -3))) ∨ (((0 ≤ a ∧ a < 4) ∧ (-10000 ≤ g ∧ g ≤ 10000) ∧ xba = 0) ∧ ((u' = mdC xn xac xdy xam xof (up (up xfl a g) a (xfl a)) xba xnb xob ∧ ¬ sdd (up xfl a g) P ∧ k = -4) ∨ (u' = mdC xn xac xdy xam xof (up xfl a g) xba xnb xob ∧ sdd (up xfl a g) P ∧ k = xfl a)))) := by
  refine md_enter (by decide) rfl (Nat.le_of_ble_eq_true rfl) ?_
  intro p e R s m args below meth c A Q hR E hml rt w ls hl
  have hx := E.1
  have hb := E.2.1
  have hts := E.2.2.1
  have hown := E.2.2.2.1
  have hl : lv_has ls 4 [(0, .ref z.2.1), (1, .int (zi a)), (2, .int (zi g))] := hl
  have w : mdG z A s.heap xn xac xdy xam xof xfl xba xnb xob s.heap [] := w
  refine lv_aload_n hx hb dX1_floor_0 rfl (lv_at hl 0 rfl) ?_
  refine lv_iload_n hx hb dX1_floor_1 rfl (lv_at hl 1 rfl) ?_
  refine md_call (as := [.int (zi a)]) (rest := []) (n := 1) E hml w (md_bad l z a ha) q248 q250 qs10 q251 rfl rfl (by decide +kernel) (by rw [hR]; exact ⟨Nat.le_of_ble_eq_true rfl, Nat.le_of_ble_eq_true rfl⟩) rfl hl.1 rfl (Nat.le_of_ble_eq_true rfl) dX1_floor_2 (fun k1 u1 H locs hk1 w => ?_)
  obtain ⟨rfl, hk1⟩ := hk1
  have w : mdG z A s.heap xn xac xdy xam xof xfl xba xnb xob H locs := w
  refine zr_if_eq (tgt := 10) hx hb dX1_floor_5 (by decide) (by omega) (fun c_5 => ?_) (fun c_5 => ?_)
  · skip
    refine lv_iload_n hx hb dX1_floor_10 rfl (lv_at hl 2 rfl) ?_
    refine zr_sipush hx hb dX1_floor_11 (by decide) ?_
    refine zr_icmp_lt (tgt := 24) hx hb dX1_floor_14 (by decide) (by omega) (by omega) (fun c_14 => ?_) (fun c_14 => ?_)
    · skip
      refine zr_bipush hx hb dX1_floor_24 (by decide) ?_
      exact rt dX1_floor_26 w (Or.inl ⟨rfl, Or.inr (Or.inl ⟨by omega, by omega, rfl⟩)⟩) rfl
    · skip
      refine lv_iload_n hx hb dX1_floor_17 rfl (lv_at hl 2 rfl) ?_
      refine zr_sipush hx hb dX1_floor_18 (by decide) ?_
      refine zr_icmp_le (tgt := 27) hx hb dX1_floor_21 (by decide) (by omega) (by omega) (fun c_21 => ?_) (fun c_21 => ?_)
      · skip
        refine lv_aload_n hx hb dX1_floor_27 rfl (lv_at hl 0 rfl) ?_
        refine mg_ba E w (v := xba) rfl dX1_floor_28 ?_
        refine zr_if_eq (tgt := 37) hx hb dX1_floor_31 (by decide) (by omega) (fun c_31 => ?_) (fun c_31 => ?_)
        · skip
          refine lv_aload_n hx hb dX1_floor_37 rfl (lv_at hl 0 rfl) ?_
          refine mg_fl E w dX1_floor_38 ?_
          refine lv_iload_n hx hb dX1_floor_41 rfl (lv_at hl 1 rfl) ?_
          refine ml_fl E w (v := xfl a) (by omega) rfl dX1_floor_42 ?_
          refine lv_istore_n (lv' := [(3, .int (zi (xfl a))), (0, .ref z.2.1), (1, .int (zi a)), (2, .int (zi g))]) hx hb dX1_floor_43 rfl hl (by decide) rfl (fun ls hl => ?_)
          refine lv_aload_n hx hb dX1_floor_44 rfl (lv_at hl 1 rfl) ?_
          refine mg_fl E w dX1_floor_45 ?_
          refine lv_iload_n hx hb dX1_floor_48 rfl (lv_at hl 2 rfl) ?_
          refine lv_iload_n hx hb dX1_floor_49 rfl (lv_at hl 3 rfl) ?_
          refine ms_fl E w (by omega) dX1_floor_50 (fun H locs w => ?_)
          refine lv_aload_n hx hb dX1_floor_51 rfl (lv_at hl 1 rfl) ?_
          refine md_call (as := []) (rest := []) (n := 0) E hml w (md_allSound l z P hP hn he (flok_up hf0 a (by omega))) q260 q262 qs13 q263 rfl rfl (by decide +kernel) (by rw [hR]; exact ⟨Nat.le_of_ble_eq_true rfl, Nat.le_of_ble_eq_true rfl⟩) rfl hl.1 rfl (Nat.le_of_ble_eq_true rfl) dX1_floor_52 (fun k3 u1 H locs hk3 w => ?_)
          obtain ⟨rfl, hk3⟩ := hk3
          have hk4 : k3 = 0 ∨ k3 = 1 := hk3.elim (fun q => Or.inr q.1) (fun q => Or.inl q.1)
          have w : mdG z A s.heap xn xac xdy xam xof (up xfl a g) xba xnb xob H locs := w
          refine zr_if_ne (tgt := 68) hx hb dX1_floor_55 (by decide) (by omega) (fun c_55 => ?_) (fun c_55 => ?_)
          · skip
            refine lv_iload_n hx hb dX1_floor_68 rfl (lv_at hl 0 rfl) ?_
            exact rt dX1_floor_69 w (Or.inr ⟨by omega, Or.inr ⟨rfl, hk3.elim (fun q => q.2) (fun q => by omega), rfl⟩⟩) rfl
          · skip
            refine lv_aload_n hx hb dX1_floor_58 rfl (lv_at hl 1 rfl) ?_
            refine mg_fl E w dX1_floor_59 ?_
            refine lv_iload_n hx hb dX1_floor_62 rfl (lv_at hl 2 rfl) ?_
            refine lv_iload_n hx hb dX1_floor_63 rfl (lv_at hl 0 rfl) ?_
            refine ms_fl E w (by omega) dX1_floor_64 (fun H locs w => ?_)
            refine zr_bipush hx hb dX1_floor_65 (by decide) ?_
            exact rt dX1_floor_67 w (Or.inr ⟨by omega, Or.inl ⟨rfl, hk3.elim (fun q => by omega) (fun q => q.2), rfl⟩⟩) rfl
        · skip
          refine zr_bipush hx hb dX1_floor_34 (by decide) ?_
          exact rt dX1_floor_36 w (Or.inl ⟨rfl, Or.inr (Or.inr ⟨by omega, by omega, by omega, rfl⟩)⟩) rfl
      · skip
        refine zr_bipush hx hb dX1_floor_24 (by decide) ?_
        exact rt dX1_floor_26 w (Or.inl ⟨rfl, Or.inr (Or.inl ⟨by omega, by omega, rfl⟩)⟩) rfl
  · skip
    refine zr_iconst hx hb dX1_floor_8 ?_
    exact rt dX1_floor_9 w (Or.inl ⟨rfl, Or.inl ⟨by omega, rfl⟩⟩) rfl
end
section
/-! BackdatedBookModel: open, close -/
set_option maxHeartbeats 4000000 in
set_option maxRecDepth 100000 in
theorem md_open (l : Launch) (z : mdZ) {xac xdy xam xof xfl xob : Int → Int} {xn xba xnb : Int} (hba : xba = 0 ∨ xba = 1) (hn : 0 ≤ xn ∧ xn ≤ 60) (hof : ∀ j, 0 ≤ j → j < 60 → xof j = 0 ∨ xof j = 1) : mdM l yX1_open cX1_open 2 .int ({ frames := 0, cells := 0, slots := 0, locals := 0 }) z (mdC xn xac xdy xam xof xfl xba xnb xob) [] (fun k u' => (xba = 1 ∧ u' = mdC xn xac xdy xam xof xfl xba xnb xob ∧ k = -1) ∨ (xba = 0 ∧ k = 0 ∧ ∃ g0 : Int → Int, u' = mdC xn xac xdy xam xof xfl 1 xn g0 ∧ ∀ j, 0 ≤ j → j < 60 → g0 j = xof j)) := by
  refine md_enter (by decide) rfl (Nat.le_of_ble_eq_true rfl) ?_
  intro p e R s m args below meth c A Q hR E hml rt w ls hl
  have hx := E.1
  have hb := E.2.1
  have hts := E.2.2.1
  have hown := E.2.2.2.1
  have hl : lv_has ls 2 [(0, .ref z.2.1)] := hl
  have w : mdG z A s.heap xn xac xdy xam xof xfl xba xnb xob s.heap [] := w
  have loop0 (hb0 : xba = 0) : ∀ (n : Nat) (i : Int) (g0 : Int → Int) (H : Heap) (locs : List Loc) (ls : Array Slot), 0 ≤ i ∧ i ≤ 60 → 61 ≤ (n : Int) + i → (∀ j, 0 ≤ j → j < i → g0 j = xof j) → mdG z A s.heap xn xac xdy xam xof xfl 1 xn g0 H locs → lv_has ls 2 [(0, .ref z.2.1), (1, .int (zi i))] → W p l e R s m args below meth c H locs 0 0 Q (F0 m 24 ls []) := by
    intro n
    induction n with
    | zero =>
      intro i g0 H locs ls i1 hn9 i3
      exfalso
      omega
    | succ n ih =>
      intro i g0 H locs ls i1 hn9 i3 w hl
      refine lv_iload_n hx hb dX1_open_24 rfl (lv_at hl 1 rfl) ?_
      refine zr_bipush hx hb dX1_open_25 (by decide) ?_
      refine zr_icmp_ge (tgt := 48) hx hb dX1_open_27 (by decide) (by omega) (by omega) (fun c_27 => ?_) (fun c_27 => ?_)
      · skip
        refine zr_iconst hx hb dX1_open_48 ?_
        exact rt dX1_open_49 w (Or.inr ⟨hb0, rfl, g0, rfl, fun j j1 j2 => i3 j j1 (by omega)⟩) rfl
      · skip
        refine lv_aload_n hx hb dX1_open_30 rfl (lv_at hl 0 rfl) ?_
        refine mg_ob E w dX1_open_31 ?_
        refine lv_iload_n hx hb dX1_open_34 rfl (lv_at hl 1 rfl) ?_
        refine lv_aload_n hx hb dX1_open_35 rfl (lv_at hl 0 rfl) ?_
        refine mg_of E w dX1_open_36 ?_
        refine lv_iload_n hx hb dX1_open_39 rfl (lv_at hl 1 rfl) ?_
        refine ml_of E w (v := xof i) (by omega) rfl dX1_open_40 ?_
        refine ms_ob E w (by omega) (hof i (by omega) (by omega)) dX1_open_41 (fun H locs w => ?_)
        refine lv_iinc (v := zi (i + 1)) (lv' := [(1, .int (zi (i + 1))), (0, .ref z.2.1)]) hx hb dX1_open_42 hl (k := 1) rfl (zi_add i 1) (by decide) rfl (fun ls hl => ?_)
        refine lv_goto (tgt := 24) hx hb dX1_open_45 (by decide) ?_
        exact ih (i + 1) (up g0 i (xof i)) _ _ ls (by omega) (by omega) (fun j j1 j2 => by
          by_cases q : j = i
          · rw [q, up_s]
          · rw [up_n _ _ q]
            exact i3 j j1 (by omega)) w (lv_sub hl [1, 0] rfl)
  refine lv_aload_n hx hb dX1_open_0 rfl (lv_at hl 0 rfl) ?_
  refine mg_ba E w (v := xba) rfl dX1_open_1 ?_
  refine zr_if_eq (tgt := 9) hx hb dX1_open_4 (by decide) (by omega) (fun c_4 => ?_) (fun c_4 => ?_)
  · skip
    have hb0 : xba = 0 := by omega
    refine lv_aload_n hx hb dX1_open_9 rfl (lv_at hl 0 rfl) ?_
    refine zr_iconst hx hb dX1_open_10 ?_
    refine mp_ba E w (by decide) dX1_open_11 (fun H locs w => ?_)
    refine lv_aload_n hx hb dX1_open_14 rfl (lv_at hl 0 rfl) ?_
    refine lv_aload_n hx hb dX1_open_15 rfl (lv_at hl 0 rfl) ?_
    refine mg_n E w (v := xn) rfl dX1_open_16 ?_
    refine mp_nb E w dX1_open_19 (fun H locs w => ?_)
    refine zr_iconst hx hb dX1_open_22 ?_
    refine lv_istore_n (lv' := [(1, .int (zi 0)), (0, .ref z.2.1)]) hx hb dX1_open_23 rfl hl (by decide) rfl (fun ls hl => ?_)
    exact loop0 hb0 61 0 xob _ _ ls (by omega) (by omega) (fun j j1 j2 => by omega) w (lv_sub hl [1, 0] rfl)
  · skip
    
    refine zr_iconst hx hb dX1_open_7 ?_
    exact rt dX1_open_8 w (Or.inl ⟨by omega, rfl, rfl⟩) rfl
set_option maxHeartbeats 4000000 in
set_option maxRecDepth 100000 in
theorem md_close (l : Launch) (z : mdZ) {xac xdy xam xof xfl xob : Int → Int} {xn xba xnb : Int} (P : Int → Int → Int) (hP : P = pb xn xac xdy xam xof) (hn : 0 ≤ xn ∧ xn ≤ 60) (he : eok xac xdy xam xof xn) (hf0 : flok xfl) (hba : xba = 0 ∨ xba = 1) (hnb : xba = 1 → 0 ≤ xnb ∧ xnb ≤ 60) (hob : ∀ j, 0 ≤ j → j < 60 → xob j = 0 ∨ xob j = 1) : mdM l yX1_close cX1_close 2 .int ({ frames := 3, cells := 0, slots := 0, locals := 66 }) z (mdC xn xac xdy xam xof xfl xba xnb xob) [] (fun k u' => (xba = 0 ∧ u' = mdC xn xac xdy xam xof xfl xba xnb xob ∧ k = -1) ∨ (xba = 1 ∧ sdd xfl P ∧ u' = mdC xn xac xdy xam xof xfl 0 xnb xob ∧ k = 1) ∨ (xba = 1 ∧ ¬ sdd xfl P ∧ k = 0 ∧ ∃ g0 : Int → Int, u' = mdC xnb xac xdy xam g0 xfl 0 xnb xob ∧ ∀ j, 0 ≤ j → j < 60 → g0 j = xob j)) := by
  refine md_enter (by decide) rfl (Nat.le_of_ble_eq_true rfl) ?_
  intro p e R s m args below meth c A Q hR E hml rt w ls hl
  have hx := E.1
  have hb := E.2.1
  have hts := E.2.2.1
  have hown := E.2.2.2.1
  have hl : lv_has ls 2 [(0, .ref z.2.1)] := hl
  have w : mdG z A s.heap xn xac xdy xam xof xfl xba xnb xob s.heap [] := w
  have loop0 (hb1 : xba = 1 ∧ ¬ sdd xfl P) : ∀ (n : Nat) (i : Int) (g0 : Int → Int) (H : Heap) (locs : List Loc) (ls : Array Slot), 0 ≤ i ∧ i ≤ 60 → 61 ≤ (n : Int) + i → (∀ j, 0 ≤ j → j < i → g0 j = xob j) → mdG z A s.heap xnb xac xdy xam g0 xfl 0 xnb xob H locs → lv_has ls 2 [(0, .ref z.2.1), (1, .int (zi i))] → W p l e R s m args below meth c H locs 0 0 Q (F0 m 33 ls []) := by
    intro n
    induction n with
    | zero =>
      intro i g0 H locs ls i1 hn9 i3
      exfalso
      omega
    | succ n ih =>
      intro i g0 H locs ls i1 hn9 i3 w hl
      refine lv_iload_n hx hb dX1_close_33 rfl (lv_at hl 1 rfl) ?_
      refine zr_bipush hx hb dX1_close_34 (by decide) ?_
      refine zr_icmp_ge (tgt := 57) hx hb dX1_close_36 (by decide) (by omega) (by omega) (fun c_36 => ?_) (fun c_36 => ?_)
      · skip
        refine zr_iconst hx hb dX1_close_57 ?_
        exact rt dX1_close_58 w (Or.inr (Or.inr ⟨hb1.1, hb1.2, rfl, g0, rfl, fun j j1 j2 => i3 j j1 (by omega)⟩)) rfl
      · skip
        refine lv_aload_n hx hb dX1_close_39 rfl (lv_at hl 0 rfl) ?_
        refine mg_of E w dX1_close_40 ?_
        refine lv_iload_n hx hb dX1_close_43 rfl (lv_at hl 1 rfl) ?_
        refine lv_aload_n hx hb dX1_close_44 rfl (lv_at hl 0 rfl) ?_
        refine mg_ob E w dX1_close_45 ?_
        refine lv_iload_n hx hb dX1_close_48 rfl (lv_at hl 1 rfl) ?_
        refine ml_ob E w (v := xob i) (by omega) rfl dX1_close_49 ?_
        refine ms_of E w (by omega) (hob i (by omega) (by omega)) dX1_close_50 (fun H locs w => ?_)
        refine lv_iinc (v := zi (i + 1)) (lv' := [(1, .int (zi (i + 1))), (0, .ref z.2.1)]) hx hb dX1_close_51 hl (k := 1) rfl (zi_add i 1) (by decide) rfl (fun ls hl => ?_)
        refine lv_goto (tgt := 33) hx hb dX1_close_54 (by decide) ?_
        exact ih (i + 1) (up g0 i (xob i)) _ _ ls (by omega) (by omega) (fun j j1 j2 => by
          by_cases q : j = i
          · rw [q, up_s]
          · rw [up_n _ _ q]
            exact i3 j j1 (by omega)) w (lv_sub hl [1, 0] rfl)
  refine lv_aload_n hx hb dX1_close_0 rfl (lv_at hl 0 rfl) ?_
  refine mg_ba E w (v := xba) rfl dX1_close_1 ?_
  refine zr_if_ne (tgt := 9) hx hb dX1_close_4 (by decide) (by omega) (fun c_4 => ?_) (fun c_4 => ?_)
  · skip
    refine lv_aload_n hx hb dX1_close_9 rfl (lv_at hl 0 rfl) ?_
    refine zr_iconst hx hb dX1_close_10 ?_
    refine mp_ba E w (by decide) dX1_close_11 (fun H locs w => ?_)
    refine lv_aload_n hx hb dX1_close_14 rfl (lv_at hl 0 rfl) ?_
    refine md_call (as := []) (rest := []) (n := 0) E hml w (md_allSound l z P hP hn he hf0) q260 q262 qs13 q263 rfl rfl (by decide +kernel) (by rw [hR]; exact ⟨Nat.le_of_ble_eq_true rfl, Nat.le_of_ble_eq_true rfl⟩) rfl hl.1 rfl (Nat.le_of_ble_eq_true rfl) dX1_close_15 (fun k1 u1 H locs hk1 w => ?_)
    obtain ⟨rfl, hk1⟩ := hk1
    have hk2 : k1 = 0 ∨ k1 = 1 := hk1.elim (fun q => Or.inr q.1) (fun q => Or.inl q.1)
    have w : mdG z A s.heap xn xac xdy xam xof xfl 0 xnb xob H locs := w
    refine zr_if_eq (tgt := 23) hx hb dX1_close_18 (by decide) (by omega) (fun c_18 => ?_) (fun c_18 => ?_)
    · skip
      have hb1 : xba = 1 ∧ ¬ sdd xfl P := ⟨by omega, hk1.elim (fun q => by omega) (fun q => q.2)⟩
      refine lv_aload_n hx hb dX1_close_23 rfl (lv_at hl 0 rfl) ?_
      refine lv_aload_n hx hb dX1_close_24 rfl (lv_at hl 0 rfl) ?_
      refine mg_nb E w (v := xnb) rfl dX1_close_25 ?_
      refine mp_n E w dX1_close_28 (fun H locs w => ?_)
      refine zr_iconst hx hb dX1_close_31 ?_
      refine lv_istore_n (lv' := [(1, .int (zi 0)), (0, .ref z.2.1)]) hx hb dX1_close_32 rfl hl (by decide) rfl (fun ls hl => ?_)
      exact loop0 hb1 61 0 xof _ _ ls (by omega) (by omega) (fun j j1 j2 => by omega) w (lv_sub hl [1, 0] rfl)
    · skip
      
      refine zr_iconst hx hb dX1_close_21 ?_
      exact rt dX1_close_22 w (Or.inr (Or.inl ⟨by omega, hk1.elim (fun q => q.2) (fun q => by omega), rfl, rfl⟩)) rfl
  · skip
    refine zr_iconst hx hb dX1_close_7 ?_
    exact rt dX1_close_8 w (Or.inl ⟨by omega, rfl, rfl⟩) rfl
end
section
/-! THE CONSTRUCTORS -/
theorem ra_inj {U : State} {c1 c2 : ClassId} {ty : FieldType} (ht : ty = .int ∨ ty = .boolean) (h1 : va_RA U c1 ty) (h2 : va_RA U c2 ty) : c1 = c2 := by
  rcases ht with rfl | rfl
  · have a := va_nm_int h1
    have b := va_nm_int h2
    rw [a] at b
    exact Option.some.inj b
  · have a := va_nm_boolean h1
    have b := va_nm_boolean h2
    rw [a] at b
    exact Option.some.inj b
/-- what holds of an array class by the tables' word -/
theorem ra_of {args : Array Value} {s : State} {ty : FieldType} (ht : ty = .int ∨ ty = .boolean) (h : (Cond.arrayClass ty).before args s = true) : ∃ cA : ClassId, ArrOfT s cA ty ∧ va_RA s cA ty := by
  obtain ⟨cA, kA, comp, h1, h2, h3⟩ := Cond.arrayClass_spec h
  refine ⟨cA, fun n z => ⟨fun k h => (by cases h), kA, h2, comp, h3⟩, ?_⟩
  rcases ht with rfl | rfl <;> exact h1
def z0 : Int → Int := fun _ => 0
section NEWA
variable {p : Program} {l : Launch} {e : Env} {R : Room} {s : State} {m : MethodId} {args : Array Value} {below : List Frame} {meth : Method} {c : Code} {H : Heap} {locs : List Loc} {cells slots : Nat} {Q : State → Prop}
variable {cc : ByteArray} {pc : Nat} {ls : Array Slot} {rest : List Value} {A : Nat → Prop} {H0 : Heap} {D : va_G} {ws : va_W} {ci cb : ClassId}
theorem zn_newi (hx : p.tables.exec = Jvm.exec) (hb : c.code = cc) (hts : ∀ w ∈ lw_all, w.before args s = true) (hK : va_K D vwCl [(ci, .int), (cb, .boolean)] s) (hP : va_P D vwCl ws H) (hD : va_D A ws) (hS : va_S A H0 H locs) (hA : ∀ q, H0.size ≤ q → A q) {n : Int} (N : Nat) (hn : n = (N : Int)) (hN : N ≤ 1000) (hcells : cells + 1 ≤ R.cells) (hslots : slots + N ≤ R.slots) (hdg : decode cc pc = .ok (.newarray .int, 2)) (kk : ∀ (q : Nat) (H1 : Heap), va_P D vwCl (ws ++ [(q, .inl (ci, N, .inl (zc z0)))]) H1 → va_D A (ws ++ [(q, .inl (ci, N, .inl (zc z0)))]) → va_S A H0 H1 locs → W p l e R s m args below meth c H1 locs (cells + 1) (slots + N) Q (F0 m (pc + 2) ls (.ref q :: rest))) : W p l e R s m args below meth c H locs cells slots Q (F0 m pc ls (.int (zi n) :: rest)) := by
  subst hn
  refine va_newa (atype := .int) (ty := .int) (N' := N) (a0 := (N, .inl (zc z0))) hx hb (hts _ q79) rfl hK hP hD hS hA (fun cA => ?_) ?_ ?_ ?_ hcells hslots hdg (fun q cA H1 hK1 hP1 hD1 hS1 => ?_)
  · rw [vp_cell_i]
    rfl
  · rw [← zi_0, zi_lt (by omega) (by decide)]
    omega
  · rw [zi_clamp (by omega)]
    omega
  · show N * 4 ≤ 536870912
    omega
  · have e : cA = ci := ra_inj (Or.inl rfl) (hK1.2 2 _ rfl).2 (hK.2 0 _ rfl).2
    subst e
    exact kk q H1 hP1 hD1 hS1
theorem zn_newb (hx : p.tables.exec = Jvm.exec) (hb : c.code = cc) (hts : ∀ w ∈ lw_all, w.before args s = true) (hK : va_K D vwCl [(ci, .int), (cb, .boolean)] s) (hP : va_P D vwCl ws H) (hD : va_D A ws) (hS : va_S A H0 H locs) (hA : ∀ q, H0.size ≤ q → A q) {n : Int} (N : Nat) (hn : n = (N : Int)) (hN : N ≤ 1000) (hcells : cells + 1 ≤ R.cells) (hslots : slots + N ≤ R.slots) (hdg : decode cc pc = .ok (.newarray .boolean, 2)) (kk : ∀ (q : Nat) (H1 : Heap), va_P D vwCl (ws ++ [(q, .inl (cb, N, .inl (zc z0)))]) H1 → va_D A (ws ++ [(q, .inl (cb, N, .inl (zc z0)))]) → va_S A H0 H1 locs → W p l e R s m args below meth c H1 locs (cells + 1) (slots + N) Q (F0 m (pc + 2) ls (.ref q :: rest))) : W p l e R s m args below meth c H locs cells slots Q (F0 m pc ls (.int (zi n) :: rest)) := by
  subst hn
  refine va_newa (atype := .boolean) (ty := .boolean) (N' := N) (a0 := (N, .inl (zc z0))) hx hb (hts _ q80) rfl hK hP hD hS hA (fun cA => ?_) ?_ ?_ ?_ hcells hslots hdg (fun q cA H1 hK1 hP1 hD1 hS1 => ?_)
  · rw [vp_cell_i]
    rfl
  · rw [← zi_0, zi_lt (by omega) (by decide)]
    omega
  · rw [zi_clamp (by omega)]
    omega
  · show N * 1 ≤ 536870912
    omega
  · have e : cA = cb := ra_inj (Or.inr rfl) (hK1.2 2 _ rfl).2 (hK.2 1 _ rfl).2
    subst e
    exact kk q H1 hP1 hD1 hS1
end NEWA
/-- the fields of a new object -/
def bkN : List Value := [.null, .null, .null, .null, .null, .null, .null, .null, .null, .int (zi 0), .int (zi 0), .int (zi 0), .int (zi 0), .int (zi 0), .int (zi 0), .int (zi 0)]
/-- what it holds at first -/
def bk0 : bkS := bkC z0 z0 z0 z0 z0 z0 z0 z0 z0 0 0 0 0 0 0 0
theorem bkN_ok : ∀ j, j < 16 → defaultValue (tyX0 j) = vp_V bkN j := by
  intro j hj
  rcases (show j = 0 ∨ j = 1 ∨ j = 2 ∨ j = 3 ∨ j = 4 ∨ j = 5 ∨ j = 6 ∨ j = 7 ∨ j = 8 ∨ j = 9 ∨ j = 10 ∨ j = 11 ∨ j = 12 ∨ j = 13 ∨ j = 14 ∨ j = 15 by omega) with rfl | rfl | rfl | rfl | rfl | rfl | rfl | rfl | rfl | rfl | rfl | rfl | rfl | rfl | rfl | rfl <;> rfl
set_option maxHeartbeats 4000000 in
set_option maxRecDepth 100000 in
/-- the constructor: all numbers 0 -/
theorem bk_init (l : Launch) (D : va_G) (h0 : Nat) (ci cb : ClassId) (sz : Nat) : Met l yX0_init (ws_ yX0_init cX0_init 1 none) ({ frames := 1, cells := 9, slots := 1840, locals := 12 }) (va_Pc [.ref h0] (fun U => U.heap.size = sz ∧ va_P D vwCl [(h0, .inr (0, bkN))] U.heap ∧ va_K D vwCl [(ci, .int), (cb, .boolean)] U ∧ va_D (fun _ => True) [(h0, .inr (0, bkN))])) (va_Qv (fun (_ : Nat → Nat) => True) (fun q t => bkB (D, h0, q, ci, cb) (va_A [(h0, .inr (0, bkN))] sz) bk0 t) (va_A [(h0, .inr (0, bkN))] sz)) 9 1840 (va_A [(h0, .inr (0, bkN))] sz) := by
  refine Met.ofW (cc := cX0_init) (maxL := 1) (ret := none) (by decide) rfl ?_
  intro p e s m args below meth c s₁ B hml hv
  obtain ⟨rfl, hsz, hP, hK, hD0⟩ := hv
  have hx := B.exec
  have hb := B.bytes
  have hr := B.returns
  have hts := atoms_spec (ws := ws_ yX0_init cX0_init 1 none) B.pre
  have hts : ∀ w ∈ lw_all, w.before _ s = true := fun w h => hts w (List.mem_cons_of_mem _ h)
  have hown : s.vm.findClass RX0 = some m.cls := findClass_of_methodNamed B.named
  have hlocks := B.notSynchronized
  have hin : meth.name = "<init>" := (name_of_methodNamed B.named B.method).1
  subst hsz
  have hD := hD0.self (sz := s.heap.size)
  generalize hAe : va_A [(h0, .inr (0, bkN))] s.heap.size = A at hD ⊢
  have hA : ∀ q : Nat, s.heap.size ≤ q → A q := fun q h => by rw [← hAe]; exact Or.inr h
  have hS : va_S A s.heap s.heap [] := va_S.rf
  have hl := lv_entry ([.ref h0]) (n := 1) (Nat.le_of_ble_eq_true rfl)
  rw [lg_entry_eq]
  generalize (lg_sl ([.ref h0]) ++ List.replicate (1 - (lg_sl ([.ref h0])).length) Slot.unset).toArray = ls at hl ⊢
  have hl : lv_has ls 1 [(0, .ref h0)] := hl
  have hP : va_P D vwCl [(h0, .inr (0, [.null, .null, .null, .null, .null, .null, .null, .null, .null, .int (zi 0), .int (zi 0), .int (zi 0), .int (zi 0), .int (zi 0), .int (zi 0), .int (zi 0)]))] s.heap := hP
  have hD : va_D A [(h0, .inr (0, [.null, .null, .null, .null, .null, .null, .null, .null, .null, .int (zi 0), .int (zi 0), .int (zi 0), .int (zi 0), .int (zi 0), .int (zi 0), .int (zi 0)]))] := hD
  refine lv_aload_n hx hb dX0_init_0 rfl (lv_at hl 0 rfl) ?_
  refine W.objInit hx hb hown (hts _ q27) (hts _ q28) (hts _ q29) rfl (by rw [hml]; exact hl.1) rfl dX0_init_1 (Nat.le_of_ble_eq_true rfl) (Nat.le_of_ble_eq_true rfl) ?_
  refine W.eq (g2 := F0 m 4 ls []) rfl ?_
  refine lv_aload_n hx hb dX0_init_4 rfl (lv_at hl 0 rfl) ?_
  refine zr_bipush hx hb dX0_init_5 (by decide) ?_
  refine zn_newi hx hb hts hK hP hD hS hA 60 rfl (by decide) (Nat.le_of_ble_eq_true rfl) (Nat.le_of_ble_eq_true rfl) dX0_init_7 (fun q0 H hP hD hS => ?_)
  refine W.widen (k := 1) (n := 60) (Nat.le_of_ble_eq_true rfl) (Nat.le_of_ble_eq_true rfl) ?_
  have hP : va_P D vwCl [(h0, .inr (0, [.null, .null, .null, .null, .null, .null, .null, .null, .null, .int (zi 0), .int (zi 0), .int (zi 0), .int (zi 0), .int (zi 0), .int (zi 0), .int (zi 0)])), (q0, .inl (ci, 60, .inl (zc z0)))] H := hP
  have hD : va_D A [(h0, .inr (0, [.null, .null, .null, .null, .null, .null, .null, .null, .null, .int (zi 0), .int (zi 0), .int (zi 0), .int (zi 0), .int (zi 0), .int (zi 0), .int (zi 0)])), (q0, .inl (ci, 60, .inl (zc z0)))] := hD
  refine va_putF (D := D) (ci := 0) (v := .ref q0) (ty := .array .int) (C := RX0) (T := TX0) (N := 16) hx hb hts in_X0 tyX0 tyX0_ok nmX0 hown hK hP hD hS 0 rfl rfl 0 (by decide) (hts _ q30) (fun _ h9 => h9) rfl hin rfl (by decide +kernel) rfl rfl (Nat.le_of_ble_eq_true rfl) dX0_init_9 (fun H locs hP hD hS => ?_)
  have hP : va_P D vwCl [(h0, .inr (0, [.ref q0, .null, .null, .null, .null, .null, .null, .null, .null, .int (zi 0), .int (zi 0), .int (zi 0), .int (zi 0), .int (zi 0), .int (zi 0), .int (zi 0)])), (q0, .inl (ci, 60, .inl (zc z0)))] H := hP
  have hD : va_D A [(h0, .inr (0, [.ref q0, .null, .null, .null, .null, .null, .null, .null, .null, .int (zi 0), .int (zi 0), .int (zi 0), .int (zi 0), .int (zi 0), .int (zi 0), .int (zi 0)])), (q0, .inl (ci, 60, .inl (zc z0)))] := hD
  refine lv_aload_n hx hb dX0_init_12 rfl (lv_at hl 0 rfl) ?_
  refine zr_bipush hx hb dX0_init_13 (by decide) ?_
  refine zn_newi hx hb hts hK hP hD hS hA 60 rfl (by decide) (Nat.le_of_ble_eq_true rfl) (Nat.le_of_ble_eq_true rfl) dX0_init_15 (fun q1 H hP hD hS => ?_)
  refine W.widen (k := 2) (n := 120) (Nat.le_of_ble_eq_true rfl) (Nat.le_of_ble_eq_true rfl) ?_
  have hP : va_P D vwCl [(h0, .inr (0, [.ref q0, .null, .null, .null, .null, .null, .null, .null, .null, .int (zi 0), .int (zi 0), .int (zi 0), .int (zi 0), .int (zi 0), .int (zi 0), .int (zi 0)])), (q0, .inl (ci, 60, .inl (zc z0))), (q1, .inl (ci, 60, .inl (zc z0)))] H := hP
  have hD : va_D A [(h0, .inr (0, [.ref q0, .null, .null, .null, .null, .null, .null, .null, .null, .int (zi 0), .int (zi 0), .int (zi 0), .int (zi 0), .int (zi 0), .int (zi 0), .int (zi 0)])), (q0, .inl (ci, 60, .inl (zc z0))), (q1, .inl (ci, 60, .inl (zc z0)))] := hD
  refine va_putF (D := D) (ci := 0) (v := .ref q1) (ty := .array .int) (C := RX0) (T := TX0) (N := 16) hx hb hts in_X0 tyX0 tyX0_ok nmX0 hown hK hP hD hS 0 rfl rfl 1 (by decide) (hts _ q31) (fun _ h9 => h9) rfl hin rfl (by decide +kernel) rfl rfl (Nat.le_of_ble_eq_true rfl) dX0_init_17 (fun H locs hP hD hS => ?_)
  have hP : va_P D vwCl [(h0, .inr (0, [.ref q0, .ref q1, .null, .null, .null, .null, .null, .null, .null, .int (zi 0), .int (zi 0), .int (zi 0), .int (zi 0), .int (zi 0), .int (zi 0), .int (zi 0)])), (q0, .inl (ci, 60, .inl (zc z0))), (q1, .inl (ci, 60, .inl (zc z0)))] H := hP
  have hD : va_D A [(h0, .inr (0, [.ref q0, .ref q1, .null, .null, .null, .null, .null, .null, .null, .int (zi 0), .int (zi 0), .int (zi 0), .int (zi 0), .int (zi 0), .int (zi 0), .int (zi 0)])), (q0, .inl (ci, 60, .inl (zc z0))), (q1, .inl (ci, 60, .inl (zc z0)))] := hD
  refine lv_aload_n hx hb dX0_init_20 rfl (lv_at hl 0 rfl) ?_
  refine zr_bipush hx hb dX0_init_21 (by decide) ?_
  refine zn_newi hx hb hts hK hP hD hS hA 60 rfl (by decide) (Nat.le_of_ble_eq_true rfl) (Nat.le_of_ble_eq_true rfl) dX0_init_23 (fun q2 H hP hD hS => ?_)
  refine W.widen (k := 3) (n := 180) (Nat.le_of_ble_eq_true rfl) (Nat.le_of_ble_eq_true rfl) ?_
  have hP : va_P D vwCl [(h0, .inr (0, [.ref q0, .ref q1, .null, .null, .null, .null, .null, .null, .null, .int (zi 0), .int (zi 0), .int (zi 0), .int (zi 0), .int (zi 0), .int (zi 0), .int (zi 0)])), (q0, .inl (ci, 60, .inl (zc z0))), (q1, .inl (ci, 60, .inl (zc z0))), (q2, .inl (ci, 60, .inl (zc z0)))] H := hP
  have hD : va_D A [(h0, .inr (0, [.ref q0, .ref q1, .null, .null, .null, .null, .null, .null, .null, .int (zi 0), .int (zi 0), .int (zi 0), .int (zi 0), .int (zi 0), .int (zi 0), .int (zi 0)])), (q0, .inl (ci, 60, .inl (zc z0))), (q1, .inl (ci, 60, .inl (zc z0))), (q2, .inl (ci, 60, .inl (zc z0)))] := hD
  refine va_putF (D := D) (ci := 0) (v := .ref q2) (ty := .array .int) (C := RX0) (T := TX0) (N := 16) hx hb hts in_X0 tyX0 tyX0_ok nmX0 hown hK hP hD hS 0 rfl rfl 2 (by decide) (hts _ q32) (fun _ h9 => h9) rfl hin rfl (by decide +kernel) rfl rfl (Nat.le_of_ble_eq_true rfl) dX0_init_25 (fun H locs hP hD hS => ?_)
  have hP : va_P D vwCl [(h0, .inr (0, [.ref q0, .ref q1, .ref q2, .null, .null, .null, .null, .null, .null, .int (zi 0), .int (zi 0), .int (zi 0), .int (zi 0), .int (zi 0), .int (zi 0), .int (zi 0)])), (q0, .inl (ci, 60, .inl (zc z0))), (q1, .inl (ci, 60, .inl (zc z0))), (q2, .inl (ci, 60, .inl (zc z0)))] H := hP
  have hD : va_D A [(h0, .inr (0, [.ref q0, .ref q1, .ref q2, .null, .null, .null, .null, .null, .null, .int (zi 0), .int (zi 0), .int (zi 0), .int (zi 0), .int (zi 0), .int (zi 0), .int (zi 0)])), (q0, .inl (ci, 60, .inl (zc z0))), (q1, .inl (ci, 60, .inl (zc z0))), (q2, .inl (ci, 60, .inl (zc z0)))] := hD
  refine lv_aload_n hx hb dX0_init_28 rfl (lv_at hl 0 rfl) ?_
  refine zr_bipush hx hb dX0_init_29 (by decide) ?_
  refine zn_newb hx hb hts hK hP hD hS hA 60 rfl (by decide) (Nat.le_of_ble_eq_true rfl) (Nat.le_of_ble_eq_true rfl) dX0_init_31 (fun q3 H hP hD hS => ?_)
  refine W.widen (k := 4) (n := 240) (Nat.le_of_ble_eq_true rfl) (Nat.le_of_ble_eq_true rfl) ?_
  have hP : va_P D vwCl [(h0, .inr (0, [.ref q0, .ref q1, .ref q2, .null, .null, .null, .null, .null, .null, .int (zi 0), .int (zi 0), .int (zi 0), .int (zi 0), .int (zi 0), .int (zi 0), .int (zi 0)])), (q0, .inl (ci, 60, .inl (zc z0))), (q1, .inl (ci, 60, .inl (zc z0))), (q2, .inl (ci, 60, .inl (zc z0))), (q3, .inl (cb, 60, .inl (zc z0)))] H := hP
  have hD : va_D A [(h0, .inr (0, [.ref q0, .ref q1, .ref q2, .null, .null, .null, .null, .null, .null, .int (zi 0), .int (zi 0), .int (zi 0), .int (zi 0), .int (zi 0), .int (zi 0), .int (zi 0)])), (q0, .inl (ci, 60, .inl (zc z0))), (q1, .inl (ci, 60, .inl (zc z0))), (q2, .inl (ci, 60, .inl (zc z0))), (q3, .inl (cb, 60, .inl (zc z0)))] := hD
  refine va_putF (D := D) (ci := 0) (v := .ref q3) (ty := .array .boolean) (C := RX0) (T := TX0) (N := 16) hx hb hts in_X0 tyX0 tyX0_ok nmX0 hown hK hP hD hS 0 rfl rfl 3 (by decide) (hts _ q33) (fun _ h9 => h9) rfl hin rfl (by decide +kernel) rfl rfl (Nat.le_of_ble_eq_true rfl) dX0_init_33 (fun H locs hP hD hS => ?_)
  have hP : va_P D vwCl [(h0, .inr (0, [.ref q0, .ref q1, .ref q2, .ref q3, .null, .null, .null, .null, .null, .int (zi 0), .int (zi 0), .int (zi 0), .int (zi 0), .int (zi 0), .int (zi 0), .int (zi 0)])), (q0, .inl (ci, 60, .inl (zc z0))), (q1, .inl (ci, 60, .inl (zc z0))), (q2, .inl (ci, 60, .inl (zc z0))), (q3, .inl (cb, 60, .inl (zc z0)))] H := hP
  have hD : va_D A [(h0, .inr (0, [.ref q0, .ref q1, .ref q2, .ref q3, .null, .null, .null, .null, .null, .int (zi 0), .int (zi 0), .int (zi 0), .int (zi 0), .int (zi 0), .int (zi 0), .int (zi 0)])), (q0, .inl (ci, 60, .inl (zc z0))), (q1, .inl (ci, 60, .inl (zc z0))), (q2, .inl (ci, 60, .inl (zc z0))), (q3, .inl (cb, 60, .inl (zc z0)))] := hD
  refine lv_aload_n hx hb dX0_init_36 rfl (lv_at hl 0 rfl) ?_
  refine zr_iconst hx hb dX0_init_37 ?_
  refine zn_newi hx hb hts hK hP hD hS hA 4 rfl (by decide) (Nat.le_of_ble_eq_true rfl) (Nat.le_of_ble_eq_true rfl) dX0_init_38 (fun q4 H hP hD hS => ?_)
  refine W.widen (k := 5) (n := 244) (Nat.le_of_ble_eq_true rfl) (Nat.le_of_ble_eq_true rfl) ?_
  have hP : va_P D vwCl [(h0, .inr (0, [.ref q0, .ref q1, .ref q2, .ref q3, .null, .null, .null, .null, .null, .int (zi 0), .int (zi 0), .int (zi 0), .int (zi 0), .int (zi 0), .int (zi 0), .int (zi 0)])), (q0, .inl (ci, 60, .inl (zc z0))), (q1, .inl (ci, 60, .inl (zc z0))), (q2, .inl (ci, 60, .inl (zc z0))), (q3, .inl (cb, 60, .inl (zc z0))), (q4, .inl (ci, 4, .inl (zc z0)))] H := hP
  have hD : va_D A [(h0, .inr (0, [.ref q0, .ref q1, .ref q2, .ref q3, .null, .null, .null, .null, .null, .int (zi 0), .int (zi 0), .int (zi 0), .int (zi 0), .int (zi 0), .int (zi 0), .int (zi 0)])), (q0, .inl (ci, 60, .inl (zc z0))), (q1, .inl (ci, 60, .inl (zc z0))), (q2, .inl (ci, 60, .inl (zc z0))), (q3, .inl (cb, 60, .inl (zc z0))), (q4, .inl (ci, 4, .inl (zc z0)))] := hD
  refine va_putF (D := D) (ci := 0) (v := .ref q4) (ty := .array .int) (C := RX0) (T := TX0) (N := 16) hx hb hts in_X0 tyX0 tyX0_ok nmX0 hown hK hP hD hS 0 rfl rfl 4 (by decide) (hts _ q34) (fun _ h9 => h9) rfl hin rfl (by decide +kernel) rfl rfl (Nat.le_of_ble_eq_true rfl) dX0_init_40 (fun H locs hP hD hS => ?_)
  have hP : va_P D vwCl [(h0, .inr (0, [.ref q0, .ref q1, .ref q2, .ref q3, .ref q4, .null, .null, .null, .null, .int (zi 0), .int (zi 0), .int (zi 0), .int (zi 0), .int (zi 0), .int (zi 0), .int (zi 0)])), (q0, .inl (ci, 60, .inl (zc z0))), (q1, .inl (ci, 60, .inl (zc z0))), (q2, .inl (ci, 60, .inl (zc z0))), (q3, .inl (cb, 60, .inl (zc z0))), (q4, .inl (ci, 4, .inl (zc z0)))] H := hP
  have hD : va_D A [(h0, .inr (0, [.ref q0, .ref q1, .ref q2, .ref q3, .ref q4, .null, .null, .null, .null, .int (zi 0), .int (zi 0), .int (zi 0), .int (zi 0), .int (zi 0), .int (zi 0), .int (zi 0)])), (q0, .inl (ci, 60, .inl (zc z0))), (q1, .inl (ci, 60, .inl (zc z0))), (q2, .inl (ci, 60, .inl (zc z0))), (q3, .inl (cb, 60, .inl (zc z0))), (q4, .inl (ci, 4, .inl (zc z0)))] := hD
  refine lv_aload_n hx hb dX0_init_43 rfl (lv_at hl 0 rfl) ?_
  refine zr_sipush hx hb dX0_init_44 (by decide) ?_
  refine zn_newi hx hb hts hK hP hD hS hA 512 rfl (by decide) (Nat.le_of_ble_eq_true rfl) (Nat.le_of_ble_eq_true rfl) dX0_init_47 (fun q5 H hP hD hS => ?_)
  refine W.widen (k := 6) (n := 756) (Nat.le_of_ble_eq_true rfl) (Nat.le_of_ble_eq_true rfl) ?_
  have hP : va_P D vwCl [(h0, .inr (0, [.ref q0, .ref q1, .ref q2, .ref q3, .ref q4, .null, .null, .null, .null, .int (zi 0), .int (zi 0), .int (zi 0), .int (zi 0), .int (zi 0), .int (zi 0), .int (zi 0)])), (q0, .inl (ci, 60, .inl (zc z0))), (q1, .inl (ci, 60, .inl (zc z0))), (q2, .inl (ci, 60, .inl (zc z0))), (q3, .inl (cb, 60, .inl (zc z0))), (q4, .inl (ci, 4, .inl (zc z0))), (q5, .inl (ci, 512, .inl (zc z0)))] H := hP
  have hD : va_D A [(h0, .inr (0, [.ref q0, .ref q1, .ref q2, .ref q3, .ref q4, .null, .null, .null, .null, .int (zi 0), .int (zi 0), .int (zi 0), .int (zi 0), .int (zi 0), .int (zi 0), .int (zi 0)])), (q0, .inl (ci, 60, .inl (zc z0))), (q1, .inl (ci, 60, .inl (zc z0))), (q2, .inl (ci, 60, .inl (zc z0))), (q3, .inl (cb, 60, .inl (zc z0))), (q4, .inl (ci, 4, .inl (zc z0))), (q5, .inl (ci, 512, .inl (zc z0)))] := hD
  refine va_putF (D := D) (ci := 0) (v := .ref q5) (ty := .array .int) (C := RX0) (T := TX0) (N := 16) hx hb hts in_X0 tyX0 tyX0_ok nmX0 hown hK hP hD hS 0 rfl rfl 5 (by decide) (hts _ q35) (fun _ h9 => h9) rfl hin rfl (by decide +kernel) rfl rfl (Nat.le_of_ble_eq_true rfl) dX0_init_49 (fun H locs hP hD hS => ?_)
  have hP : va_P D vwCl [(h0, .inr (0, [.ref q0, .ref q1, .ref q2, .ref q3, .ref q4, .ref q5, .null, .null, .null, .int (zi 0), .int (zi 0), .int (zi 0), .int (zi 0), .int (zi 0), .int (zi 0), .int (zi 0)])), (q0, .inl (ci, 60, .inl (zc z0))), (q1, .inl (ci, 60, .inl (zc z0))), (q2, .inl (ci, 60, .inl (zc z0))), (q3, .inl (cb, 60, .inl (zc z0))), (q4, .inl (ci, 4, .inl (zc z0))), (q5, .inl (ci, 512, .inl (zc z0)))] H := hP
  have hD : va_D A [(h0, .inr (0, [.ref q0, .ref q1, .ref q2, .ref q3, .ref q4, .ref q5, .null, .null, .null, .int (zi 0), .int (zi 0), .int (zi 0), .int (zi 0), .int (zi 0), .int (zi 0), .int (zi 0)])), (q0, .inl (ci, 60, .inl (zc z0))), (q1, .inl (ci, 60, .inl (zc z0))), (q2, .inl (ci, 60, .inl (zc z0))), (q3, .inl (cb, 60, .inl (zc z0))), (q4, .inl (ci, 4, .inl (zc z0))), (q5, .inl (ci, 512, .inl (zc z0)))] := hD
  refine lv_aload_n hx hb dX0_init_52 rfl (lv_at hl 0 rfl) ?_
  refine zr_sipush hx hb dX0_init_53 (by decide) ?_
  refine zn_newi hx hb hts hK hP hD hS hA 512 rfl (by decide) (Nat.le_of_ble_eq_true rfl) (Nat.le_of_ble_eq_true rfl) dX0_init_56 (fun q6 H hP hD hS => ?_)
  refine W.widen (k := 7) (n := 1268) (Nat.le_of_ble_eq_true rfl) (Nat.le_of_ble_eq_true rfl) ?_
  have hP : va_P D vwCl [(h0, .inr (0, [.ref q0, .ref q1, .ref q2, .ref q3, .ref q4, .ref q5, .null, .null, .null, .int (zi 0), .int (zi 0), .int (zi 0), .int (zi 0), .int (zi 0), .int (zi 0), .int (zi 0)])), (q0, .inl (ci, 60, .inl (zc z0))), (q1, .inl (ci, 60, .inl (zc z0))), (q2, .inl (ci, 60, .inl (zc z0))), (q3, .inl (cb, 60, .inl (zc z0))), (q4, .inl (ci, 4, .inl (zc z0))), (q5, .inl (ci, 512, .inl (zc z0))), (q6, .inl (ci, 512, .inl (zc z0)))] H := hP
  have hD : va_D A [(h0, .inr (0, [.ref q0, .ref q1, .ref q2, .ref q3, .ref q4, .ref q5, .null, .null, .null, .int (zi 0), .int (zi 0), .int (zi 0), .int (zi 0), .int (zi 0), .int (zi 0), .int (zi 0)])), (q0, .inl (ci, 60, .inl (zc z0))), (q1, .inl (ci, 60, .inl (zc z0))), (q2, .inl (ci, 60, .inl (zc z0))), (q3, .inl (cb, 60, .inl (zc z0))), (q4, .inl (ci, 4, .inl (zc z0))), (q5, .inl (ci, 512, .inl (zc z0))), (q6, .inl (ci, 512, .inl (zc z0)))] := hD
  refine va_putF (D := D) (ci := 0) (v := .ref q6) (ty := .array .int) (C := RX0) (T := TX0) (N := 16) hx hb hts in_X0 tyX0 tyX0_ok nmX0 hown hK hP hD hS 0 rfl rfl 6 (by decide) (hts _ q36) (fun _ h9 => h9) rfl hin rfl (by decide +kernel) rfl rfl (Nat.le_of_ble_eq_true rfl) dX0_init_58 (fun H locs hP hD hS => ?_)
  have hP : va_P D vwCl [(h0, .inr (0, [.ref q0, .ref q1, .ref q2, .ref q3, .ref q4, .ref q5, .ref q6, .null, .null, .int (zi 0), .int (zi 0), .int (zi 0), .int (zi 0), .int (zi 0), .int (zi 0), .int (zi 0)])), (q0, .inl (ci, 60, .inl (zc z0))), (q1, .inl (ci, 60, .inl (zc z0))), (q2, .inl (ci, 60, .inl (zc z0))), (q3, .inl (cb, 60, .inl (zc z0))), (q4, .inl (ci, 4, .inl (zc z0))), (q5, .inl (ci, 512, .inl (zc z0))), (q6, .inl (ci, 512, .inl (zc z0)))] H := hP
  have hD : va_D A [(h0, .inr (0, [.ref q0, .ref q1, .ref q2, .ref q3, .ref q4, .ref q5, .ref q6, .null, .null, .int (zi 0), .int (zi 0), .int (zi 0), .int (zi 0), .int (zi 0), .int (zi 0), .int (zi 0)])), (q0, .inl (ci, 60, .inl (zc z0))), (q1, .inl (ci, 60, .inl (zc z0))), (q2, .inl (ci, 60, .inl (zc z0))), (q3, .inl (cb, 60, .inl (zc z0))), (q4, .inl (ci, 4, .inl (zc z0))), (q5, .inl (ci, 512, .inl (zc z0))), (q6, .inl (ci, 512, .inl (zc z0)))] := hD
  refine lv_aload_n hx hb dX0_init_61 rfl (lv_at hl 0 rfl) ?_
  refine zr_sipush hx hb dX0_init_62 (by decide) ?_
  refine zn_newi hx hb hts hK hP hD hS hA 512 rfl (by decide) (Nat.le_of_ble_eq_true rfl) (Nat.le_of_ble_eq_true rfl) dX0_init_65 (fun q7 H hP hD hS => ?_)
  refine W.widen (k := 8) (n := 1780) (Nat.le_of_ble_eq_true rfl) (Nat.le_of_ble_eq_true rfl) ?_
  have hP : va_P D vwCl [(h0, .inr (0, [.ref q0, .ref q1, .ref q2, .ref q3, .ref q4, .ref q5, .ref q6, .null, .null, .int (zi 0), .int (zi 0), .int (zi 0), .int (zi 0), .int (zi 0), .int (zi 0), .int (zi 0)])), (q0, .inl (ci, 60, .inl (zc z0))), (q1, .inl (ci, 60, .inl (zc z0))), (q2, .inl (ci, 60, .inl (zc z0))), (q3, .inl (cb, 60, .inl (zc z0))), (q4, .inl (ci, 4, .inl (zc z0))), (q5, .inl (ci, 512, .inl (zc z0))), (q6, .inl (ci, 512, .inl (zc z0))), (q7, .inl (ci, 512, .inl (zc z0)))] H := hP
  have hD : va_D A [(h0, .inr (0, [.ref q0, .ref q1, .ref q2, .ref q3, .ref q4, .ref q5, .ref q6, .null, .null, .int (zi 0), .int (zi 0), .int (zi 0), .int (zi 0), .int (zi 0), .int (zi 0), .int (zi 0)])), (q0, .inl (ci, 60, .inl (zc z0))), (q1, .inl (ci, 60, .inl (zc z0))), (q2, .inl (ci, 60, .inl (zc z0))), (q3, .inl (cb, 60, .inl (zc z0))), (q4, .inl (ci, 4, .inl (zc z0))), (q5, .inl (ci, 512, .inl (zc z0))), (q6, .inl (ci, 512, .inl (zc z0))), (q7, .inl (ci, 512, .inl (zc z0)))] := hD
  refine va_putF (D := D) (ci := 0) (v := .ref q7) (ty := .array .int) (C := RX0) (T := TX0) (N := 16) hx hb hts in_X0 tyX0 tyX0_ok nmX0 hown hK hP hD hS 0 rfl rfl 7 (by decide) (hts _ q37) (fun _ h9 => h9) rfl hin rfl (by decide +kernel) rfl rfl (Nat.le_of_ble_eq_true rfl) dX0_init_67 (fun H locs hP hD hS => ?_)
  have hP : va_P D vwCl [(h0, .inr (0, [.ref q0, .ref q1, .ref q2, .ref q3, .ref q4, .ref q5, .ref q6, .ref q7, .null, .int (zi 0), .int (zi 0), .int (zi 0), .int (zi 0), .int (zi 0), .int (zi 0), .int (zi 0)])), (q0, .inl (ci, 60, .inl (zc z0))), (q1, .inl (ci, 60, .inl (zc z0))), (q2, .inl (ci, 60, .inl (zc z0))), (q3, .inl (cb, 60, .inl (zc z0))), (q4, .inl (ci, 4, .inl (zc z0))), (q5, .inl (ci, 512, .inl (zc z0))), (q6, .inl (ci, 512, .inl (zc z0))), (q7, .inl (ci, 512, .inl (zc z0)))] H := hP
  have hD : va_D A [(h0, .inr (0, [.ref q0, .ref q1, .ref q2, .ref q3, .ref q4, .ref q5, .ref q6, .ref q7, .null, .int (zi 0), .int (zi 0), .int (zi 0), .int (zi 0), .int (zi 0), .int (zi 0), .int (zi 0)])), (q0, .inl (ci, 60, .inl (zc z0))), (q1, .inl (ci, 60, .inl (zc z0))), (q2, .inl (ci, 60, .inl (zc z0))), (q3, .inl (cb, 60, .inl (zc z0))), (q4, .inl (ci, 4, .inl (zc z0))), (q5, .inl (ci, 512, .inl (zc z0))), (q6, .inl (ci, 512, .inl (zc z0))), (q7, .inl (ci, 512, .inl (zc z0)))] := hD
  refine lv_aload_n hx hb dX0_init_70 rfl (lv_at hl 0 rfl) ?_
  refine zr_bipush hx hb dX0_init_71 (by decide) ?_
  refine zn_newi hx hb hts hK hP hD hS hA 60 rfl (by decide) (Nat.le_of_ble_eq_true rfl) (Nat.le_of_ble_eq_true rfl) dX0_init_73 (fun q8 H hP hD hS => ?_)
  refine W.widen (k := 9) (n := 1840) (Nat.le_of_ble_eq_true rfl) (Nat.le_of_ble_eq_true rfl) ?_
  have hP : va_P D vwCl [(h0, .inr (0, [.ref q0, .ref q1, .ref q2, .ref q3, .ref q4, .ref q5, .ref q6, .ref q7, .null, .int (zi 0), .int (zi 0), .int (zi 0), .int (zi 0), .int (zi 0), .int (zi 0), .int (zi 0)])), (q0, .inl (ci, 60, .inl (zc z0))), (q1, .inl (ci, 60, .inl (zc z0))), (q2, .inl (ci, 60, .inl (zc z0))), (q3, .inl (cb, 60, .inl (zc z0))), (q4, .inl (ci, 4, .inl (zc z0))), (q5, .inl (ci, 512, .inl (zc z0))), (q6, .inl (ci, 512, .inl (zc z0))), (q7, .inl (ci, 512, .inl (zc z0))), (q8, .inl (ci, 60, .inl (zc z0)))] H := hP
  have hD : va_D A [(h0, .inr (0, [.ref q0, .ref q1, .ref q2, .ref q3, .ref q4, .ref q5, .ref q6, .ref q7, .null, .int (zi 0), .int (zi 0), .int (zi 0), .int (zi 0), .int (zi 0), .int (zi 0), .int (zi 0)])), (q0, .inl (ci, 60, .inl (zc z0))), (q1, .inl (ci, 60, .inl (zc z0))), (q2, .inl (ci, 60, .inl (zc z0))), (q3, .inl (cb, 60, .inl (zc z0))), (q4, .inl (ci, 4, .inl (zc z0))), (q5, .inl (ci, 512, .inl (zc z0))), (q6, .inl (ci, 512, .inl (zc z0))), (q7, .inl (ci, 512, .inl (zc z0))), (q8, .inl (ci, 60, .inl (zc z0)))] := hD
  refine va_putF (D := D) (ci := 0) (v := .ref q8) (ty := .array .int) (C := RX0) (T := TX0) (N := 16) hx hb hts in_X0 tyX0 tyX0_ok nmX0 hown hK hP hD hS 0 rfl rfl 8 (by decide) (hts _ q38) (fun _ h9 => h9) rfl hin rfl (by decide +kernel) rfl rfl (Nat.le_of_ble_eq_true rfl) dX0_init_75 (fun H locs hP hD hS => ?_)
  have hP : va_P D vwCl [(h0, .inr (0, [.ref q0, .ref q1, .ref q2, .ref q3, .ref q4, .ref q5, .ref q6, .ref q7, .ref q8, .int (zi 0), .int (zi 0), .int (zi 0), .int (zi 0), .int (zi 0), .int (zi 0), .int (zi 0)])), (q0, .inl (ci, 60, .inl (zc z0))), (q1, .inl (ci, 60, .inl (zc z0))), (q2, .inl (ci, 60, .inl (zc z0))), (q3, .inl (cb, 60, .inl (zc z0))), (q4, .inl (ci, 4, .inl (zc z0))), (q5, .inl (ci, 512, .inl (zc z0))), (q6, .inl (ci, 512, .inl (zc z0))), (q7, .inl (ci, 512, .inl (zc z0))), (q8, .inl (ci, 60, .inl (zc z0)))] H := hP
  have hD : va_D A [(h0, .inr (0, [.ref q0, .ref q1, .ref q2, .ref q3, .ref q4, .ref q5, .ref q6, .ref q7, .ref q8, .int (zi 0), .int (zi 0), .int (zi 0), .int (zi 0), .int (zi 0), .int (zi 0), .int (zi 0)])), (q0, .inl (ci, 60, .inl (zc z0))), (q1, .inl (ci, 60, .inl (zc z0))), (q2, .inl (ci, 60, .inl (zc z0))), (q3, .inl (cb, 60, .inl (zc z0))), (q4, .inl (ci, 4, .inl (zc z0))), (q5, .inl (ci, 512, .inl (zc z0))), (q6, .inl (ci, 512, .inl (zc z0))), (q7, .inl (ci, 512, .inl (zc z0))), (q8, .inl (ci, 60, .inl (zc z0)))] := hD
  refine lv_aload_n hx hb dX0_init_78 rfl (lv_at hl 0 rfl) ?_
  refine zr_iconst hx hb dX0_init_79 ?_
  refine va_put (D := D) (ci := 0) (v := .int (zi 0)) (ty := .int) (C := RX0) (T := TX0) (N := 16) hx hb hts in_X0 tyX0 tyX0_ok nmX0 hown hK hP hD hS 0 rfl rfl 9 (by decide) (hts _ q39) (fun _ h9 => h9) rfl (by decide +kernel) rfl rfl (Nat.le_of_ble_eq_true rfl) dX0_init_80 (fun H locs hP hD hS => ?_)
  have hP : va_P D vwCl [(h0, .inr (0, [.ref q0, .ref q1, .ref q2, .ref q3, .ref q4, .ref q5, .ref q6, .ref q7, .ref q8, .int (zi 0), .int (zi 0), .int (zi 0), .int (zi 0), .int (zi 0), .int (zi 0), .int (zi 0)])), (q0, .inl (ci, 60, .inl (zc z0))), (q1, .inl (ci, 60, .inl (zc z0))), (q2, .inl (ci, 60, .inl (zc z0))), (q3, .inl (cb, 60, .inl (zc z0))), (q4, .inl (ci, 4, .inl (zc z0))), (q5, .inl (ci, 512, .inl (zc z0))), (q6, .inl (ci, 512, .inl (zc z0))), (q7, .inl (ci, 512, .inl (zc z0))), (q8, .inl (ci, 60, .inl (zc z0)))] H := hP
  have hD : va_D A [(h0, .inr (0, [.ref q0, .ref q1, .ref q2, .ref q3, .ref q4, .ref q5, .ref q6, .ref q7, .ref q8, .int (zi 0), .int (zi 0), .int (zi 0), .int (zi 0), .int (zi 0), .int (zi 0), .int (zi 0)])), (q0, .inl (ci, 60, .inl (zc z0))), (q1, .inl (ci, 60, .inl (zc z0))), (q2, .inl (ci, 60, .inl (zc z0))), (q3, .inl (cb, 60, .inl (zc z0))), (q4, .inl (ci, 4, .inl (zc z0))), (q5, .inl (ci, 512, .inl (zc z0))), (q6, .inl (ci, 512, .inl (zc z0))), (q7, .inl (ci, 512, .inl (zc z0))), (q8, .inl (ci, 60, .inl (zc z0)))] := hD
  have hz : ∃ qf : Nat → Nat, qf 0 = q0 ∧ qf 1 = q1 ∧ qf 2 = q2 ∧ qf 3 = q3 ∧ qf 4 = q4 ∧ qf 5 = q5 ∧ qf 6 = q6 ∧ qf 7 = q7 ∧ qf 8 = q8 := ⟨fun k => match k with | 0 => q0 | 1 => q1 | 2 => q2 | 3 => q3 | 4 => q4 | 5 => q5 | 6 => q6 | 7 => q7 | _ => q8, rfl, rfl, rfl, rfl, rfl, rfl, rfl, rfl, rfl⟩
  obtain ⟨qf, rfl, rfl, rfl, rfl, rfl, rfl, rfl, rfl, rfl⟩ := hz
  refine W.widen (k := 9) (n := 1840) (Nat.le_of_ble_eq_true rfl) (Nat.le_of_ble_eq_true rfl) ?_
  exact W.vret hx hb hr (fun t ht hW => ⟨⟨qf, rfl, trivial, by rw [ht]; exact hP, va_K.moved hW.alike hK, hD⟩, hS.F ht⟩) hS.2.2 dX0_init_83
/-- the fields of a new object -/
def mdN : List Value := [.int (zi 0), .null, .null, .null, .null, .null, .int (zi 0), .int (zi 0), .null]
/-- what it holds at first -/
def md0 : mdS := mdC 0 z0 z0 z0 z0 z0 0 0 z0
theorem mdN_ok : ∀ j, j < 9 → defaultValue (tyX1 j) = vp_V mdN j := by
  intro j hj
  rcases (show j = 0 ∨ j = 1 ∨ j = 2 ∨ j = 3 ∨ j = 4 ∨ j = 5 ∨ j = 6 ∨ j = 7 ∨ j = 8 by omega) with rfl | rfl | rfl | rfl | rfl | rfl | rfl | rfl | rfl <;> rfl
set_option maxHeartbeats 4000000 in
set_option maxRecDepth 100000 in
/-- the constructor: all numbers 0 -/
theorem md_init (l : Launch) (D : va_G) (h0 : Nat) (ci cb : ClassId) (sz : Nat) : Met l yX1_init (ws_ yX1_init cX1_init 1 none) ({ frames := 1, cells := 6, slots := 304, locals := 12 }) (va_Pc [.ref h0] (fun U => U.heap.size = sz ∧ va_P D vwCl [(h0, .inr (1, mdN))] U.heap ∧ va_K D vwCl [(ci, .int), (cb, .boolean)] U ∧ va_D (fun _ => True) [(h0, .inr (1, mdN))])) (va_Qv (fun (_ : Nat → Nat) => True) (fun q t => mdB (D, h0, q, ci, cb) (va_A [(h0, .inr (1, mdN))] sz) md0 t) (va_A [(h0, .inr (1, mdN))] sz)) 6 304 (va_A [(h0, .inr (1, mdN))] sz) := by
  refine Met.ofW (cc := cX1_init) (maxL := 1) (ret := none) (by decide) rfl ?_
  intro p e s m args below meth c s₁ B hml hv
  obtain ⟨rfl, hsz, hP, hK, hD0⟩ := hv
  have hx := B.exec
  have hb := B.bytes
  have hr := B.returns
  have hts := atoms_spec (ws := ws_ yX1_init cX1_init 1 none) B.pre
  have hts : ∀ w ∈ lw_all, w.before _ s = true := fun w h => hts w (List.mem_cons_of_mem _ h)
  have hown : s.vm.findClass RX1 = some m.cls := findClass_of_methodNamed B.named
  have hlocks := B.notSynchronized
  have hin : meth.name = "<init>" := (name_of_methodNamed B.named B.method).1
  subst hsz
  have hD := hD0.self (sz := s.heap.size)
  generalize hAe : va_A [(h0, .inr (1, mdN))] s.heap.size = A at hD ⊢
  have hA : ∀ q : Nat, s.heap.size ≤ q → A q := fun q h => by rw [← hAe]; exact Or.inr h
  have hS : va_S A s.heap s.heap [] := va_S.rf
  have hl := lv_entry ([.ref h0]) (n := 1) (Nat.le_of_ble_eq_true rfl)
  rw [lg_entry_eq]
  generalize (lg_sl ([.ref h0]) ++ List.replicate (1 - (lg_sl ([.ref h0])).length) Slot.unset).toArray = ls at hl ⊢
  have hl : lv_has ls 1 [(0, .ref h0)] := hl
  have hP : va_P D vwCl [(h0, .inr (1, [.int (zi 0), .null, .null, .null, .null, .null, .int (zi 0), .int (zi 0), .null]))] s.heap := hP
  have hD : va_D A [(h0, .inr (1, [.int (zi 0), .null, .null, .null, .null, .null, .int (zi 0), .int (zi 0), .null]))] := hD
  refine lv_aload_n hx hb dX1_init_0 rfl (lv_at hl 0 rfl) ?_
  refine W.objInit hx hb hown (hts _ q215) (hts _ q28) (hts _ q29) rfl (by rw [hml]; exact hl.1) rfl dX1_init_1 (Nat.le_of_ble_eq_true rfl) (Nat.le_of_ble_eq_true rfl) ?_
  refine W.eq (g2 := F0 m 4 ls []) rfl ?_
  refine lv_aload_n hx hb dX1_init_4 rfl (lv_at hl 0 rfl) ?_
  refine zr_bipush hx hb dX1_init_5 (by decide) ?_
  refine zn_newi hx hb hts hK hP hD hS hA 60 rfl (by decide) (Nat.le_of_ble_eq_true rfl) (Nat.le_of_ble_eq_true rfl) dX1_init_7 (fun q0 H hP hD hS => ?_)
  refine W.widen (k := 1) (n := 60) (Nat.le_of_ble_eq_true rfl) (Nat.le_of_ble_eq_true rfl) ?_
  have hP : va_P D vwCl [(h0, .inr (1, [.int (zi 0), .null, .null, .null, .null, .null, .int (zi 0), .int (zi 0), .null])), (q0, .inl (ci, 60, .inl (zc z0)))] H := hP
  have hD : va_D A [(h0, .inr (1, [.int (zi 0), .null, .null, .null, .null, .null, .int (zi 0), .int (zi 0), .null])), (q0, .inl (ci, 60, .inl (zc z0)))] := hD
  refine va_put (D := D) (ci := 1) (v := .ref q0) (ty := .array .int) (C := RX1) (T := TX1) (N := 9) hx hb hts in_X1 tyX1 tyX1_ok nmX1 hown hK hP hD hS 0 rfl rfl 1 (by decide) (hts _ q217) (fun _ h9 => h9) rfl (by decide +kernel) rfl rfl (Nat.le_of_ble_eq_true rfl) dX1_init_9 (fun H locs hP hD hS => ?_)
  have hP : va_P D vwCl [(h0, .inr (1, [.int (zi 0), .ref q0, .null, .null, .null, .null, .int (zi 0), .int (zi 0), .null])), (q0, .inl (ci, 60, .inl (zc z0)))] H := hP
  have hD : va_D A [(h0, .inr (1, [.int (zi 0), .ref q0, .null, .null, .null, .null, .int (zi 0), .int (zi 0), .null])), (q0, .inl (ci, 60, .inl (zc z0)))] := hD
  refine lv_aload_n hx hb dX1_init_12 rfl (lv_at hl 0 rfl) ?_
  refine zr_bipush hx hb dX1_init_13 (by decide) ?_
  refine zn_newi hx hb hts hK hP hD hS hA 60 rfl (by decide) (Nat.le_of_ble_eq_true rfl) (Nat.le_of_ble_eq_true rfl) dX1_init_15 (fun q1 H hP hD hS => ?_)
  refine W.widen (k := 2) (n := 120) (Nat.le_of_ble_eq_true rfl) (Nat.le_of_ble_eq_true rfl) ?_
  have hP : va_P D vwCl [(h0, .inr (1, [.int (zi 0), .ref q0, .null, .null, .null, .null, .int (zi 0), .int (zi 0), .null])), (q0, .inl (ci, 60, .inl (zc z0))), (q1, .inl (ci, 60, .inl (zc z0)))] H := hP
  have hD : va_D A [(h0, .inr (1, [.int (zi 0), .ref q0, .null, .null, .null, .null, .int (zi 0), .int (zi 0), .null])), (q0, .inl (ci, 60, .inl (zc z0))), (q1, .inl (ci, 60, .inl (zc z0)))] := hD
  refine va_put (D := D) (ci := 1) (v := .ref q1) (ty := .array .int) (C := RX1) (T := TX1) (N := 9) hx hb hts in_X1 tyX1 tyX1_ok nmX1 hown hK hP hD hS 0 rfl rfl 2 (by decide) (hts _ q218) (fun _ h9 => h9) rfl (by decide +kernel) rfl rfl (Nat.le_of_ble_eq_true rfl) dX1_init_17 (fun H locs hP hD hS => ?_)
  have hP : va_P D vwCl [(h0, .inr (1, [.int (zi 0), .ref q0, .ref q1, .null, .null, .null, .int (zi 0), .int (zi 0), .null])), (q0, .inl (ci, 60, .inl (zc z0))), (q1, .inl (ci, 60, .inl (zc z0)))] H := hP
  have hD : va_D A [(h0, .inr (1, [.int (zi 0), .ref q0, .ref q1, .null, .null, .null, .int (zi 0), .int (zi 0), .null])), (q0, .inl (ci, 60, .inl (zc z0))), (q1, .inl (ci, 60, .inl (zc z0)))] := hD
  refine lv_aload_n hx hb dX1_init_20 rfl (lv_at hl 0 rfl) ?_
  refine zr_bipush hx hb dX1_init_21 (by decide) ?_
  refine zn_newi hx hb hts hK hP hD hS hA 60 rfl (by decide) (Nat.le_of_ble_eq_true rfl) (Nat.le_of_ble_eq_true rfl) dX1_init_23 (fun q2 H hP hD hS => ?_)
  refine W.widen (k := 3) (n := 180) (Nat.le_of_ble_eq_true rfl) (Nat.le_of_ble_eq_true rfl) ?_
  have hP : va_P D vwCl [(h0, .inr (1, [.int (zi 0), .ref q0, .ref q1, .null, .null, .null, .int (zi 0), .int (zi 0), .null])), (q0, .inl (ci, 60, .inl (zc z0))), (q1, .inl (ci, 60, .inl (zc z0))), (q2, .inl (ci, 60, .inl (zc z0)))] H := hP
  have hD : va_D A [(h0, .inr (1, [.int (zi 0), .ref q0, .ref q1, .null, .null, .null, .int (zi 0), .int (zi 0), .null])), (q0, .inl (ci, 60, .inl (zc z0))), (q1, .inl (ci, 60, .inl (zc z0))), (q2, .inl (ci, 60, .inl (zc z0)))] := hD
  refine va_put (D := D) (ci := 1) (v := .ref q2) (ty := .array .int) (C := RX1) (T := TX1) (N := 9) hx hb hts in_X1 tyX1 tyX1_ok nmX1 hown hK hP hD hS 0 rfl rfl 3 (by decide) (hts _ q219) (fun _ h9 => h9) rfl (by decide +kernel) rfl rfl (Nat.le_of_ble_eq_true rfl) dX1_init_25 (fun H locs hP hD hS => ?_)
  have hP : va_P D vwCl [(h0, .inr (1, [.int (zi 0), .ref q0, .ref q1, .ref q2, .null, .null, .int (zi 0), .int (zi 0), .null])), (q0, .inl (ci, 60, .inl (zc z0))), (q1, .inl (ci, 60, .inl (zc z0))), (q2, .inl (ci, 60, .inl (zc z0)))] H := hP
  have hD : va_D A [(h0, .inr (1, [.int (zi 0), .ref q0, .ref q1, .ref q2, .null, .null, .int (zi 0), .int (zi 0), .null])), (q0, .inl (ci, 60, .inl (zc z0))), (q1, .inl (ci, 60, .inl (zc z0))), (q2, .inl (ci, 60, .inl (zc z0)))] := hD
  refine lv_aload_n hx hb dX1_init_28 rfl (lv_at hl 0 rfl) ?_
  refine zr_bipush hx hb dX1_init_29 (by decide) ?_
  refine zn_newb hx hb hts hK hP hD hS hA 60 rfl (by decide) (Nat.le_of_ble_eq_true rfl) (Nat.le_of_ble_eq_true rfl) dX1_init_31 (fun q3 H hP hD hS => ?_)
  refine W.widen (k := 4) (n := 240) (Nat.le_of_ble_eq_true rfl) (Nat.le_of_ble_eq_true rfl) ?_
  have hP : va_P D vwCl [(h0, .inr (1, [.int (zi 0), .ref q0, .ref q1, .ref q2, .null, .null, .int (zi 0), .int (zi 0), .null])), (q0, .inl (ci, 60, .inl (zc z0))), (q1, .inl (ci, 60, .inl (zc z0))), (q2, .inl (ci, 60, .inl (zc z0))), (q3, .inl (cb, 60, .inl (zc z0)))] H := hP
  have hD : va_D A [(h0, .inr (1, [.int (zi 0), .ref q0, .ref q1, .ref q2, .null, .null, .int (zi 0), .int (zi 0), .null])), (q0, .inl (ci, 60, .inl (zc z0))), (q1, .inl (ci, 60, .inl (zc z0))), (q2, .inl (ci, 60, .inl (zc z0))), (q3, .inl (cb, 60, .inl (zc z0)))] := hD
  refine va_put (D := D) (ci := 1) (v := .ref q3) (ty := .array .boolean) (C := RX1) (T := TX1) (N := 9) hx hb hts in_X1 tyX1 tyX1_ok nmX1 hown hK hP hD hS 0 rfl rfl 4 (by decide) (hts _ q220) (fun _ h9 => h9) rfl (by decide +kernel) rfl rfl (Nat.le_of_ble_eq_true rfl) dX1_init_33 (fun H locs hP hD hS => ?_)
  have hP : va_P D vwCl [(h0, .inr (1, [.int (zi 0), .ref q0, .ref q1, .ref q2, .ref q3, .null, .int (zi 0), .int (zi 0), .null])), (q0, .inl (ci, 60, .inl (zc z0))), (q1, .inl (ci, 60, .inl (zc z0))), (q2, .inl (ci, 60, .inl (zc z0))), (q3, .inl (cb, 60, .inl (zc z0)))] H := hP
  have hD : va_D A [(h0, .inr (1, [.int (zi 0), .ref q0, .ref q1, .ref q2, .ref q3, .null, .int (zi 0), .int (zi 0), .null])), (q0, .inl (ci, 60, .inl (zc z0))), (q1, .inl (ci, 60, .inl (zc z0))), (q2, .inl (ci, 60, .inl (zc z0))), (q3, .inl (cb, 60, .inl (zc z0)))] := hD
  refine lv_aload_n hx hb dX1_init_36 rfl (lv_at hl 0 rfl) ?_
  refine zr_iconst hx hb dX1_init_37 ?_
  refine zn_newi hx hb hts hK hP hD hS hA 4 rfl (by decide) (Nat.le_of_ble_eq_true rfl) (Nat.le_of_ble_eq_true rfl) dX1_init_38 (fun q4 H hP hD hS => ?_)
  refine W.widen (k := 5) (n := 244) (Nat.le_of_ble_eq_true rfl) (Nat.le_of_ble_eq_true rfl) ?_
  have hP : va_P D vwCl [(h0, .inr (1, [.int (zi 0), .ref q0, .ref q1, .ref q2, .ref q3, .null, .int (zi 0), .int (zi 0), .null])), (q0, .inl (ci, 60, .inl (zc z0))), (q1, .inl (ci, 60, .inl (zc z0))), (q2, .inl (ci, 60, .inl (zc z0))), (q3, .inl (cb, 60, .inl (zc z0))), (q4, .inl (ci, 4, .inl (zc z0)))] H := hP
  have hD : va_D A [(h0, .inr (1, [.int (zi 0), .ref q0, .ref q1, .ref q2, .ref q3, .null, .int (zi 0), .int (zi 0), .null])), (q0, .inl (ci, 60, .inl (zc z0))), (q1, .inl (ci, 60, .inl (zc z0))), (q2, .inl (ci, 60, .inl (zc z0))), (q3, .inl (cb, 60, .inl (zc z0))), (q4, .inl (ci, 4, .inl (zc z0)))] := hD
  refine va_put (D := D) (ci := 1) (v := .ref q4) (ty := .array .int) (C := RX1) (T := TX1) (N := 9) hx hb hts in_X1 tyX1 tyX1_ok nmX1 hown hK hP hD hS 0 rfl rfl 5 (by decide) (hts _ q221) (fun _ h9 => h9) rfl (by decide +kernel) rfl rfl (Nat.le_of_ble_eq_true rfl) dX1_init_40 (fun H locs hP hD hS => ?_)
  have hP : va_P D vwCl [(h0, .inr (1, [.int (zi 0), .ref q0, .ref q1, .ref q2, .ref q3, .ref q4, .int (zi 0), .int (zi 0), .null])), (q0, .inl (ci, 60, .inl (zc z0))), (q1, .inl (ci, 60, .inl (zc z0))), (q2, .inl (ci, 60, .inl (zc z0))), (q3, .inl (cb, 60, .inl (zc z0))), (q4, .inl (ci, 4, .inl (zc z0)))] H := hP
  have hD : va_D A [(h0, .inr (1, [.int (zi 0), .ref q0, .ref q1, .ref q2, .ref q3, .ref q4, .int (zi 0), .int (zi 0), .null])), (q0, .inl (ci, 60, .inl (zc z0))), (q1, .inl (ci, 60, .inl (zc z0))), (q2, .inl (ci, 60, .inl (zc z0))), (q3, .inl (cb, 60, .inl (zc z0))), (q4, .inl (ci, 4, .inl (zc z0)))] := hD
  refine lv_aload_n hx hb dX1_init_43 rfl (lv_at hl 0 rfl) ?_
  refine zr_bipush hx hb dX1_init_44 (by decide) ?_
  refine zn_newb hx hb hts hK hP hD hS hA 60 rfl (by decide) (Nat.le_of_ble_eq_true rfl) (Nat.le_of_ble_eq_true rfl) dX1_init_46 (fun q5 H hP hD hS => ?_)
  refine W.widen (k := 6) (n := 304) (Nat.le_of_ble_eq_true rfl) (Nat.le_of_ble_eq_true rfl) ?_
  have hP : va_P D vwCl [(h0, .inr (1, [.int (zi 0), .ref q0, .ref q1, .ref q2, .ref q3, .ref q4, .int (zi 0), .int (zi 0), .null])), (q0, .inl (ci, 60, .inl (zc z0))), (q1, .inl (ci, 60, .inl (zc z0))), (q2, .inl (ci, 60, .inl (zc z0))), (q3, .inl (cb, 60, .inl (zc z0))), (q4, .inl (ci, 4, .inl (zc z0))), (q5, .inl (cb, 60, .inl (zc z0)))] H := hP
  have hD : va_D A [(h0, .inr (1, [.int (zi 0), .ref q0, .ref q1, .ref q2, .ref q3, .ref q4, .int (zi 0), .int (zi 0), .null])), (q0, .inl (ci, 60, .inl (zc z0))), (q1, .inl (ci, 60, .inl (zc z0))), (q2, .inl (ci, 60, .inl (zc z0))), (q3, .inl (cb, 60, .inl (zc z0))), (q4, .inl (ci, 4, .inl (zc z0))), (q5, .inl (cb, 60, .inl (zc z0)))] := hD
  refine va_put (D := D) (ci := 1) (v := .ref q5) (ty := .array .boolean) (C := RX1) (T := TX1) (N := 9) hx hb hts in_X1 tyX1 tyX1_ok nmX1 hown hK hP hD hS 0 rfl rfl 8 (by decide) (hts _ q224) (fun _ h9 => h9) rfl (by decide +kernel) rfl rfl (Nat.le_of_ble_eq_true rfl) dX1_init_48 (fun H locs hP hD hS => ?_)
  have hP : va_P D vwCl [(h0, .inr (1, [.int (zi 0), .ref q0, .ref q1, .ref q2, .ref q3, .ref q4, .int (zi 0), .int (zi 0), .ref q5])), (q0, .inl (ci, 60, .inl (zc z0))), (q1, .inl (ci, 60, .inl (zc z0))), (q2, .inl (ci, 60, .inl (zc z0))), (q3, .inl (cb, 60, .inl (zc z0))), (q4, .inl (ci, 4, .inl (zc z0))), (q5, .inl (cb, 60, .inl (zc z0)))] H := hP
  have hD : va_D A [(h0, .inr (1, [.int (zi 0), .ref q0, .ref q1, .ref q2, .ref q3, .ref q4, .int (zi 0), .int (zi 0), .ref q5])), (q0, .inl (ci, 60, .inl (zc z0))), (q1, .inl (ci, 60, .inl (zc z0))), (q2, .inl (ci, 60, .inl (zc z0))), (q3, .inl (cb, 60, .inl (zc z0))), (q4, .inl (ci, 4, .inl (zc z0))), (q5, .inl (cb, 60, .inl (zc z0)))] := hD
  have hz : ∃ qf : Nat → Nat, qf 0 = q0 ∧ qf 1 = q1 ∧ qf 2 = q2 ∧ qf 3 = q3 ∧ qf 4 = q4 ∧ qf 5 = q5 := ⟨fun k => match k with | 0 => q0 | 1 => q1 | 2 => q2 | 3 => q3 | 4 => q4 | _ => q5, rfl, rfl, rfl, rfl, rfl, rfl⟩
  obtain ⟨qf, rfl, rfl, rfl, rfl, rfl, rfl⟩ := hz
  refine W.widen (k := 6) (n := 304) (Nat.le_of_ble_eq_true rfl) (Nat.le_of_ble_eq_true rfl) ?_
  exact W.vret hx hb hr (fun t ht hW => ⟨⟨qf, rfl, trivial, by rw [ht]; exact hP, va_K.moved hW.alike hK, hD⟩, hS.F ht⟩) hS.2.2 dX1_init_51
end
section
/-! THE RELATION between the book and its model (pure) -/
/-- the entries agree -/
def ag (ac dy am go ac' dy' am' of' : Int → Int) (n : Int) : Prop := ∀ e, 0 ≤ e → e < n → ac' e = ac e ∧ dy' e = dy e ∧ am' e = am e ∧ of' e = go e
def bits (f : Int → Int) : Prop := ∀ j, 0 ≤ j → j < 60 → f j = 0 ∨ f j = 1
/-- a batch is open: what was there before it, and what its log keeps -/
def bt (fl ac dy am go lg : Int → Int) (n lo mk : Int) (ob : Int → Int) : Prop := (0 ≤ mk ∧ mk ≤ n) ∧ lgok lg go n lo ∧ sdd fl (pb mk ac dy am ob) ∧ ∀ e, 0 ≤ e → e < mk → ((∃ i, 0 ≤ i ∧ i < lo ∧ lg i = e) ∧ ob e = 0) ∨ ((∀ i, 0 ≤ i → i < lo → lg i ≠ e) ∧ go e = ob e)
def RJ (ac dy am go fl ch le ar lg : Int → Int) (n lo mk ba : Int) (ac' dy' am' of' : Int → Int) (nb' : Int) (ob' : Int → Int) : Prop :=
  BI ac dy am go fl ch le ar n ∧ (ba = 0 ∨ ba = 1) ∧ ag ac dy am go ac' dy' am' of' n ∧ bits of' ∧ bits ob' ∧ (ba = 0 → sdd fl (pb n ac dy am go)) ∧ (ba = 1 → nb' = mk ∧ bt fl ac dy am go lg n lo mk ob')
/-- the book u and the model v say the same -/
def RI (u : bkS) (v : mdS) : Prop := (k_n u = m_n v ∧ k_ba u = m_ba v ∧ k_fl u = m_fl v) ∧ RJ (k_ac u) (k_dy u) (k_am u) (k_go u) (k_fl u) (k_ch u) (k_le u) (k_ar u) (k_lg u) (k_n u) (k_lo u) (k_mk u) (k_ba u) (m_ac v) (m_dy v) (m_am v) (m_of v) (m_nb v) (m_ob v)
theorem ag_pb {ac dy am go ac' dy' am' of' : Int → Int} {n : Int} (h : ag ac dy am go ac' dy' am' of' n) : pb n ac dy am go = pb n ac' dy' am' of' := pbf_congr (fun e h1 h2 => by
  obtain ⟨a, b, c, d⟩ := h e h1 h2
  exact ⟨a.symm, b.symm, c.symm, d.symm⟩)
theorem ag_eok {ac dy am go ac' dy' am' of' : Int → Int} {n : Int} (h : ag ac dy am go ac' dy' am' of' n) (he : eok ac dy am go n) : eok ac' dy' am' of' n := by
  intro e h1 h2
  obtain ⟨a, b, c, d⟩ := h e h1 h2
  rw [a, b, c, d]
  exact he e h1 h2
theorem ag_push {ac dy am go ac' dy' am' of' : Int → Int} {n : Int} (h : ag ac dy am go ac' dy' am' of' n) (a d x : Int) : ag (up ac n a) (up dy n d) (up am n x) (up go n 0) (up ac' n a) (up dy' n d) (up am' n x) (up of' n 0) (n + 1) := by
  intro e h1 h2
  by_cases q : e = n
  · rw [q, up_s, up_s, up_s, up_s, up_s, up_s, up_s, up_s]
    exact ⟨rfl, rfl, rfl, rfl⟩
  · rw [up_n _ _ q, up_n _ _ q, up_n _ _ q, up_n _ _ q, up_n _ _ q, up_n _ _ q, up_n _ _ q, up_n _ _ q]
    exact h e h1 (by omega)
/-- the model's arrays may change behind the last entry -/
theorem ag_at {ac dy am go ac' dy' am' of' : Int → Int} {n k : Int} (hk : n ≤ k) (h : ag ac dy am go ac' dy' am' of' n) (a d x o : Int) : ag ac dy am go (up ac' k a) (up dy' k d) (up am' k x) (up of' k o) n := by
  intro e h1 h2
  have q : e ≠ k := by omega
  rw [up_n _ _ q, up_n _ _ q, up_n _ _ q, up_n _ _ q]
  exact h e h1 h2
theorem bits_up {f : Int → Int} (h : bits f) (i : Int) {x : Int} (hx : x = 0 ∨ x = 1) : bits (up f i x) := by
  intro j h1 h2
  by_cases q : j = i
  · rw [q, up_s]
    exact hx
  · rw [up_n _ _ q]
    exact h j h1 h2
theorem up_back {f : Int → Int} {a g x : Int} (hx : x = f a) : up (up f a g) a x = f := by
  funext j
  by_cases q : j = a
  · rw [q, up_s]
    exact hx
  · rw [up_n _ _ q, up_n _ _ q]
theorem lgok_push {lg go : Int → Int} {n lo : Int} (h : lgok lg go n lo) (hn : 0 ≤ n) : lgok lg (up go n 0) (n + 1) lo := by
  obtain ⟨⟨h1, h2⟩, h3, h4⟩ := h
  have e1 : (n + 1).toNat = n.toNat + 1 := by omega
  have e2 : es (up go n 0) n.toNat = es go n.toNat := es_congr _ (fun e q1 q2 => up_n _ _ (by omega))
  refine ⟨⟨h1, ?_⟩, fun i i1 i2 => ?_, h4⟩
  · rw [e1]
    show lo ≤ es (up go n 0) n.toNat + up go n 0 (n.toNat : Int)
    rw [e2, Int.toNat_of_nonneg hn, up_s]
    omega
  · obtain ⟨⟨a, b⟩, c⟩ := h3 i i1 i2
    refine ⟨⟨a, by omega⟩, ?_⟩
    rw [up_n _ _ (by omega)]
    exact c
theorem lgok_cancel {lg go : Int → Int} {n lo x : Int} (h : lgok lg go n lo) (hb : ∀ e, 0 ≤ e → e < n → go e = 0 ∨ go e = 1) (h0 : 0 ≤ x) (h1 : x < n) (hx : go x = 0) : lgok (up lg lo x) (up go x 1) n (lo + 1) := by
  obtain ⟨⟨p1, p2⟩, p3, p4⟩ := h
  have e1 := (es_off hb h0 h1 hx).1
  refine ⟨⟨by omega, by omega⟩, fun i i1 i2 => ?_, fun i j i1 i2 i3 => ?_⟩
  · by_cases q : i = lo
    · rw [q, up_s, up_s]
      exact ⟨⟨h0, h1⟩, rfl⟩
    · rw [up_n _ _ q]
      obtain ⟨a, b⟩ := p3 i i1 (by omega)
      refine ⟨a, ?_⟩
      rw [up_n _ _ (by intro z; rw [z] at b; omega)]
      exact b
  · by_cases q : j = lo
    · rw [q, up_s, up_n _ _ (by omega)]
      intro z
      have := (p3 i i1 (by omega)).2
      rw [z] at this
      omega
    · rw [up_n _ _ q, up_n _ _ (by omega)]
      exact p4 i j i1 i2 (by omega)
theorem bt_push {fl ac dy am go lg ob : Int → Int} {n lo mk : Int} (h : bt fl ac dy am go lg n lo mk ob) (hn : 0 ≤ n) (a d x : Int) : bt fl (up ac n a) (up dy n d) (up am n x) (up go n 0) lg (n + 1) lo mk ob := by
  obtain ⟨h1, h2, h3, h4⟩ := h
  have e : pb mk (up ac n a) (up dy n d) (up am n x) ob = pb mk ac dy am ob := pbf_congr (fun e e1 e2 => ⟨up_n _ _ (by omega), up_n _ _ (by omega), up_n _ _ (by omega), rfl⟩)
  refine ⟨by omega, lgok_push h2 hn, ?_, fun e e1 e2 => ?_⟩
  · rw [e]
    exact h3
  · rw [up_n _ _ (show e ≠ n by omega)]
    exact h4 e e1 e2
theorem bt_cancel {fl ac dy am go lg ob : Int → Int} {n lo mk x : Int} (h : bt fl ac dy am go lg n lo mk ob) (hb : ∀ e, 0 ≤ e → e < n → go e = 0 ∨ go e = 1) (h0 : 0 ≤ x) (h1 : x < n) (hx : go x = 0) : bt fl ac dy am (up go x 1) (up lg lo x) n (lo + 1) mk ob := by
  obtain ⟨g1, g2, g3, g4⟩ := h
  have hl : 0 ≤ lo := g2.1.1
  have hlg := g2.2.1
  refine ⟨g1, lgok_cancel g2 hb h0 h1 hx, g3, fun e e1 e2 => ?_⟩
  by_cases q : e = x
  · subst q
    left
    refine ⟨⟨lo, hl, by omega, up_s _ _ _⟩, ?_⟩
    rcases g4 e e1 e2 with ⟨⟨i, i1, i2, i3⟩, -⟩ | ⟨-, z⟩
    · have := (hlg i i1 i2).2
      rw [i3] at this
      omega
    · omega
  · rcases g4 e e1 e2 with ⟨⟨i, i1, i2, i3⟩, z⟩ | ⟨z1, z2⟩
    · exact Or.inl ⟨⟨i, i1, by omega, by rw [up_n _ _ (by omega)]; exact i3⟩, z⟩
    · refine Or.inr ⟨fun i i1 i2 => ?_, by rw [up_n _ _ q]; exact z2⟩
      by_cases q2 : i = lo
      · rw [q2, up_s]
        exact Ne.symm q
      · rw [up_n _ _ q2]
        exact z1 i i1 (by omega)
theorem sd_bump {fl : Int → Int} {P : Int → Int → Int} {a d x : Int} (h : sdd fl P) (ha : 0 ≤ a ∧ a < 4) (hd : 0 ≤ d) : sdd fl (bump P a d x) ↔ (0 < x ∨ ∀ j, d < j → j ≤ 48 → fl a ≤ P a j + x) := by
  constructor
  · intro g
    right
    intro j j1 j2
    have := g a ha.1 ha.2 j (by omega) j2
    rw [bump_hi P a x j1] at this
    exact this
  · intro g b b1 b2 j j1 j2
    have hb := h b b1 b2 j j1 j2
    by_cases q : a = b
    · subst q
      by_cases q2 : d < j
      · rw [bump_hi P a x q2]
        rcases g with g | g
        · omega
        · exact g j q2 j2
      · rw [bump_lo P a a x (by omega)]
        exact hb
    · rw [bump_ne P d x j q]
      exact hb
theorem sd_bump2 {fl : Int → Int} {P : Int → Int → Int} {a b d x : Int} (h : sdd fl P) (ha : 0 ≤ a ∧ a < 4) (hb : 0 ≤ b ∧ b < 4) (hab : a ≠ b) (hd : 0 ≤ d) (hx : 0 < x) : sdd fl (bump (bump P a d (-x)) b d x) ↔ (0 < -x ∨ ∀ j, d < j → j ≤ 48 → fl a ≤ P a j + -x) := by
  constructor
  · intro g
    right
    intro j j1 j2
    have := g a ha.1 ha.2 j (by omega) j2
    rw [bump_ne _ d x j (Ne.symm hab), bump_hi P a (-x) j1] at this
    exact this
  · intro g
    exact (sd_bump ((sd_bump h ha hd).mpr g) hb hd).mpr (Or.inl hx)
theorem sd_floor {fl : Int → Int} {P : Int → Int → Int} {a g : Int} (h : sdd fl P) (ha : 0 ≤ a ∧ a < 4) : sdd (up fl a g) P ↔ ∀ j, 0 < j → j ≤ 48 → g ≤ P a j := by
  constructor
  · intro q j j1 j2
    have := q a ha.1 ha.2 j j1 j2
    rw [up_s] at this
    exact this
  · intro q b b1 b2 j j1 j2
    by_cases z : b = a
    · rw [z, up_s]
      exact q j j1 j2
    · rw [up_n _ _ z]
      exact h b b1 b2 j j1 j2
section RJS
variable {ac dy am go fl ch le ar lg : Int → Int} {n lo mk ba : Int} {ac' dy' am' of' : Int → Int} {nb' : Int} {ob' : Int → Int}
theorem RJ_go (h : RJ ac dy am go fl ch le ar lg n lo mk ba ac' dy' am' of' nb' ob') : ∀ e, 0 ≤ e → e < n → go e = 0 ∨ go e = 1 := fun e h1 h2 => (h.1.2.1 e h1 h2).2.2.2
theorem RJ_push (h : RJ ac dy am go fl ch le ar lg n lo mk ba ac' dy' am' of' nb' ob') (hn : n < 60) {a d x : Int} (ha : 0 ≤ a ∧ a < 4) (hd : 0 ≤ d ∧ d < 48) (hx : -10000 ≤ x ∧ x ≤ 10000) {g1 g2 g3 : Int → Int} (ht : tr g1 g2 g3 (bump (pb n ac dy am go) a d x)) (hs : ba = 0 → sdd fl (bump (pb n ac dy am go) a d x)) : RJ (up ac n a) (up dy n d) (up am n x) (up go n 0) fl g1 g2 g3 lg (n + 1) lo mk ba (up ac' n a) (up dy' n d) (up am' n x) (up of' n 0) nb' ob' := by
  obtain ⟨⟨b1, b2, b3, b4⟩, c1, c2, c3, c4, c5, c6⟩ := h
  rw [bump_push b1.1] at ht hs
  exact ⟨⟨by omega, eok_push b2 ha hd hx, b3, ht⟩, c1, ag_push c2 a d x, bits_up c3 n (Or.inl rfl), c4, hs, fun q => ⟨(c6 q).1, bt_push (c6 q).2 b1.1 a d x⟩⟩
theorem RJ_push2 (h : RJ ac dy am go fl ch le ar lg n lo mk ba ac' dy' am' of' nb' ob') (hn : n ≤ 58) {a b d x : Int} (ha : 0 ≤ a ∧ a < 4) (hb : 0 ≤ b ∧ b < 4) (hd : 0 ≤ d ∧ d < 48) (hx : 1 ≤ x ∧ x ≤ 10000) {g1 g2 g3 : Int → Int} (ht : tr g1 g2 g3 (bump (bump (pb n ac dy am go) a d (-x)) b d x)) (hs : ba = 0 → sdd fl (bump (bump (pb n ac dy am go) a d (-x)) b d x)) : RJ (up (up ac n a) (n + 1) b) (up (up dy n d) (n + 1) d) (up (up am n (-x)) (n + 1) x) (up (up go n 0) (n + 1) 0) fl g1 g2 g3 lg (n + 1 + 1) lo mk ba (up (up ac' n a) (n + 1) b) (up (up dy' n d) (n + 1) d) (up (up am' n (-x)) (n + 1) x) (up (up of' n 0) (n + 1) 0) nb' ob' := by
  obtain ⟨⟨b1, b2, b3, b4⟩, c1, c2, c3, c4, c5, c6⟩ := h
  rw [bump_push b1.1, bump_push (by omega)] at ht hs
  exact ⟨⟨by omega, eok_push (eok_push b2 ha hd (by omega)) hb hd (by omega), b3, ht⟩, c1, ag_push (ag_push c2 a d (-x)) b d x, bits_up (bits_up c3 n (Or.inl rfl)) (n + 1) (Or.inl rfl), c4, hs, fun q => ⟨(c6 q).1, bt_push (bt_push (c6 q).2 b1.1 a d (-x)) (by omega) b d x⟩⟩
theorem RJ_at (h : RJ ac dy am go fl ch le ar lg n lo mk ba ac' dy' am' of' nb' ob') {k : Int} (hk : n ≤ k) (a d x : Int) : RJ ac dy am go fl ch le ar lg n lo mk ba (up ac' k a) (up dy' k d) (up am' k x) (up of' k 0) nb' ob' := by
  obtain ⟨b, c1, c2, c3, c4, c5, c6⟩ := h
  exact ⟨b, c1, ag_at hk c2 a d x 0, bits_up c3 k (Or.inl rfl), c4, c5, c6⟩
theorem RJ_off (h : RJ ac dy am go fl ch le ar lg n lo mk ba ac' dy' am' of' nb' ob') {x : Int} (hx : 0 ≤ x ∧ x < n) (hg : go x = 0) {g1 g2 g3 g4 : Int → Int} {y4 : Int} (ht : tr g1 g2 g3 (bump (pb n ac dy am go) (ac x) (dy x) (-(am x)))) (hl : (ba = 0 ∧ g4 = lg ∧ y4 = lo) ∨ (ba = 1 ∧ g4 = up lg lo x ∧ y4 = lo + 1)) (hs : ba = 0 → sdd fl (bump (pb n ac dy am go) (ac x) (dy x) (-(am x)))) : RJ ac dy am (up go x 1) fl g1 g2 g3 g4 n y4 mk ba ac' dy' am' (up of' x 1) nb' ob' := by
  have hgo := RJ_go h
  obtain ⟨⟨b1, b2, b3, b4⟩, c1, c2, c3, c4, c5, c6⟩ := h
  rw [bump_off hx.1 hx.2 hg] at ht hs
  refine ⟨⟨b1, eok_go b2 x (Or.inr rfl), b3, ht⟩, c1, fun e e1 e2 => ?_, bits_up c3 x (Or.inr rfl), c4, hs, fun q => ?_⟩
  · obtain ⟨q1, q2, q3, q4⟩ := c2 e e1 e2
    refine ⟨q1, q2, q3, ?_⟩
    by_cases z : e = x
    · rw [z, up_s, up_s]
    · rw [up_n _ _ z, up_n _ _ z]
      exact q4
  · rcases hl with ⟨z, -, -⟩ | ⟨-, z1, z2⟩
    · omega
    · rw [z1, z2]
      exact ⟨(c6 q).1, bt_cancel (c6 q).2 hgo hx.1 hx.2 hg⟩
theorem RJ_floor (h : RJ ac dy am go fl ch le ar lg n lo mk ba ac' dy' am' of' nb' ob') (hb : ba = 0) {a g : Int} (hg : -10000 ≤ g ∧ g ≤ 10000) (hs : sdd (up fl a g) (pb n ac dy am go)) : RJ ac dy am go (up fl a g) ch le ar lg n lo mk ba ac' dy' am' of' nb' ob' := by
  obtain ⟨⟨b1, b2, b3, b4⟩, c1, c2, c3, c4, c5, c6⟩ := h
  exact ⟨⟨b1, b2, flok_up b3 a hg, b4⟩, c1, c2, c3, c4, fun _ => hs, fun q => by omega⟩
theorem RJ_open (h : RJ ac dy am go fl ch le ar lg n lo mk ba ac' dy' am' of' nb' ob') (hb : ba = 0) {g0 : Int → Int} (hg : ∀ j, 0 ≤ j → j < 60 → g0 j = of' j) : RJ ac dy am go fl ch le ar lg n 0 n 1 ac' dy' am' of' n g0 := by
  have hgo := RJ_go h
  obtain ⟨⟨b1, b2, b3, b4⟩, c1, c2, c3, c4, c5, c6⟩ := h
  have e0 : ∀ e, 0 ≤ e → e < n → g0 e = go e := fun e e1 e2 => by
    rw [hg e e1 (by omega)]
    exact (c2 e e1 e2).2.2.2
  have e1 : pb n ac dy am g0 = pb n ac dy am go := pbf_congr (fun e q1 q2 => ⟨rfl, rfl, rfl, e0 e q1 q2⟩)
  have e2 := es_bit (f := go) n.toNat (fun e q1 q2 => by have := hgo e q1 (by omega); omega)
  refine ⟨⟨b1, b2, b3, b4⟩, Or.inr rfl, c2, c3, fun j j1 j2 => by rw [hg j j1 j2]; exact c3 j j1 j2, fun q => by omega, fun _ => ⟨rfl, by omega, ⟨⟨by omega, e2.1⟩, fun i i1 i2 => by omega, fun i j i1 i2 i3 => by omega⟩, ?_, fun e e1 e2 => Or.inr ⟨fun i i1 i2 => by omega, (e0 e e1 e2).symm⟩⟩⟩
  rw [e1]
  exact c5 hb
theorem RJ_shut (h : RJ ac dy am go fl ch le ar lg n lo mk ba ac' dy' am' of' nb' ob') (hs : sdd fl (pb n ac dy am go)) : RJ ac dy am go fl ch le ar lg n lo mk 0 ac' dy' am' of' nb' ob' := by
  obtain ⟨b, c1, c2, c3, c4, c5, c6⟩ := h
  exact ⟨b, Or.inl rfl, c2, c3, c4, fun _ => hs, fun q => by omega⟩
theorem RJ_undo (h : RJ ac dy am go fl ch le ar lg n lo mk ba ac' dy' am' of' nb' ob') (hb : ba = 1) {g0 g1 g2 g3 f0 : Int → Int} (ht : tr g1 g2 g3 (pb mk ac dy am g0)) (k1 : ∀ i, 0 ≤ i → i < lo → lg i < mk → g0 (lg i) = 0) (k2 : ∀ e, 0 ≤ e → e < mk → (∀ i, 0 ≤ i → i < lo → lg i ≠ e) → g0 e = go e) (hf : ∀ j, 0 ≤ j → j < 60 → f0 j = ob' j) : RJ ac dy am g0 fl g1 g2 g3 lg mk lo mk 0 ac' dy' am' f0 nb' ob' := by
  obtain ⟨⟨b1, b2, b3, b4⟩, c1, c2, c3, c4, c5, c6⟩ := h
  obtain ⟨c6, d1, d2, d3, d4⟩ := c6 hb
  have e0 : ∀ e, 0 ≤ e → e < mk → g0 e = ob' e := fun e e1 e2 => by
    rcases d4 e e1 e2 with ⟨⟨i, i1, i2, i3⟩, z⟩ | ⟨z1, z2⟩
    · have := k1 i i1 i2 (by omega)
      rw [i3] at this
      omega
    · rw [k2 e e1 e2 z1]
      exact z2
  have e1 : pb mk ac dy am g0 = pb mk ac dy am ob' := pbf_congr (fun e q1 q2 => ⟨rfl, rfl, rfl, e0 e q1 q2⟩)
  refine ⟨⟨by omega, fun e e1 e2 => ?_, b3, ht⟩, Or.inl rfl, fun e e1 e2 => ?_, fun j j1 j2 => by rw [hf j j1 j2]; exact c4 j j1 j2, c4, fun _ => ?_, fun q => by omega⟩
  · obtain ⟨q1, q2, q3, q4⟩ := b2 e e1 (by omega)
    refine ⟨q1, q2, q3, ?_⟩
    rw [e0 e e1 e2]
    exact c4 e e1 (by omega)
  · obtain ⟨q1, q2, q3, q4⟩ := c2 e e1 (by omega)
    refine ⟨q1, q2, q3, ?_⟩
    rw [e0 e e1 e2]
    exact hf e e1 (by omega)
  · rw [e1]
    exact d3
end RJS
/-- at first -/
theorem nd_0 {P : Int → Int} (hP : ∀ k, P k = 0) {x y : Int} (hxy : x < y) : nd P x y 0 0 0 := by
  have hg : ∀ m : Nat, gs P m = 0 := by
    intro m
    induction m with
    | zero => rfl
    | succ m ih =>
      show gs P m + P _ = 0
      rw [ih, hP]
      rfl
  refine ⟨by rw [hP, hP]; rfl, ⟨fun k _ _ => by rw [hP, hP]; exact Int.le_refl _, y, hxy, Int.le_refl _, by rw [hP, hP]; rfl⟩, ?_⟩
  unfold aa
  rw [hg, hg, hP]
  omega
theorem RI_0 : RI bk0 md0 := by
  have hp : ∀ a k, pb 0 z0 z0 z0 z0 a k = 0 := fun a k => rfl
  refine ⟨⟨rfl, rfl, rfl⟩, ⟨(by decide : (0 : Int) ≤ 0 ∧ (0 : Int) ≤ 60), fun e h1 h2 => ?_, fun a _ _ => (by decide : (-10000 : Int) ≤ 0 ∧ (0 : Int) ≤ 10000), fun a h j h1 h2 h3 => ?_⟩, Or.inl rfl, fun e h1 h2 => ⟨rfl, rfl, rfl, rfl⟩, fun j _ _ => Or.inl rfl, fun j _ _ => Or.inl rfl, fun _ a h1 h2 j h3 h4 => ?_, fun q => ?_⟩
  · have h2 : e < 0 := h2
    omega
  · exact nd_0 (P := pb 0 z0 z0 z0 z0 a) (hp a) (by have := pw_pos h; omega)
  · exact Int.le_refl 0
  · exact absurd (show (0 : Int) = 1 from q) (by decide)
end
section
/-! EACH PUBLIC METHOD OF BOTH CLASSES ANSWERS ALIKE: those that change -/
/-- a public method of both: same arguments, both contracts, same answer, and again the same is said -/
def opOK (l : Launch) (y : MethodName) (cd : ByteArray) (L : Nat) (rm : Room) (y' : MethodName) (cd' : ByteArray) (L' : Nat) (rm' : Room) (u : bkS) (v : mdS) (as : List Value) : Prop := ∀ (z : bkZ) (z' : mdZ), ∃ (post : Int → bkS → Prop) (post' : Int → mdS → Prop), bkM l y cd L .int rm z u as post ∧ mdM l y' cd' L' .int rm' z' v as post' ∧ ∀ (k : Int) (u' : bkS) (k' : Int) (v' : mdS), post k u' → post' k' v' → k = k' ∧ RI u' v'
set_option maxHeartbeats 4000000 in
theorem op_post (l : Launch) {u : bkS} {v : mdS} (h : RI u v) (a d x : Int) (ha : -2147483648 ≤ a ∧ a ≤ 2147483647) (hd : -2147483648 ≤ d ∧ d ≤ 2147483647) (hx0 : -2147483648 ≤ x ∧ x ≤ 2147483647) : opOK l yX0_post cX0_post 4 ({ frames := 4, cells := 0, slots := 0, locals := 98 }) yX1_post cX1_post 4 ({ frames := 3, cells := 0, slots := 0, locals := 66 }) u v [.int (zi a), .int (zi d), .int (zi x)] := by
  obtain ⟨xac, xdy, xam, xgo, xfl, xch, xle, xar, xlg, xn, xlo, xmk, xba, xwc, xwl, xwa⟩ := u
  obtain ⟨yn, yac, ydy, yam, yof, yfl, yba, ynb, yob⟩ := v
  obtain ⟨⟨e1, e2, e3⟩, h⟩ := h
  have e1 : xn = yn := e1
  have e2 : xba = yba := e2
  have e3 : xfl = yfl := e3
  subst e1
  subst e2
  subst e3
  have h : RJ xac xdy xam xgo xfl xch xle xar xlg xn xlo xmk xba yac ydy yam yof ynb yob := h
  have hT := BI_TB h.1
  have hP := ag_pb h.2.2.1
  have hn := h.1.1
  have he := h.1.2.1
  have hflo := h.1.2.2.1
  have he' := ag_eok h.2.2.1 he
  have hba := h.2.1
  have hof := h.2.2.2.1
  have hob := h.2.2.2.2.1
  have hsd := h.2.2.2.2.2.1
  have hbt := h.2.2.2.2.2.2
  have hxx : ∀ x, (0 ≤ x ∧ x < xn) → (yac x = xac x ∧ ydy x = xdy x ∧ yam x = xam x ∧ yof x = xgo x) ∧ (xgo x = 0 ∨ xgo x = 1) := fun x hx => ⟨h.2.2.1 x hx.1 hx.2, (he x hx.1 hx.2).2.2.2⟩
  intro z z'
  refine ⟨_, _, bk_post l z (pb xn xac xdy xam xgo) rfl hn he hT hba a d x ha hd hx0, md_post l z' (pb xn xac xdy xam xgo) hP hn he' hflo hba a d x ha hd hx0, ?_⟩
  intro k u' k' v' h1 h2
  have e : bump (pb xn xac xdy xam xgo) a d x = pb (xn + 1) (up yac xn a) (up ydy xn d) (up yam xn x) (up yof xn 0) := by rw [hP, bump_push hn.1]
  rw [← e] at h2
  rcases h1 with ⟨y1, y2, y3, ⟨rfl, h1⟩ | ⟨g1, g2, g3, rfl, ht, c1, c2, c3, c4, c5, rfl⟩⟩
  · rcases h2 with ⟨rfl, h2⟩ | ⟨c, ⟨rfl, hb, hns, rfl⟩ | ⟨rfl, hs1, rfl⟩⟩
    · refine ⟨?_, ⟨rfl, rfl, rfl⟩, h⟩
      rcases h1 with h1 | h1 | h1 | h1 | ⟨q1, q2, q3, q4, -⟩ <;> rcases h2 with h2 | h2 | h2 | h2 <;> omega
    · refine ⟨?_, ⟨rfl, rfl, rfl⟩, RJ_at h (Int.le_refl _) a d x⟩
      rcases h1 with h1 | h1 | h1 | h1 | ⟨q1, q2, q3, q4, -, -, q5⟩ <;> omega
    · exfalso
      rcases h1 with h1 | h1 | h1 | h1 | ⟨-, -, -, -, hb0, hnb, -⟩
      · omega
      · omega
      · omega
      · omega
      · exact hnb ((sd_bump (hsd hb0) c.1 c.2.1.1).mp (hs1 hb0))
  · rcases h2 with ⟨rfl, h2⟩ | ⟨c, ⟨rfl, hb, hns, rfl⟩ | ⟨rfl, hs1, rfl⟩⟩
    · exfalso
      rcases h2 with h2 | h2 | h2 | h2 <;> omega
    · exact absurd ((sd_bump (hsd hb) c1 c2.1).mpr (c5 hb)) hns
    · exact ⟨rfl, ⟨rfl, rfl, rfl⟩, RJ_push h c4 c1 c2 c3.2 ht (fun q => (sd_bump (hsd q) c1 c2.1).mpr (c5 q))⟩
set_option maxHeartbeats 4000000 in
theorem op_transfer (l : Launch) {u : bkS} {v : mdS} (h : RI u v) (r d x : Int) (hr : -2147483648 ≤ r ∧ r ≤ 2147483647) (hd : -2147483648 ≤ d ∧ d ≤ 2147483647) (hx0 : -2147483648 ≤ x ∧ x ≤ 2147483647) : opOK l yX0_transfer cX0_transfer 7 ({ frames := 4, cells := 0, slots := 0, locals := 98 }) yX1_transfer cX1_transfer 4 ({ frames := 3, cells := 0, slots := 0, locals := 66 }) u v [.int (zi r), .int (zi d), .int (zi x)] := by
  obtain ⟨xac, xdy, xam, xgo, xfl, xch, xle, xar, xlg, xn, xlo, xmk, xba, xwc, xwl, xwa⟩ := u
  obtain ⟨yn, yac, ydy, yam, yof, yfl, yba, ynb, yob⟩ := v
  obtain ⟨⟨e1, e2, e3⟩, h⟩ := h
  have e1 : xn = yn := e1
  have e2 : xba = yba := e2
  have e3 : xfl = yfl := e3
  subst e1
  subst e2
  subst e3
  have h : RJ xac xdy xam xgo xfl xch xle xar xlg xn xlo xmk xba yac ydy yam yof ynb yob := h
  have hT := BI_TB h.1
  have hP := ag_pb h.2.2.1
  have hn := h.1.1
  have he := h.1.2.1
  have hflo := h.1.2.2.1
  have he' := ag_eok h.2.2.1 he
  have hba := h.2.1
  have hof := h.2.2.2.1
  have hob := h.2.2.2.2.1
  have hsd := h.2.2.2.2.2.1
  have hbt := h.2.2.2.2.2.2
  have hxx : ∀ x, (0 ≤ x ∧ x < xn) → (yac x = xac x ∧ ydy x = xdy x ∧ yam x = xam x ∧ yof x = xgo x) ∧ (xgo x = 0 ∨ xgo x = 1) := fun x hx => ⟨h.2.2.1 x hx.1 hx.2, (he x hx.1 hx.2).2.2.2⟩
  intro z z'
  refine ⟨_, _, bk_transfer l z (pb xn xac xdy xam xgo) rfl hn he hT hba r d x hr hd hx0, md_transfer l z' (pb xn xac xdy xam xgo) hP hn he' hflo hba r d x hr hd hx0, ?_⟩
  intro k u' k' v' h1 h2
  have e : bump (bump (pb xn xac xdy xam xgo) (r / 4) d (-x)) (r % 4) d x = pb (xn + 1 + 1) (up (up yac xn (r / 4)) (xn + 1) (r % 4)) (up (up ydy xn d) (xn + 1) d) (up (up yam xn (-x)) (xn + 1) x) (up (up yof xn 0) (xn + 1) 0) := by rw [hP, bump_push hn.1, bump_push (by omega)]
  rw [← e] at h2
  rcases h1 with ⟨y1, y2, y3, ⟨rfl, h1⟩ | ⟨g1, g2, g3, rfl, ht, c1, c2, c3, c4, c5, rfl⟩⟩
  · rcases h2 with ⟨rfl, h2⟩ | ⟨c, ⟨rfl, hb, hns, rfl⟩ | ⟨rfl, hs1, rfl⟩⟩
    · refine ⟨?_, ⟨rfl, rfl, rfl⟩, h⟩
      rcases h1 with h1 | h1 | h1 | h1 | ⟨q1, q2, q3, q4, -⟩ <;> rcases h2 with h2 | h2 | h2 | h2 <;> omega
    · refine ⟨?_, ⟨rfl, rfl, rfl⟩, RJ_at (RJ_at h (Int.le_refl _) (r / 4) d (-x)) (by omega) (r % 4) d x⟩
      rcases h1 with h1 | h1 | h1 | h1 | ⟨q1, q2, q3, q4, -, -, q5⟩ <;> omega
    · exfalso
      rcases h1 with h1 | h1 | h1 | h1 | ⟨-, -, -, -, hb0, hnb, -⟩
      · omega
      · omega
      · omega
      · omega
      · exact hnb ((sd_bump2 (hsd hb0) (by omega) (by omega) (by omega) c.2.1.1 (by omega)).mp (hs1 hb0))
  · rcases h2 with ⟨rfl, h2⟩ | ⟨c, ⟨rfl, hb, hns, rfl⟩ | ⟨rfl, hs1, rfl⟩⟩
    · exfalso
      rcases h2 with h2 | h2 | h2 | h2 <;> omega
    · exact absurd ((sd_bump2 (hsd hb) (by omega) (by omega) (by omega) c2.1 (by omega)).mpr (c5 hb)) hns
    · exact ⟨rfl, ⟨rfl, rfl, rfl⟩, RJ_push2 h c4 (by omega) (by omega) c2 c3 ht (fun q => (sd_bump2 (hsd q) (by omega) (by omega) (by omega) c2.1 (by omega)).mpr (c5 q))⟩
set_option maxHeartbeats 4000000 in
theorem op_cancel (l : Launch) {u : bkS} {v : mdS} (h : RI u v) (x : Int) (hx0 : -2147483648 ≤ x ∧ x ≤ 2147483647) : opOK l yX0_cancel cX0_cancel 3 ({ frames := 4, cells := 0, slots := 0, locals := 98 }) yX1_cancel cX1_cancel 2 ({ frames := 3, cells := 0, slots := 0, locals := 66 }) u v [.int (zi x)] := by
  obtain ⟨xac, xdy, xam, xgo, xfl, xch, xle, xar, xlg, xn, xlo, xmk, xba, xwc, xwl, xwa⟩ := u
  obtain ⟨yn, yac, ydy, yam, yof, yfl, yba, ynb, yob⟩ := v
  obtain ⟨⟨e1, e2, e3⟩, h⟩ := h
  have e1 : xn = yn := e1
  have e2 : xba = yba := e2
  have e3 : xfl = yfl := e3
  subst e1
  subst e2
  subst e3
  have h : RJ xac xdy xam xgo xfl xch xle xar xlg xn xlo xmk xba yac ydy yam yof ynb yob := h
  have hT := BI_TB h.1
  have hP := ag_pb h.2.2.1
  have hn := h.1.1
  have he := h.1.2.1
  have hflo := h.1.2.2.1
  have he' := ag_eok h.2.2.1 he
  have hba := h.2.1
  have hof := h.2.2.2.1
  have hob := h.2.2.2.2.1
  have hsd := h.2.2.2.2.2.1
  have hbt := h.2.2.2.2.2.2
  have hxx : ∀ x, (0 ≤ x ∧ x < xn) → (yac x = xac x ∧ ydy x = xdy x ∧ yam x = xam x ∧ yof x = xgo x) ∧ (xgo x = 0 ∨ xgo x = 1) := fun x hx => ⟨h.2.2.1 x hx.1 hx.2, (he x hx.1 hx.2).2.2.2⟩
  intro z z'
  refine ⟨_, _, bk_cancel l z (pb xn xac xdy xam xgo) rfl hn he hT hba (fun q => (hbt q).2.2.1) x hx0, md_cancel l z' (pb xn xac xdy xam xgo) hP hn he' hflo hba x hx0, ?_⟩
  intro k u' k' v' h1 h2
  have e : (0 ≤ x ∧ x < xn) → yof x = 0 → bump (pb xn xac xdy xam xgo) (xac x) (xdy x) (-(xam x)) = pb xn yac ydy yam (up yof x 1) := fun hr hz => by
    obtain ⟨⟨q1, q2, q3, q4⟩, -⟩ := hxx x hr
    rw [hP, ← q1, ← q2, ← q3]
    exact bump_off hr.1 hr.2 hz
  have hac : (0 ≤ x ∧ x < xn) → (0 ≤ xac x ∧ xac x < 4) ∧ 0 ≤ xdy x := fun hr => ⟨(he x hr.1 hr.2).1, (he x hr.1 hr.2).2.1.1⟩
  have hxx := hxx x
  rcases h1 with ⟨y1, y2, y3, ⟨rfl, h1⟩ | ⟨g1, g2, g3, g4, y4, rfl, ht, hl, c1, c2, c3, rfl⟩⟩
  · rcases h2 with ⟨rfl, h2⟩ | ⟨c, ⟨hv, hb, hns, rfl⟩ | ⟨rfl, hs1, rfl⟩⟩
    · refine ⟨?_, ⟨rfl, rfl, rfl⟩, h⟩
      rcases h1 with h1 | h1 | ⟨q1, q2, q3, -, q5⟩ <;> rcases h2 with h2 | h2 <;> omega
    · rw [up_back (f := yof) c.2.symm] at hv
      subst hv
      refine ⟨?_, ⟨rfl, rfl, rfl⟩, h⟩
      rcases h1 with h1 | h1 | ⟨q1, q2, q3, -, q5⟩ <;> omega
    · exfalso
      rcases h1 with h1 | h1 | ⟨q1, q2, hb0, hnb, -⟩
      · omega
      · omega
      · have hs2 := hs1 hb0
        rw [← e c.1 c.2] at hs2
        exact hnb ((sd_bump (hsd hb0) (hac c.1).1 (hac c.1).2).mp hs2)
  · rcases h2 with ⟨rfl, h2⟩ | ⟨c, ⟨rfl, hb, hns, rfl⟩ | ⟨rfl, hs1, rfl⟩⟩
    · exfalso
      rcases h2 with h2 | h2 <;> omega
    · rw [← e c.1 c.2] at hns
      exact absurd ((sd_bump (hsd hb) (hac c.1).1 (hac c.1).2).mpr (c3 hb)) hns
    · exact ⟨(hxx c1).1.2.2.1.symm, ⟨rfl, rfl, rfl⟩, RJ_off h c1 c2 ht hl (fun q => (sd_bump (hsd q) (hac c1).1 (hac c1).2).mpr (c3 q))⟩
set_option maxHeartbeats 4000000 in
theorem op_floor (l : Launch) {u : bkS} {v : mdS} (h : RI u v) (a g : Int) (ha : -2147483648 ≤ a ∧ a ≤ 2147483647) (hg : -2147483648 ≤ g ∧ g ≤ 2147483647) : opOK l yX0_floor cX0_floor 4 ({ frames := 2, cells := 0, slots := 0, locals := 51 }) yX1_floor cX1_floor 4 ({ frames := 3, cells := 0, slots := 0, locals := 66 }) u v [.int (zi a), .int (zi g)] := by
  obtain ⟨xac, xdy, xam, xgo, xfl, xch, xle, xar, xlg, xn, xlo, xmk, xba, xwc, xwl, xwa⟩ := u
  obtain ⟨yn, yac, ydy, yam, yof, yfl, yba, ynb, yob⟩ := v
  obtain ⟨⟨e1, e2, e3⟩, h⟩ := h
  have e1 : xn = yn := e1
  have e2 : xba = yba := e2
  have e3 : xfl = yfl := e3
  subst e1
  subst e2
  subst e3
  have h : RJ xac xdy xam xgo xfl xch xle xar xlg xn xlo xmk xba yac ydy yam yof ynb yob := h
  have hT := BI_TB h.1
  have hP := ag_pb h.2.2.1
  have hn := h.1.1
  have he := h.1.2.1
  have hflo := h.1.2.2.1
  have he' := ag_eok h.2.2.1 he
  have hba := h.2.1
  have hof := h.2.2.2.1
  have hob := h.2.2.2.2.1
  have hsd := h.2.2.2.2.2.1
  have hbt := h.2.2.2.2.2.2
  have hxx : ∀ x, (0 ≤ x ∧ x < xn) → (yac x = xac x ∧ ydy x = xdy x ∧ yam x = xam x ∧ yof x = xgo x) ∧ (xgo x = 0 ∨ xgo x = 1) := fun x hx => ⟨h.2.2.1 x hx.1 hx.2, (he x hx.1 hx.2).2.2.2⟩
  intro z z'
  refine ⟨_, _, bk_floor l z (pb xn xac xdy xam xgo) hT hba a g ha hg, md_floor l z' (pb xn xac xdy xam xgo) hP hn he' hflo hba a g ha hg, ?_⟩
  intro k u' k' v' h1 h2
  rcases h1 with ⟨y1, y2, y3, ⟨rfl, h1⟩ | ⟨rfl, c1, c2, c3, c4, rfl⟩⟩
  · rcases h2 with ⟨rfl, h2⟩ | ⟨c, ⟨hv, hns, rfl⟩ | ⟨rfl, hs1, rfl⟩⟩
    · refine ⟨?_, ⟨rfl, rfl, rfl⟩, h⟩
      rcases h1 with h1 | h1 | h1 | ⟨q1, q2, q3, -, q5⟩ <;> rcases h2 with h2 | h2 | h2 <;> omega
    · rw [up_back (f := xfl) rfl] at hv
      subst hv
      refine ⟨?_, ⟨rfl, rfl, rfl⟩, h⟩
      rcases h1 with h1 | h1 | h1 | ⟨q1, q2, q3, -, q5⟩ <;> omega
    · exfalso
      rcases h1 with h1 | h1 | h1 | ⟨q1, q2, q3, ⟨j, j1, j2, j3⟩, q5⟩
      · omega
      · omega
      · omega
      · have := (sd_floor (hsd c.2.2) c.1).mp hs1 j j1 j2
        omega
  · rcases h2 with ⟨rfl, h2⟩ | ⟨c, ⟨hv, hns, rfl⟩ | ⟨rfl, hs1, rfl⟩⟩
    · exfalso
      rcases h2 with h2 | h2 | h2 <;> omega
    · exact absurd ((sd_floor (hsd c3) c1).mpr c4) hns
    · exact ⟨rfl, ⟨rfl, rfl, rfl⟩, RJ_floor h c3 c2 hs1⟩
set_option maxHeartbeats 4000000 in
theorem op_open (l : Launch) {u : bkS} {v : mdS} (h : RI u v) : opOK l yX0_open cX0_open 1 ({ frames := 0, cells := 0, slots := 0, locals := 0 }) yX1_open cX1_open 2 ({ frames := 0, cells := 0, slots := 0, locals := 0 }) u v [] := by
  obtain ⟨xac, xdy, xam, xgo, xfl, xch, xle, xar, xlg, xn, xlo, xmk, xba, xwc, xwl, xwa⟩ := u
  obtain ⟨yn, yac, ydy, yam, yof, yfl, yba, ynb, yob⟩ := v
  obtain ⟨⟨e1, e2, e3⟩, h⟩ := h
  have e1 : xn = yn := e1
  have e2 : xba = yba := e2
  have e3 : xfl = yfl := e3
  subst e1
  subst e2
  subst e3
  have h : RJ xac xdy xam xgo xfl xch xle xar xlg xn xlo xmk xba yac ydy yam yof ynb yob := h
  have hT := BI_TB h.1
  have hP := ag_pb h.2.2.1
  have hn := h.1.1
  have he := h.1.2.1
  have hflo := h.1.2.2.1
  have he' := ag_eok h.2.2.1 he
  have hba := h.2.1
  have hof := h.2.2.2.1
  have hob := h.2.2.2.2.1
  have hsd := h.2.2.2.2.2.1
  have hbt := h.2.2.2.2.2.2
  have hxx : ∀ x, (0 ≤ x ∧ x < xn) → (yac x = xac x ∧ ydy x = xdy x ∧ yam x = xam x ∧ yof x = xgo x) ∧ (xgo x = 0 ∨ xgo x = 1) := fun x hx => ⟨h.2.2.1 x hx.1 hx.2, (he x hx.1 hx.2).2.2.2⟩
  intro z z'
  refine ⟨_, _, bk_open l z hba, md_open l z' hba hn hof, ?_⟩
  intro k u' k' v' h1 h2
  rcases h1 with ⟨hb, rfl, rfl⟩ | ⟨hb, rfl, rfl⟩
  · rcases h2 with ⟨hb', rfl, rfl⟩ | ⟨hb', rfl, g0, rfl, hg⟩
    · exact ⟨rfl, ⟨rfl, rfl, rfl⟩, h⟩
    · omega
  · rcases h2 with ⟨hb', rfl, rfl⟩ | ⟨hb', rfl, g0, rfl, hg⟩
    · omega
    · exact ⟨rfl, ⟨rfl, rfl, rfl⟩, RJ_open h hb hg⟩
set_option maxHeartbeats 4000000 in
theorem op_close (l : Launch) {u : bkS} {v : mdS} (h : RI u v) : opOK l yX0_close cX0_close 3 ({ frames := 3, cells := 0, slots := 0, locals := 72 }) yX1_close cX1_close 2 ({ frames := 3, cells := 0, slots := 0, locals := 66 }) u v [] := by
  obtain ⟨xac, xdy, xam, xgo, xfl, xch, xle, xar, xlg, xn, xlo, xmk, xba, xwc, xwl, xwa⟩ := u
  obtain ⟨yn, yac, ydy, yam, yof, yfl, yba, ynb, yob⟩ := v
  obtain ⟨⟨e1, e2, e3⟩, h⟩ := h
  have e1 : xn = yn := e1
  have e2 : xba = yba := e2
  have e3 : xfl = yfl := e3
  subst e1
  subst e2
  subst e3
  have h : RJ xac xdy xam xgo xfl xch xle xar xlg xn xlo xmk xba yac ydy yam yof ynb yob := h
  have hT := BI_TB h.1
  have hP := ag_pb h.2.2.1
  have hn := h.1.1
  have he := h.1.2.1
  have hflo := h.1.2.2.1
  have he' := ag_eok h.2.2.1 he
  have hba := h.2.1
  have hof := h.2.2.2.1
  have hob := h.2.2.2.2.1
  have hsd := h.2.2.2.2.2.1
  have hbt := h.2.2.2.2.2.2
  have hxx : ∀ x, (0 ≤ x ∧ x < xn) → (yac x = xac x ∧ ydy x = xdy x ∧ yam x = xam x ∧ yof x = xgo x) ∧ (xgo x = 0 ∨ xgo x = 1) := fun x hx => ⟨h.2.2.1 x hx.1 hx.2, (he x hx.1 hx.2).2.2.2⟩
  intro z z'
  refine ⟨_, _, bk_close l z (pb xn xac xdy xam xgo) rfl hn he hT hba (fun q => ⟨(hbt q).2.1, (hbt q).2.2.1⟩), md_close l z' (pb xn xac xdy xam xgo) hP hn he' hflo hba (fun q => by have := (hbt q).2.1; have := (hbt q).1; omega) hob, ?_⟩
  intro k u' k' v' h1 h2
  rcases h1 with ⟨hb, rfl, rfl⟩ | ⟨y1, y2, y3, ⟨hb, hs, rfl, rfl⟩ | ⟨hb, hns, rfl, g0, g1, g2, g3, rfl, ht, k1, k2⟩⟩
  · rcases h2 with ⟨hb', rfl, rfl⟩ | ⟨hb', hs', rfl, rfl⟩ | ⟨hb', hns', rfl, f0, rfl, hf0⟩
    · exact ⟨rfl, ⟨rfl, rfl, rfl⟩, h⟩
    · omega
    · omega
  · rcases h2 with ⟨hb', rfl, rfl⟩ | ⟨hb', hs', rfl, rfl⟩ | ⟨hb', hns', rfl, f0, rfl, hf0⟩
    · omega
    · exact ⟨rfl, ⟨rfl, rfl, rfl⟩, RJ_shut h hs⟩
    · exact absurd hs hns'
  · rcases h2 with ⟨hb', rfl, rfl⟩ | ⟨hb', hs', rfl, rfl⟩ | ⟨hb', hns', rfl, f0, rfl, hf0⟩
    · omega
    · exact absurd hs' hns
    · exact ⟨rfl, ⟨(hbt hb).1.symm, rfl, rfl⟩, RJ_undo h hb ht k1 k2 hf0⟩
end
section
/-! EACH PUBLIC METHOD OF BOTH CLASSES ANSWERS ALIKE: those that ask -/
set_option maxHeartbeats 4000000 in
theorem op_isOpen (l : Launch) {u : bkS} {v : mdS} (h : RI u v) : opOK l yX0_isOpen cX0_isOpen 1 ({ frames := 0, cells := 0, slots := 0, locals := 0 }) yX1_isOpen cX1_isOpen 1 ({ frames := 0, cells := 0, slots := 0, locals := 0 }) u v [] := by
  obtain ⟨xac, xdy, xam, xgo, xfl, xch, xle, xar, xlg, xn, xlo, xmk, xba, xwc, xwl, xwa⟩ := u
  obtain ⟨yn, yac, ydy, yam, yof, yfl, yba, ynb, yob⟩ := v
  obtain ⟨⟨e1, e2, e3⟩, h⟩ := h
  have e1 : xn = yn := e1
  have e2 : xba = yba := e2
  have e3 : xfl = yfl := e3
  subst e1
  subst e2
  subst e3
  have h : RJ xac xdy xam xgo xfl xch xle xar xlg xn xlo xmk xba yac ydy yam yof ynb yob := h
  have hT := BI_TB h.1
  have hP := ag_pb h.2.2.1
  have hn := h.1.1
  have he := h.1.2.1
  have hflo := h.1.2.2.1
  have he' := ag_eok h.2.2.1 he
  have hba := h.2.1
  have hof := h.2.2.2.1
  have hob := h.2.2.2.2.1
  have hsd := h.2.2.2.2.2.1
  have hbt := h.2.2.2.2.2.2
  have hxx : ∀ x, (0 ≤ x ∧ x < xn) → (yac x = xac x ∧ ydy x = xdy x ∧ yam x = xam x ∧ yof x = xgo x) ∧ (xgo x = 0 ∨ xgo x = 1) := fun x hx => ⟨h.2.2.1 x hx.1 hx.2, (he x hx.1 hx.2).2.2.2⟩
  intro z z'
  refine ⟨_, _, bk_isOpen l z hba, md_isOpen l z' hba, ?_⟩
  intro k u' k' v' h1 h2
  obtain ⟨rfl, h1⟩ := h1
  obtain ⟨rfl, h2⟩ := h2
  refine ⟨?_, ⟨rfl, rfl, rfl⟩, h⟩
  exact h1.trans h2.symm
set_option maxHeartbeats 4000000 in
theorem op_entries (l : Launch) {u : bkS} {v : mdS} (h : RI u v) : opOK l yX0_entries cX0_entries 1 ({ frames := 0, cells := 0, slots := 0, locals := 0 }) yX1_entries cX1_entries 1 ({ frames := 0, cells := 0, slots := 0, locals := 0 }) u v [] := by
  obtain ⟨xac, xdy, xam, xgo, xfl, xch, xle, xar, xlg, xn, xlo, xmk, xba, xwc, xwl, xwa⟩ := u
  obtain ⟨yn, yac, ydy, yam, yof, yfl, yba, ynb, yob⟩ := v
  obtain ⟨⟨e1, e2, e3⟩, h⟩ := h
  have e1 : xn = yn := e1
  have e2 : xba = yba := e2
  have e3 : xfl = yfl := e3
  subst e1
  subst e2
  subst e3
  have h : RJ xac xdy xam xgo xfl xch xle xar xlg xn xlo xmk xba yac ydy yam yof ynb yob := h
  have hT := BI_TB h.1
  have hP := ag_pb h.2.2.1
  have hn := h.1.1
  have he := h.1.2.1
  have hflo := h.1.2.2.1
  have he' := ag_eok h.2.2.1 he
  have hba := h.2.1
  have hof := h.2.2.2.1
  have hob := h.2.2.2.2.1
  have hsd := h.2.2.2.2.2.1
  have hbt := h.2.2.2.2.2.2
  have hxx : ∀ x, (0 ≤ x ∧ x < xn) → (yac x = xac x ∧ ydy x = xdy x ∧ yam x = xam x ∧ yof x = xgo x) ∧ (xgo x = 0 ∨ xgo x = 1) := fun x hx => ⟨h.2.2.1 x hx.1 hx.2, (he x hx.1 hx.2).2.2.2⟩
  intro z z'
  refine ⟨_, _, bk_entries l z, md_entries l z', ?_⟩
  intro k u' k' v' h1 h2
  obtain ⟨rfl, h1⟩ := h1
  obtain ⟨rfl, h2⟩ := h2
  refine ⟨?_, ⟨rfl, rfl, rfl⟩, h⟩
  exact h1.trans h2.symm
set_option maxHeartbeats 4000000 in
theorem op_cancelled (l : Launch) {u : bkS} {v : mdS} (h : RI u v) (x : Int) (hx0 : -2147483648 ≤ x ∧ x ≤ 2147483647) : opOK l yX0_cancelled cX0_cancelled 2 ({ frames := 1, cells := 0, slots := 0, locals := 21 }) yX1_cancelled cX1_cancelled 2 ({ frames := 1, cells := 0, slots := 0, locals := 21 }) u v [.int (zi x)] := by
  obtain ⟨xac, xdy, xam, xgo, xfl, xch, xle, xar, xlg, xn, xlo, xmk, xba, xwc, xwl, xwa⟩ := u
  obtain ⟨yn, yac, ydy, yam, yof, yfl, yba, ynb, yob⟩ := v
  obtain ⟨⟨e1, e2, e3⟩, h⟩ := h
  have e1 : xn = yn := e1
  have e2 : xba = yba := e2
  have e3 : xfl = yfl := e3
  subst e1
  subst e2
  subst e3
  have h : RJ xac xdy xam xgo xfl xch xle xar xlg xn xlo xmk xba yac ydy yam yof ynb yob := h
  have hT := BI_TB h.1
  have hP := ag_pb h.2.2.1
  have hn := h.1.1
  have he := h.1.2.1
  have hflo := h.1.2.2.1
  have he' := ag_eok h.2.2.1 he
  have hba := h.2.1
  have hof := h.2.2.2.1
  have hob := h.2.2.2.2.1
  have hsd := h.2.2.2.2.2.1
  have hbt := h.2.2.2.2.2.2
  have hxx : ∀ x, (0 ≤ x ∧ x < xn) → (yac x = xac x ∧ ydy x = xdy x ∧ yam x = xam x ∧ yof x = xgo x) ∧ (xgo x = 0 ∨ xgo x = 1) := fun x hx => ⟨h.2.2.1 x hx.1 hx.2, (he x hx.1 hx.2).2.2.2⟩
  intro z z'
  refine ⟨_, _, bk_cancelled l z x hx0 hn he, md_cancelled l z' x hx0 hn he', ?_⟩
  intro k u' k' v' h1 h2
  obtain ⟨rfl, h1⟩ := h1
  obtain ⟨rfl, h2⟩ := h2
  refine ⟨?_, ⟨rfl, rfl, rfl⟩, h⟩
  have hxx := hxx x
  omega
set_option maxHeartbeats 4000000 in
theorem op_amountOf (l : Launch) {u : bkS} {v : mdS} (h : RI u v) (x : Int) (hx0 : -2147483648 ≤ x ∧ x ≤ 2147483647) : opOK l yX0_amountOf cX0_amountOf 2 ({ frames := 1, cells := 0, slots := 0, locals := 21 }) yX1_amountOf cX1_amountOf 2 ({ frames := 1, cells := 0, slots := 0, locals := 21 }) u v [.int (zi x)] := by
  obtain ⟨xac, xdy, xam, xgo, xfl, xch, xle, xar, xlg, xn, xlo, xmk, xba, xwc, xwl, xwa⟩ := u
  obtain ⟨yn, yac, ydy, yam, yof, yfl, yba, ynb, yob⟩ := v
  obtain ⟨⟨e1, e2, e3⟩, h⟩ := h
  have e1 : xn = yn := e1
  have e2 : xba = yba := e2
  have e3 : xfl = yfl := e3
  subst e1
  subst e2
  subst e3
  have h : RJ xac xdy xam xgo xfl xch xle xar xlg xn xlo xmk xba yac ydy yam yof ynb yob := h
  have hT := BI_TB h.1
  have hP := ag_pb h.2.2.1
  have hn := h.1.1
  have he := h.1.2.1
  have hflo := h.1.2.2.1
  have he' := ag_eok h.2.2.1 he
  have hba := h.2.1
  have hof := h.2.2.2.1
  have hob := h.2.2.2.2.1
  have hsd := h.2.2.2.2.2.1
  have hbt := h.2.2.2.2.2.2
  have hxx : ∀ x, (0 ≤ x ∧ x < xn) → (yac x = xac x ∧ ydy x = xdy x ∧ yam x = xam x ∧ yof x = xgo x) ∧ (xgo x = 0 ∨ xgo x = 1) := fun x hx => ⟨h.2.2.1 x hx.1 hx.2, (he x hx.1 hx.2).2.2.2⟩
  intro z z'
  refine ⟨_, _, bk_amountOf l z x hx0 hn he, md_amountOf l z' x hx0 hn he', ?_⟩
  intro k u' k' v' h1 h2
  obtain ⟨rfl, h1⟩ := h1
  obtain ⟨rfl, h2⟩ := h2
  refine ⟨?_, ⟨rfl, rfl, rfl⟩, h⟩
  have hxx := hxx x
  omega
set_option maxHeartbeats 4000000 in
theorem op_sound (l : Launch) {u : bkS} {v : mdS} (h : RI u v) : opOK l yX0_sound cX0_sound 1 ({ frames := 3, cells := 0, slots := 0, locals := 72 }) yX1_sound cX1_sound 1 ({ frames := 3, cells := 0, slots := 0, locals := 66 }) u v [] := by
  obtain ⟨xac, xdy, xam, xgo, xfl, xch, xle, xar, xlg, xn, xlo, xmk, xba, xwc, xwl, xwa⟩ := u
  obtain ⟨yn, yac, ydy, yam, yof, yfl, yba, ynb, yob⟩ := v
  obtain ⟨⟨e1, e2, e3⟩, h⟩ := h
  have e1 : xn = yn := e1
  have e2 : xba = yba := e2
  have e3 : xfl = yfl := e3
  subst e1
  subst e2
  subst e3
  have h : RJ xac xdy xam xgo xfl xch xle xar xlg xn xlo xmk xba yac ydy yam yof ynb yob := h
  have hT := BI_TB h.1
  have hP := ag_pb h.2.2.1
  have hn := h.1.1
  have he := h.1.2.1
  have hflo := h.1.2.2.1
  have he' := ag_eok h.2.2.1 he
  have hba := h.2.1
  have hof := h.2.2.2.1
  have hob := h.2.2.2.2.1
  have hsd := h.2.2.2.2.2.1
  have hbt := h.2.2.2.2.2.2
  have hxx : ∀ x, (0 ≤ x ∧ x < xn) → (yac x = xac x ∧ ydy x = xdy x ∧ yam x = xam x ∧ yof x = xgo x) ∧ (xgo x = 0 ∨ xgo x = 1) := fun x hx => ⟨h.2.2.1 x hx.1 hx.2, (he x hx.1 hx.2).2.2.2⟩
  intro z z'
  refine ⟨_, _, bk_sound l z (pb xn xac xdy xam xgo) hT, md_sound l z' (pb xn xac xdy xam xgo) hP hn he' hflo, ?_⟩
  intro k u' k' v' h1 h2
  obtain ⟨⟨y1, y2, y3, rfl⟩, h1⟩ := h1
  obtain ⟨rfl, h2⟩ := h2
  refine ⟨?_, ⟨rfl, rfl, rfl⟩, h⟩
  rcases h1 with ⟨p1, p2⟩ | ⟨p1, p2⟩ <;> rcases h2 with ⟨s1, s2⟩ | ⟨s1, s2⟩
  · omega
  · exact absurd p2 s2
  · exact absurd s2 p2
  · omega
set_option maxHeartbeats 4000000 in
theorem op_balance (l : Launch) {u : bkS} {v : mdS} (h : RI u v) (a d : Int) (ha : -2147483648 ≤ a ∧ a ≤ 2147483647) (hd : -2147483648 ≤ d ∧ d ≤ 2147483647) : opOK l yX0_balance cX0_balance 3 ({ frames := 2, cells := 0, slots := 0, locals := 51 }) yX1_balance cX1_balance 3 ({ frames := 1, cells := 0, slots := 0, locals := 24 }) u v [.int (zi a), .int (zi d)] := by
  obtain ⟨xac, xdy, xam, xgo, xfl, xch, xle, xar, xlg, xn, xlo, xmk, xba, xwc, xwl, xwa⟩ := u
  obtain ⟨yn, yac, ydy, yam, yof, yfl, yba, ynb, yob⟩ := v
  obtain ⟨⟨e1, e2, e3⟩, h⟩ := h
  have e1 : xn = yn := e1
  have e2 : xba = yba := e2
  have e3 : xfl = yfl := e3
  subst e1
  subst e2
  subst e3
  have h : RJ xac xdy xam xgo xfl xch xle xar xlg xn xlo xmk xba yac ydy yam yof ynb yob := h
  have hT := BI_TB h.1
  have hP := ag_pb h.2.2.1
  have hn := h.1.1
  have he := h.1.2.1
  have hflo := h.1.2.2.1
  have he' := ag_eok h.2.2.1 he
  have hba := h.2.1
  have hof := h.2.2.2.1
  have hob := h.2.2.2.2.1
  have hsd := h.2.2.2.2.2.1
  have hbt := h.2.2.2.2.2.2
  have hxx : ∀ x, (0 ≤ x ∧ x < xn) → (yac x = xac x ∧ ydy x = xdy x ∧ yam x = xam x ∧ yof x = xgo x) ∧ (xgo x = 0 ∨ xgo x = 1) := fun x hx => ⟨h.2.2.1 x hx.1 hx.2, (he x hx.1 hx.2).2.2.2⟩
  intro z z'
  refine ⟨_, _, bk_balance l z (pb xn xac xdy xam xgo) hT a d ha hd, md_balance l z' (pb xn xac xdy xam xgo) hP hn he' a d ha hd, ?_⟩
  intro k u' k' v' h1 h2
  obtain ⟨⟨y1, y2, y3, rfl⟩, h1⟩ := h1
  obtain ⟨rfl, h2⟩ := h2
  refine ⟨?_, ⟨rfl, rfl, rfl⟩, h⟩
  omega
set_option maxHeartbeats 4000000 in
theorem op_lowest (l : Launch) {u : bkS} {v : mdS} (h : RI u v) (a f t : Int) (ha : -2147483648 ≤ a ∧ a ≤ 2147483647) (hf : -2147483648 ≤ f ∧ f ≤ 2147483647) (ht : -2147483648 ≤ t ∧ t ≤ 2147483647) : opOK l yX0_lowest cX0_lowest 4 ({ frames := 3, cells := 0, slots := 0, locals := 75 }) yX1_lowest cX1_lowest 7 ({ frames := 1, cells := 0, slots := 0, locals := 24 }) u v [.int (zi a), .int (zi f), .int (zi t)] := by
  obtain ⟨xac, xdy, xam, xgo, xfl, xch, xle, xar, xlg, xn, xlo, xmk, xba, xwc, xwl, xwa⟩ := u
  obtain ⟨yn, yac, ydy, yam, yof, yfl, yba, ynb, yob⟩ := v
  obtain ⟨⟨e1, e2, e3⟩, h⟩ := h
  have e1 : xn = yn := e1
  have e2 : xba = yba := e2
  have e3 : xfl = yfl := e3
  subst e1
  subst e2
  subst e3
  have h : RJ xac xdy xam xgo xfl xch xle xar xlg xn xlo xmk xba yac ydy yam yof ynb yob := h
  have hT := BI_TB h.1
  have hP := ag_pb h.2.2.1
  have hn := h.1.1
  have he := h.1.2.1
  have hflo := h.1.2.2.1
  have he' := ag_eok h.2.2.1 he
  have hba := h.2.1
  have hof := h.2.2.2.1
  have hob := h.2.2.2.2.1
  have hsd := h.2.2.2.2.2.1
  have hbt := h.2.2.2.2.2.2
  have hxx : ∀ x, (0 ≤ x ∧ x < xn) → (yac x = xac x ∧ ydy x = xdy x ∧ yam x = xam x ∧ yof x = xgo x) ∧ (xgo x = 0 ∨ xgo x = 1) := fun x hx => ⟨h.2.2.1 x hx.1 hx.2, (he x hx.1 hx.2).2.2.2⟩
  intro z z'
  refine ⟨_, _, bk_lowest l z (pb xn xac xdy xam xgo) hT a f t ha hf ht, md_lowest l z' (pb xn xac xdy xam xgo) hP hn he' a f t ha hf ht, ?_⟩
  intro k u' k' v' h1 h2
  obtain ⟨⟨y1, y2, y3, rfl⟩, h1⟩ := h1
  obtain ⟨rfl, h2⟩ := h2
  refine ⟨?_, ⟨rfl, rfl, rfl⟩, h⟩
  rcases h1 with h1 | h1 | ⟨a1, a2, h1⟩ <;> rcases h2 with h2 | h2 | ⟨b1, b2, h2⟩
  · omega
  · omega
  · omega
  · omega
  · omega
  · omega
  · omega
  · omega
  · exact lwp_eq h1 h2
set_option maxHeartbeats 4000000 in
theorem op_total (l : Launch) {u : bkS} {v : mdS} (h : RI u v) (a f t : Int) (ha : -2147483648 ≤ a ∧ a ≤ 2147483647) (hf : -2147483648 ≤ f ∧ f ≤ 2147483647) (ht : -2147483648 ≤ t ∧ t ≤ 2147483647) : opOK l yX0_total cX0_total 5 ({ frames := 2, cells := 0, slots := 0, locals := 51 }) yX1_total cX1_total 6 ({ frames := 1, cells := 0, slots := 0, locals := 24 }) u v [.int (zi a), .int (zi f), .int (zi t)] := by
  obtain ⟨xac, xdy, xam, xgo, xfl, xch, xle, xar, xlg, xn, xlo, xmk, xba, xwc, xwl, xwa⟩ := u
  obtain ⟨yn, yac, ydy, yam, yof, yfl, yba, ynb, yob⟩ := v
  obtain ⟨⟨e1, e2, e3⟩, h⟩ := h
  have e1 : xn = yn := e1
  have e2 : xba = yba := e2
  have e3 : xfl = yfl := e3
  subst e1
  subst e2
  subst e3
  have h : RJ xac xdy xam xgo xfl xch xle xar xlg xn xlo xmk xba yac ydy yam yof ynb yob := h
  have hT := BI_TB h.1
  have hP := ag_pb h.2.2.1
  have hn := h.1.1
  have he := h.1.2.1
  have hflo := h.1.2.2.1
  have he' := ag_eok h.2.2.1 he
  have hba := h.2.1
  have hof := h.2.2.2.1
  have hob := h.2.2.2.2.1
  have hsd := h.2.2.2.2.2.1
  have hbt := h.2.2.2.2.2.2
  have hxx : ∀ x, (0 ≤ x ∧ x < xn) → (yac x = xac x ∧ ydy x = xdy x ∧ yam x = xam x ∧ yof x = xgo x) ∧ (xgo x = 0 ∨ xgo x = 1) := fun x hx => ⟨h.2.2.1 x hx.1 hx.2, (he x hx.1 hx.2).2.2.2⟩
  intro z z'
  refine ⟨_, _, bk_total l z (pb xn xac xdy xam xgo) hT a f t ha hf ht, md_total l z' (pb xn xac xdy xam xgo) hP hn he' a f t ha hf ht, ?_⟩
  intro k u' k' v' h1 h2
  obtain ⟨⟨y1, y2, y3, rfl⟩, h1⟩ := h1
  obtain ⟨rfl, h2⟩ := h2
  refine ⟨?_, ⟨rfl, rfl, rfl⟩, h⟩
  omega
set_option maxHeartbeats 4000000 in
theorem op_firstBelow (l : Launch) {u : bkS} {v : mdS} (h : RI u v) (a d b : Int) (ha : -2147483648 ≤ a ∧ a ≤ 2147483647) (hd : -2147483648 ≤ d ∧ d ≤ 2147483647) (hb0 : -2147483648 ≤ b ∧ b ≤ 2147483647) : opOK l yX0_firstBelow cX0_firstBelow 5 ({ frames := 3, cells := 0, slots := 0, locals := 80 }) yX1_firstBelow cX1_firstBelow 5 ({ frames := 1, cells := 0, slots := 0, locals := 24 }) u v [.int (zi a), .int (zi d), .int (zi b)] := by
  obtain ⟨xac, xdy, xam, xgo, xfl, xch, xle, xar, xlg, xn, xlo, xmk, xba, xwc, xwl, xwa⟩ := u
  obtain ⟨yn, yac, ydy, yam, yof, yfl, yba, ynb, yob⟩ := v
  obtain ⟨⟨e1, e2, e3⟩, h⟩ := h
  have e1 : xn = yn := e1
  have e2 : xba = yba := e2
  have e3 : xfl = yfl := e3
  subst e1
  subst e2
  subst e3
  have h : RJ xac xdy xam xgo xfl xch xle xar xlg xn xlo xmk xba yac ydy yam yof ynb yob := h
  have hT := BI_TB h.1
  have hP := ag_pb h.2.2.1
  have hn := h.1.1
  have he := h.1.2.1
  have hflo := h.1.2.2.1
  have he' := ag_eok h.2.2.1 he
  have hba := h.2.1
  have hof := h.2.2.2.1
  have hob := h.2.2.2.2.1
  have hsd := h.2.2.2.2.2.1
  have hbt := h.2.2.2.2.2.2
  have hxx : ∀ x, (0 ≤ x ∧ x < xn) → (yac x = xac x ∧ ydy x = xdy x ∧ yam x = xam x ∧ yof x = xgo x) ∧ (xgo x = 0 ∨ xgo x = 1) := fun x hx => ⟨h.2.2.1 x hx.1 hx.2, (he x hx.1 hx.2).2.2.2⟩
  intro z z'
  refine ⟨_, _, bk_firstBelow l z (pb xn xac xdy xam xgo) hT a d b ha hd hb0, md_firstBelow l z' (pb xn xac xdy xam xgo) hP hn he' a d b ha hd hb0, ?_⟩
  intro k u' k' v' h1 h2
  obtain ⟨⟨y1, y2, y3, rfl⟩, h1⟩ := h1
  obtain ⟨rfl, h2⟩ := h2
  refine ⟨?_, ⟨rfl, rfl, rfl⟩, h⟩
  rcases h1 with h1 | h1 | ⟨a1, a2, h1⟩ <;> rcases h2 with h2 | h2 | ⟨b1, b2, h2⟩
  · omega
  · omega
  · omega
  · omega
  · omega
  · omega
  · omega
  · omega
  · rcases h1 with ⟨p1, p2⟩ | ⟨p1, p2, p3⟩ <;> rcases h2 with ⟨s1, s2⟩ | ⟨s1, s2, s3⟩
    · omega
    · have := p2 (k' + 1) (by omega) (by omega)
      omega
    · have := s2 (k + 1) (by omega) (by omega)
      omega
    · rcases Int.lt_trichotomy k k' with q | q | q
      · have := s3 (k + 1) (by omega) (by omega)
        omega
      · exact q
      · have := p3 (k' + 1) (by omega) (by omega)
        omega
set_option maxHeartbeats 4000000 in
theorem op_free (l : Launch) {u : bkS} {v : mdS} (h : RI u v) (a d : Int) (ha : -2147483648 ≤ a ∧ a ≤ 2147483647) (hd : -2147483648 ≤ d ∧ d ≤ 2147483647) : opOK l yX0_free cX0_free 4 ({ frames := 3, cells := 0, slots := 0, locals := 75 }) yX1_free cX1_free 3 ({ frames := 2, cells := 0, slots := 0, locals := 49 }) u v [.int (zi a), .int (zi d)] := by
  obtain ⟨xac, xdy, xam, xgo, xfl, xch, xle, xar, xlg, xn, xlo, xmk, xba, xwc, xwl, xwa⟩ := u
  obtain ⟨yn, yac, ydy, yam, yof, yfl, yba, ynb, yob⟩ := v
  obtain ⟨⟨e1, e2, e3⟩, h⟩ := h
  have e1 : xn = yn := e1
  have e2 : xba = yba := e2
  have e3 : xfl = yfl := e3
  subst e1
  subst e2
  subst e3
  have h : RJ xac xdy xam xgo xfl xch xle xar xlg xn xlo xmk xba yac ydy yam yof ynb yob := h
  have hT := BI_TB h.1
  have hP := ag_pb h.2.2.1
  have hn := h.1.1
  have he := h.1.2.1
  have hflo := h.1.2.2.1
  have he' := ag_eok h.2.2.1 he
  have hba := h.2.1
  have hof := h.2.2.2.1
  have hob := h.2.2.2.2.1
  have hsd := h.2.2.2.2.2.1
  have hbt := h.2.2.2.2.2.2
  have hxx : ∀ x, (0 ≤ x ∧ x < xn) → (yac x = xac x ∧ ydy x = xdy x ∧ yam x = xam x ∧ yof x = xgo x) ∧ (xgo x = 0 ∨ xgo x = 1) := fun x hx => ⟨h.2.2.1 x hx.1 hx.2, (he x hx.1 hx.2).2.2.2⟩
  intro z z'
  refine ⟨_, _, bk_free l z (pb xn xac xdy xam xgo) hT a d ha hd, md_free l z' (pb xn xac xdy xam xgo) hP hn he' hflo a d ha hd, ?_⟩
  intro k u' k' v' h1 h2
  obtain ⟨⟨y1, y2, y3, rfl⟩, h1⟩ := h1
  obtain ⟨rfl, h2⟩ := h2
  refine ⟨?_, ⟨rfl, rfl, rfl⟩, h⟩
  rcases h1 with h1 | h1 | ⟨a1, a2, h1⟩ <;> rcases h2 with h2 | h2 | ⟨b1, b2, h2⟩
  · omega
  · omega
  · omega
  · omega
  · omega
  · omega
  · omega
  · omega
  · obtain ⟨g, p1, p2⟩ := h1
    obtain ⟨g', s1, s2⟩ := h2
    have := lwp_eq p1 s1
    subst this
    omega
set_option maxHeartbeats 4000000 in
theorem op_firstFree (l : Launch) {u : bkS} {v : mdS} (h : RI u v) (a x : Int) (ha : -2147483648 ≤ a ∧ a ≤ 2147483647) (hx0 : -2147483648 ≤ x ∧ x ≤ 2147483647) : opOK l yX0_firstFree cX0_firstFree 4 ({ frames := 1, cells := 0, slots := 0, locals := 28 }) yX1_firstFree cX1_firstFree 4 ({ frames := 2, cells := 0, slots := 0, locals := 49 }) u v [.int (zi a), .int (zi x)] := by
  obtain ⟨xac, xdy, xam, xgo, xfl, xch, xle, xar, xlg, xn, xlo, xmk, xba, xwc, xwl, xwa⟩ := u
  obtain ⟨yn, yac, ydy, yam, yof, yfl, yba, ynb, yob⟩ := v
  obtain ⟨⟨e1, e2, e3⟩, h⟩ := h
  have e1 : xn = yn := e1
  have e2 : xba = yba := e2
  have e3 : xfl = yfl := e3
  subst e1
  subst e2
  subst e3
  have h : RJ xac xdy xam xgo xfl xch xle xar xlg xn xlo xmk xba yac ydy yam yof ynb yob := h
  have hT := BI_TB h.1
  have hP := ag_pb h.2.2.1
  have hn := h.1.1
  have he := h.1.2.1
  have hflo := h.1.2.2.1
  have he' := ag_eok h.2.2.1 he
  have hba := h.2.1
  have hof := h.2.2.2.1
  have hob := h.2.2.2.2.1
  have hsd := h.2.2.2.2.2.1
  have hbt := h.2.2.2.2.2.2
  have hxx : ∀ x, (0 ≤ x ∧ x < xn) → (yac x = xac x ∧ ydy x = xdy x ∧ yam x = xam x ∧ yof x = xgo x) ∧ (xgo x = 0 ∨ xgo x = 1) := fun x hx => ⟨h.2.2.1 x hx.1 hx.2, (he x hx.1 hx.2).2.2.2⟩
  intro z z'
  refine ⟨_, _, bk_firstFree l z (pb xn xac xdy xam xgo) hT a x ha hx0, md_firstFree l z' (pb xn xac xdy xam xgo) hP hn he' hflo a x ha hx0, ?_⟩
  intro k u' k' v' h1 h2
  obtain ⟨rfl, h1⟩ := h1
  obtain ⟨rfl, h2⟩ := h2
  refine ⟨?_, ⟨rfl, rfl, rfl⟩, h⟩
  rcases h1 with h1 | h1 | ⟨a1, a2, h1⟩ <;> rcases h2 with h2 | h2 | ⟨b1, b2, h2⟩
  · omega
  · omega
  · omega
  · omega
  · omega
  · omega
  · omega
  · omega
  · rcases h1 with ⟨p1, p2⟩ | ⟨p1, p2, p3⟩ <;> rcases h2 with ⟨s1, s2⟩ | ⟨s1, s2, s3⟩
    · omega
    · have := s3 48 (by omega) (by omega)
      omega
    · have := p3 48 (by omega) (by omega)
      omega
    · rcases Int.lt_trichotomy k k' with q | q | q
      · have := p3 k' (by omega) (by omega)
        omega
      · exact q
      · have := s3 k (by omega) (by omega)
        omega
set_option maxHeartbeats 4000000 in
theorem op_daysBelow (l : Launch) {u : bkS} {v : mdS} (h : RI u v) (a b : Int) (ha : -2147483648 ≤ a ∧ a ≤ 2147483647) (hb0 : -2147483648 ≤ b ∧ b ≤ 2147483647) : opOK l yX0_daysBelow cX0_daysBelow 6 ({ frames := 3, cells := 0, slots := 0, locals := 80 }) yX1_daysBelow cX1_daysBelow 5 ({ frames := 1, cells := 0, slots := 0, locals := 24 }) u v [.int (zi a), .int (zi b)] := by
  obtain ⟨xac, xdy, xam, xgo, xfl, xch, xle, xar, xlg, xn, xlo, xmk, xba, xwc, xwl, xwa⟩ := u
  obtain ⟨yn, yac, ydy, yam, yof, yfl, yba, ynb, yob⟩ := v
  obtain ⟨⟨e1, e2, e3⟩, h⟩ := h
  have e1 : xn = yn := e1
  have e2 : xba = yba := e2
  have e3 : xfl = yfl := e3
  subst e1
  subst e2
  subst e3
  have h : RJ xac xdy xam xgo xfl xch xle xar xlg xn xlo xmk xba yac ydy yam yof ynb yob := h
  have hT := BI_TB h.1
  have hP := ag_pb h.2.2.1
  have hn := h.1.1
  have he := h.1.2.1
  have hflo := h.1.2.2.1
  have he' := ag_eok h.2.2.1 he
  have hba := h.2.1
  have hof := h.2.2.2.1
  have hob := h.2.2.2.2.1
  have hsd := h.2.2.2.2.2.1
  have hbt := h.2.2.2.2.2.2
  have hxx : ∀ x, (0 ≤ x ∧ x < xn) → (yac x = xac x ∧ ydy x = xdy x ∧ yam x = xam x ∧ yof x = xgo x) ∧ (xgo x = 0 ∨ xgo x = 1) := fun x hx => ⟨h.2.2.1 x hx.1 hx.2, (he x hx.1 hx.2).2.2.2⟩
  intro z z'
  refine ⟨_, _, bk_daysBelow l z (pb xn xac xdy xam xgo) hT a b ha hb0, md_daysBelow l z' (pb xn xac xdy xam xgo) hP hn he' a b ha hb0, ?_⟩
  intro k u' k' v' h1 h2
  obtain ⟨⟨y1, y2, y3, rfl⟩, h1⟩ := h1
  obtain ⟨rfl, h2⟩ := h2
  refine ⟨?_, ⟨rfl, rfl, rfl⟩, h⟩
  omega
end
section
/-! THE CLAIM OUT OF ONE WALK OF THE LAW'S BODY. Your part is whole_start (and what it stands on); all else here is the same for every law, but numbers. -/
def R_law : String := "BackdatedBookLaw"
def lw_P (b : Addr) (xs : List Int32) (args : Array Value) (s : State) : Prop := args = #[.ref b] ∧ s.IntsAt b xs ∧ xs.length ≤ 256 ∧ (Jvm.Cond.and given_1 narrow_1).before args s = true
def lw_Q (_ : Array Value) (s : State) (o : Outcome) (t : State) : Prop := o = .returned (some (.int 1)) ∧ Framed s o t [] 600000 7290000
def lw_Z (below : List Frame) (a : Array Value) (s : State) : State → Prop := fun t => ∃ o, t.status = .running ∧ Ended t below o ∧ lw_Q a s o t
/-- the law's own end, with 1 on the stack, nothing written that was there before, its room as the claim has it -/
theorem lw_ret {p : Program} {l : Launch} {e : Env} {s : State} {m : MethodId} {below : List Frame} {meth : Method} {c : Code} {b : Nat} (hx : p.tables.exec = Jvm.exec) (hb : c.code = code) (hr : meth.sig.returnType = ret) (hlocks : meth.locks = false) {pc : Nat} {H : Heap} {ls : Array Slot} (hdg : decode code pc = .ok (.ireturn, 1)) : W p l e room_1 s m #[Value.ref b] below meth c H [] 600000 7290000 (lw_Z below #[Value.ref b] s) (F0 m pc ls [.int 1]) := by
  intro T hT X
  obtain ⟨fs, hret, hrun, hended, hW, hframe⟩ := X.leave (v := some (.int 1)) (hlocks := hlocks) (fun h => by rw [hr] at h; cases h)
  have hmeth' : T.vm.method? m = some meth := X.method'
  refine ⟨T.setFrames fs, ?_, .returned (some (.int 1)), hrun, hended, rfl, ⟨_, rfl⟩, hW, hframe⟩
  jvm_step X.here [X.here.top, hx, hb, hdg, hmeth', hr, ret, narrow_b1]
  (try refine ⟨rfl, ?_⟩); (try refine ⟨rfl, ?_⟩)
  first | (intro acts; rw [hret _ acts rfl rfl rfl]) | rw [hret _ _ rfl rfl rfl]
  exact Steps.refl _
/-- what holds at the law's entry: the machine, the code, the tables' words (any of lw_tbl by 'hts w (by decide +kernel)'), the script of L ints xs at the cell b, what the Statement gives of the start (any of its parts by flat_of_before) -/
def lw_At (p : Program) (s : State) (m : MethodId) (meth : Method) (c : Code) (b L : Nat) (xs : Nat → Int32) : Prop :=
  p.tables.exec = Jvm.exec ∧ c.code = code ∧ meth.sig.returnType = ret ∧ c.maxLocals = 4 ∧ s.vm.findClass R_law = some m.cls ∧ (∀ w ∈ lw_tbl, w.before #[Value.ref b] s = true) ∧ va_X b L xs s s.heap ∧ b < s.heap.size ∧ meth.locks = false ∧ (Jvm.Cond.and given_1 narrow_1).before #[Value.ref b] s = true
end
section
/-! the law's own entry -/
set_option maxRecDepth 100000
abbrev cL_law : ByteArray := code
theorem dL_law_0 : decode cL_law 0 = .ok (.new 7, 3) := by decide +kernel
theorem dL_law_3 : decode cL_law 3 = .ok (.dup, 1) := by decide +kernel
theorem dL_law_4 : decode cL_law 4 = .ok (.invokespecial 9, 3) := by decide +kernel
theorem dL_law_7 : decode cL_law 7 = .ok (.astore_n 1, 1) := by decide +kernel
theorem dL_law_8 : decode cL_law 8 = .ok (.new 10, 3) := by decide +kernel
theorem dL_law_11 : decode cL_law 11 = .ok (.dup, 1) := by decide +kernel
theorem dL_law_12 : decode cL_law 12 = .ok (.invokespecial 12, 3) := by decide +kernel
theorem dL_law_15 : decode cL_law 15 = .ok (.astore_n 2, 1) := by decide +kernel
theorem dL_law_16 : decode cL_law 16 = .ok (.iconst 0, 1) := by decide +kernel
theorem dL_law_17 : decode cL_law 17 = .ok (.istore_n 3, 1) := by decide +kernel
theorem dL_law_18 : decode cL_law 18 = .ok (.iload_n 3, 1) := by decide +kernel
theorem dL_law_19 : decode cL_law 19 = .ok (.aload_n 0, 1) := by decide +kernel
theorem dL_law_20 : decode cL_law 20 = .ok (.arraylength, 1) := by decide +kernel
theorem dL_law_21 : decode cL_law 21 = .ok (.iconst 4, 1) := by decide +kernel
theorem dL_law_22 : decode cL_law 22 = .ok (.isub, 1) := by decide +kernel
theorem dL_law_23 : decode cL_law 23 = .ok (.if_icmp .gt 617, 3) := by decide +kernel
theorem dL_law_26 : decode cL_law 26 = .ok (.aload_n 0, 1) := by decide +kernel
theorem dL_law_27 : decode cL_law 27 = .ok (.iload_n 3, 1) := by decide +kernel
theorem dL_law_28 : decode cL_law 28 = .ok (.iaload, 1) := by decide +kernel
theorem dL_law_29 : decode cL_law 29 = .ok (.bipush 31, 2) := by decide +kernel
theorem dL_law_31 : decode cL_law 31 = .ok (.iand, 1) := by decide +kernel
theorem dL_law_32 : decode cL_law 32 = .ok (.tableswitch 602 0 17 #[88, 131, 174, 197, 230, 243, 256, 269, 282, 305, 328, 341, 374, 417, 460, 503, 536, 569], 88) := by decide +kernel
theorem dL_law_120 : decode cL_law 120 = .ok (.aload_n 1, 1) := by decide +kernel
theorem dL_law_121 : decode cL_law 121 = .ok (.aload_n 0, 1) := by decide +kernel
theorem dL_law_122 : decode cL_law 122 = .ok (.iload_n 3, 1) := by decide +kernel
theorem dL_law_123 : decode cL_law 123 = .ok (.iconst 1, 1) := by decide +kernel
theorem dL_law_124 : decode cL_law 124 = .ok (.iadd, 1) := by decide +kernel
theorem dL_law_125 : decode cL_law 125 = .ok (.iaload, 1) := by decide +kernel
theorem dL_law_126 : decode cL_law 126 = .ok (.aload_n 0, 1) := by decide +kernel
theorem dL_law_127 : decode cL_law 127 = .ok (.iload_n 3, 1) := by decide +kernel
theorem dL_law_128 : decode cL_law 128 = .ok (.iconst 2, 1) := by decide +kernel
theorem dL_law_129 : decode cL_law 129 = .ok (.iadd, 1) := by decide +kernel
theorem dL_law_130 : decode cL_law 130 = .ok (.iaload, 1) := by decide +kernel
theorem dL_law_131 : decode cL_law 131 = .ok (.aload_n 0, 1) := by decide +kernel
theorem dL_law_132 : decode cL_law 132 = .ok (.iload_n 3, 1) := by decide +kernel
theorem dL_law_133 : decode cL_law 133 = .ok (.iconst 3, 1) := by decide +kernel
theorem dL_law_134 : decode cL_law 134 = .ok (.iadd, 1) := by decide +kernel
theorem dL_law_135 : decode cL_law 135 = .ok (.iaload, 1) := by decide +kernel
theorem dL_law_136 : decode cL_law 136 = .ok (.invokevirtual 13, 3) := by decide +kernel
theorem dL_law_139 : decode cL_law 139 = .ok (.aload_n 2, 1) := by decide +kernel
theorem dL_law_140 : decode cL_law 140 = .ok (.aload_n 0, 1) := by decide +kernel
theorem dL_law_141 : decode cL_law 141 = .ok (.iload_n 3, 1) := by decide +kernel
theorem dL_law_142 : decode cL_law 142 = .ok (.iconst 1, 1) := by decide +kernel
theorem dL_law_143 : decode cL_law 143 = .ok (.iadd, 1) := by decide +kernel
theorem dL_law_144 : decode cL_law 144 = .ok (.iaload, 1) := by decide +kernel
theorem dL_law_145 : decode cL_law 145 = .ok (.aload_n 0, 1) := by decide +kernel
theorem dL_law_146 : decode cL_law 146 = .ok (.iload_n 3, 1) := by decide +kernel
theorem dL_law_147 : decode cL_law 147 = .ok (.iconst 2, 1) := by decide +kernel
theorem dL_law_148 : decode cL_law 148 = .ok (.iadd, 1) := by decide +kernel
theorem dL_law_149 : decode cL_law 149 = .ok (.iaload, 1) := by decide +kernel
theorem dL_law_150 : decode cL_law 150 = .ok (.aload_n 0, 1) := by decide +kernel
theorem dL_law_151 : decode cL_law 151 = .ok (.iload_n 3, 1) := by decide +kernel
theorem dL_law_152 : decode cL_law 152 = .ok (.iconst 3, 1) := by decide +kernel
theorem dL_law_153 : decode cL_law 153 = .ok (.iadd, 1) := by decide +kernel
theorem dL_law_154 : decode cL_law 154 = .ok (.iaload, 1) := by decide +kernel
theorem dL_law_155 : decode cL_law 155 = .ok (.invokevirtual 17, 3) := by decide +kernel
theorem dL_law_158 : decode cL_law 158 = .ok (.if_icmp .eq 476, 3) := by decide +kernel
theorem dL_law_161 : decode cL_law 161 = .ok (.iconst 0, 1) := by decide +kernel
theorem dL_law_162 : decode cL_law 162 = .ok (.ireturn, 1) := by decide +kernel
theorem dL_law_163 : decode cL_law 163 = .ok (.aload_n 1, 1) := by decide +kernel
theorem dL_law_164 : decode cL_law 164 = .ok (.aload_n 0, 1) := by decide +kernel
theorem dL_law_165 : decode cL_law 165 = .ok (.iload_n 3, 1) := by decide +kernel
theorem dL_law_166 : decode cL_law 166 = .ok (.iconst 1, 1) := by decide +kernel
theorem dL_law_167 : decode cL_law 167 = .ok (.iadd, 1) := by decide +kernel
theorem dL_law_168 : decode cL_law 168 = .ok (.iaload, 1) := by decide +kernel
theorem dL_law_169 : decode cL_law 169 = .ok (.aload_n 0, 1) := by decide +kernel
theorem dL_law_170 : decode cL_law 170 = .ok (.iload_n 3, 1) := by decide +kernel
theorem dL_law_171 : decode cL_law 171 = .ok (.iconst 2, 1) := by decide +kernel
theorem dL_law_172 : decode cL_law 172 = .ok (.iadd, 1) := by decide +kernel
theorem dL_law_173 : decode cL_law 173 = .ok (.iaload, 1) := by decide +kernel
theorem dL_law_174 : decode cL_law 174 = .ok (.aload_n 0, 1) := by decide +kernel
theorem dL_law_175 : decode cL_law 175 = .ok (.iload_n 3, 1) := by decide +kernel
theorem dL_law_176 : decode cL_law 176 = .ok (.iconst 3, 1) := by decide +kernel
theorem dL_law_177 : decode cL_law 177 = .ok (.iadd, 1) := by decide +kernel
theorem dL_law_178 : decode cL_law 178 = .ok (.iaload, 1) := by decide +kernel
theorem dL_law_179 : decode cL_law 179 = .ok (.invokevirtual 18, 3) := by decide +kernel
theorem dL_law_182 : decode cL_law 182 = .ok (.aload_n 2, 1) := by decide +kernel
theorem dL_law_183 : decode cL_law 183 = .ok (.aload_n 0, 1) := by decide +kernel
theorem dL_law_184 : decode cL_law 184 = .ok (.iload_n 3, 1) := by decide +kernel
theorem dL_law_185 : decode cL_law 185 = .ok (.iconst 1, 1) := by decide +kernel
theorem dL_law_186 : decode cL_law 186 = .ok (.iadd, 1) := by decide +kernel
theorem dL_law_187 : decode cL_law 187 = .ok (.iaload, 1) := by decide +kernel
theorem dL_law_188 : decode cL_law 188 = .ok (.aload_n 0, 1) := by decide +kernel
theorem dL_law_189 : decode cL_law 189 = .ok (.iload_n 3, 1) := by decide +kernel
theorem dL_law_190 : decode cL_law 190 = .ok (.iconst 2, 1) := by decide +kernel
theorem dL_law_191 : decode cL_law 191 = .ok (.iadd, 1) := by decide +kernel
theorem dL_law_192 : decode cL_law 192 = .ok (.iaload, 1) := by decide +kernel
theorem dL_law_193 : decode cL_law 193 = .ok (.aload_n 0, 1) := by decide +kernel
theorem dL_law_194 : decode cL_law 194 = .ok (.iload_n 3, 1) := by decide +kernel
theorem dL_law_195 : decode cL_law 195 = .ok (.iconst 3, 1) := by decide +kernel
theorem dL_law_196 : decode cL_law 196 = .ok (.iadd, 1) := by decide +kernel
theorem dL_law_197 : decode cL_law 197 = .ok (.iaload, 1) := by decide +kernel
theorem dL_law_198 : decode cL_law 198 = .ok (.invokevirtual 21, 3) := by decide +kernel
theorem dL_law_201 : decode cL_law 201 = .ok (.if_icmp .eq 433, 3) := by decide +kernel
theorem dL_law_204 : decode cL_law 204 = .ok (.iconst 0, 1) := by decide +kernel
theorem dL_law_205 : decode cL_law 205 = .ok (.ireturn, 1) := by decide +kernel
theorem dL_law_206 : decode cL_law 206 = .ok (.aload_n 1, 1) := by decide +kernel
theorem dL_law_207 : decode cL_law 207 = .ok (.aload_n 0, 1) := by decide +kernel
theorem dL_law_208 : decode cL_law 208 = .ok (.iload_n 3, 1) := by decide +kernel
theorem dL_law_209 : decode cL_law 209 = .ok (.iconst 1, 1) := by decide +kernel
theorem dL_law_210 : decode cL_law 210 = .ok (.iadd, 1) := by decide +kernel
theorem dL_law_211 : decode cL_law 211 = .ok (.iaload, 1) := by decide +kernel
theorem dL_law_212 : decode cL_law 212 = .ok (.invokevirtual 22, 3) := by decide +kernel
theorem dL_law_215 : decode cL_law 215 = .ok (.aload_n 2, 1) := by decide +kernel
theorem dL_law_216 : decode cL_law 216 = .ok (.aload_n 0, 1) := by decide +kernel
theorem dL_law_217 : decode cL_law 217 = .ok (.iload_n 3, 1) := by decide +kernel
theorem dL_law_218 : decode cL_law 218 = .ok (.iconst 1, 1) := by decide +kernel
theorem dL_law_219 : decode cL_law 219 = .ok (.iadd, 1) := by decide +kernel
theorem dL_law_220 : decode cL_law 220 = .ok (.iaload, 1) := by decide +kernel
theorem dL_law_221 : decode cL_law 221 = .ok (.invokevirtual 26, 3) := by decide +kernel
theorem dL_law_224 : decode cL_law 224 = .ok (.if_icmp .eq 410, 3) := by decide +kernel
theorem dL_law_227 : decode cL_law 227 = .ok (.iconst 0, 1) := by decide +kernel
theorem dL_law_228 : decode cL_law 228 = .ok (.ireturn, 1) := by decide +kernel
theorem dL_law_229 : decode cL_law 229 = .ok (.aload_n 1, 1) := by decide +kernel
theorem dL_law_230 : decode cL_law 230 = .ok (.aload_n 0, 1) := by decide +kernel
theorem dL_law_231 : decode cL_law 231 = .ok (.iload_n 3, 1) := by decide +kernel
theorem dL_law_232 : decode cL_law 232 = .ok (.iconst 1, 1) := by decide +kernel
theorem dL_law_233 : decode cL_law 233 = .ok (.iadd, 1) := by decide +kernel
theorem dL_law_234 : decode cL_law 234 = .ok (.iaload, 1) := by decide +kernel
theorem dL_law_235 : decode cL_law 235 = .ok (.aload_n 0, 1) := by decide +kernel
theorem dL_law_236 : decode cL_law 236 = .ok (.iload_n 3, 1) := by decide +kernel
theorem dL_law_237 : decode cL_law 237 = .ok (.iconst 2, 1) := by decide +kernel
theorem dL_law_238 : decode cL_law 238 = .ok (.iadd, 1) := by decide +kernel
theorem dL_law_239 : decode cL_law 239 = .ok (.iaload, 1) := by decide +kernel
theorem dL_law_240 : decode cL_law 240 = .ok (.invokevirtual 27, 3) := by decide +kernel
theorem dL_law_243 : decode cL_law 243 = .ok (.aload_n 2, 1) := by decide +kernel
theorem dL_law_244 : decode cL_law 244 = .ok (.aload_n 0, 1) := by decide +kernel
theorem dL_law_245 : decode cL_law 245 = .ok (.iload_n 3, 1) := by decide +kernel
theorem dL_law_246 : decode cL_law 246 = .ok (.iconst 1, 1) := by decide +kernel
theorem dL_law_247 : decode cL_law 247 = .ok (.iadd, 1) := by decide +kernel
theorem dL_law_248 : decode cL_law 248 = .ok (.iaload, 1) := by decide +kernel
theorem dL_law_249 : decode cL_law 249 = .ok (.aload_n 0, 1) := by decide +kernel
theorem dL_law_250 : decode cL_law 250 = .ok (.iload_n 3, 1) := by decide +kernel
theorem dL_law_251 : decode cL_law 251 = .ok (.iconst 2, 1) := by decide +kernel
theorem dL_law_252 : decode cL_law 252 = .ok (.iadd, 1) := by decide +kernel
theorem dL_law_253 : decode cL_law 253 = .ok (.iaload, 1) := by decide +kernel
theorem dL_law_254 : decode cL_law 254 = .ok (.invokevirtual 31, 3) := by decide +kernel
theorem dL_law_257 : decode cL_law 257 = .ok (.if_icmp .eq 377, 3) := by decide +kernel
theorem dL_law_260 : decode cL_law 260 = .ok (.iconst 0, 1) := by decide +kernel
theorem dL_law_261 : decode cL_law 261 = .ok (.ireturn, 1) := by decide +kernel
theorem dL_law_262 : decode cL_law 262 = .ok (.aload_n 1, 1) := by decide +kernel
theorem dL_law_263 : decode cL_law 263 = .ok (.invokevirtual 32, 3) := by decide +kernel
theorem dL_law_266 : decode cL_law 266 = .ok (.aload_n 2, 1) := by decide +kernel
theorem dL_law_267 : decode cL_law 267 = .ok (.invokevirtual 36, 3) := by decide +kernel
theorem dL_law_270 : decode cL_law 270 = .ok (.if_icmp .eq 364, 3) := by decide +kernel
theorem dL_law_273 : decode cL_law 273 = .ok (.iconst 0, 1) := by decide +kernel
theorem dL_law_274 : decode cL_law 274 = .ok (.ireturn, 1) := by decide +kernel
theorem dL_law_275 : decode cL_law 275 = .ok (.aload_n 1, 1) := by decide +kernel
theorem dL_law_276 : decode cL_law 276 = .ok (.invokevirtual 37, 3) := by decide +kernel
theorem dL_law_279 : decode cL_law 279 = .ok (.aload_n 2, 1) := by decide +kernel
end
section
set_option maxRecDepth 100000
theorem dL_law_280 : decode cL_law 280 = .ok (.invokevirtual 40, 3) := by decide +kernel
theorem dL_law_283 : decode cL_law 283 = .ok (.if_icmp .eq 351, 3) := by decide +kernel
theorem dL_law_286 : decode cL_law 286 = .ok (.iconst 0, 1) := by decide +kernel
theorem dL_law_287 : decode cL_law 287 = .ok (.ireturn, 1) := by decide +kernel
theorem dL_law_288 : decode cL_law 288 = .ok (.aload_n 1, 1) := by decide +kernel
theorem dL_law_289 : decode cL_law 289 = .ok (.invokevirtual 41, 3) := by decide +kernel
theorem dL_law_292 : decode cL_law 292 = .ok (.aload_n 2, 1) := by decide +kernel
theorem dL_law_293 : decode cL_law 293 = .ok (.invokevirtual 44, 3) := by decide +kernel
theorem dL_law_296 : decode cL_law 296 = .ok (.if_icmp .eq 338, 3) := by decide +kernel
theorem dL_law_299 : decode cL_law 299 = .ok (.iconst 0, 1) := by decide +kernel
theorem dL_law_300 : decode cL_law 300 = .ok (.ireturn, 1) := by decide +kernel
theorem dL_law_301 : decode cL_law 301 = .ok (.aload_n 1, 1) := by decide +kernel
theorem dL_law_302 : decode cL_law 302 = .ok (.invokevirtual 45, 3) := by decide +kernel
theorem dL_law_305 : decode cL_law 305 = .ok (.aload_n 2, 1) := by decide +kernel
theorem dL_law_306 : decode cL_law 306 = .ok (.invokevirtual 48, 3) := by decide +kernel
theorem dL_law_309 : decode cL_law 309 = .ok (.if_icmp .eq 325, 3) := by decide +kernel
theorem dL_law_312 : decode cL_law 312 = .ok (.iconst 0, 1) := by decide +kernel
theorem dL_law_313 : decode cL_law 313 = .ok (.ireturn, 1) := by decide +kernel
theorem dL_law_314 : decode cL_law 314 = .ok (.aload_n 1, 1) := by decide +kernel
theorem dL_law_315 : decode cL_law 315 = .ok (.aload_n 0, 1) := by decide +kernel
theorem dL_law_316 : decode cL_law 316 = .ok (.iload_n 3, 1) := by decide +kernel
theorem dL_law_317 : decode cL_law 317 = .ok (.iconst 1, 1) := by decide +kernel
theorem dL_law_318 : decode cL_law 318 = .ok (.iadd, 1) := by decide +kernel
theorem dL_law_319 : decode cL_law 319 = .ok (.iaload, 1) := by decide +kernel
theorem dL_law_320 : decode cL_law 320 = .ok (.invokevirtual 49, 3) := by decide +kernel
theorem dL_law_323 : decode cL_law 323 = .ok (.aload_n 2, 1) := by decide +kernel
theorem dL_law_324 : decode cL_law 324 = .ok (.aload_n 0, 1) := by decide +kernel
theorem dL_law_325 : decode cL_law 325 = .ok (.iload_n 3, 1) := by decide +kernel
theorem dL_law_326 : decode cL_law 326 = .ok (.iconst 1, 1) := by decide +kernel
theorem dL_law_327 : decode cL_law 327 = .ok (.iadd, 1) := by decide +kernel
theorem dL_law_328 : decode cL_law 328 = .ok (.iaload, 1) := by decide +kernel
theorem dL_law_329 : decode cL_law 329 = .ok (.invokevirtual 52, 3) := by decide +kernel
theorem dL_law_332 : decode cL_law 332 = .ok (.if_icmp .eq 302, 3) := by decide +kernel
theorem dL_law_335 : decode cL_law 335 = .ok (.iconst 0, 1) := by decide +kernel
theorem dL_law_336 : decode cL_law 336 = .ok (.ireturn, 1) := by decide +kernel
theorem dL_law_337 : decode cL_law 337 = .ok (.aload_n 1, 1) := by decide +kernel
theorem dL_law_338 : decode cL_law 338 = .ok (.aload_n 0, 1) := by decide +kernel
theorem dL_law_339 : decode cL_law 339 = .ok (.iload_n 3, 1) := by decide +kernel
theorem dL_law_340 : decode cL_law 340 = .ok (.iconst 1, 1) := by decide +kernel
theorem dL_law_341 : decode cL_law 341 = .ok (.iadd, 1) := by decide +kernel
theorem dL_law_342 : decode cL_law 342 = .ok (.iaload, 1) := by decide +kernel
theorem dL_law_343 : decode cL_law 343 = .ok (.invokevirtual 53, 3) := by decide +kernel
theorem dL_law_346 : decode cL_law 346 = .ok (.aload_n 2, 1) := by decide +kernel
theorem dL_law_347 : decode cL_law 347 = .ok (.aload_n 0, 1) := by decide +kernel
theorem dL_law_348 : decode cL_law 348 = .ok (.iload_n 3, 1) := by decide +kernel
theorem dL_law_349 : decode cL_law 349 = .ok (.iconst 1, 1) := by decide +kernel
theorem dL_law_350 : decode cL_law 350 = .ok (.iadd, 1) := by decide +kernel
theorem dL_law_351 : decode cL_law 351 = .ok (.iaload, 1) := by decide +kernel
theorem dL_law_352 : decode cL_law 352 = .ok (.invokevirtual 56, 3) := by decide +kernel
theorem dL_law_355 : decode cL_law 355 = .ok (.if_icmp .eq 279, 3) := by decide +kernel
theorem dL_law_358 : decode cL_law 358 = .ok (.iconst 0, 1) := by decide +kernel
theorem dL_law_359 : decode cL_law 359 = .ok (.ireturn, 1) := by decide +kernel
theorem dL_law_360 : decode cL_law 360 = .ok (.aload_n 1, 1) := by decide +kernel
theorem dL_law_361 : decode cL_law 361 = .ok (.invokevirtual 57, 3) := by decide +kernel
theorem dL_law_364 : decode cL_law 364 = .ok (.aload_n 2, 1) := by decide +kernel
theorem dL_law_365 : decode cL_law 365 = .ok (.invokevirtual 60, 3) := by decide +kernel
theorem dL_law_368 : decode cL_law 368 = .ok (.if_icmp .eq 266, 3) := by decide +kernel
theorem dL_law_371 : decode cL_law 371 = .ok (.iconst 0, 1) := by decide +kernel
theorem dL_law_372 : decode cL_law 372 = .ok (.ireturn, 1) := by decide +kernel
theorem dL_law_373 : decode cL_law 373 = .ok (.aload_n 1, 1) := by decide +kernel
theorem dL_law_374 : decode cL_law 374 = .ok (.aload_n 0, 1) := by decide +kernel
theorem dL_law_375 : decode cL_law 375 = .ok (.iload_n 3, 1) := by decide +kernel
theorem dL_law_376 : decode cL_law 376 = .ok (.iconst 1, 1) := by decide +kernel
theorem dL_law_377 : decode cL_law 377 = .ok (.iadd, 1) := by decide +kernel
theorem dL_law_378 : decode cL_law 378 = .ok (.iaload, 1) := by decide +kernel
theorem dL_law_379 : decode cL_law 379 = .ok (.aload_n 0, 1) := by decide +kernel
theorem dL_law_380 : decode cL_law 380 = .ok (.iload_n 3, 1) := by decide +kernel
theorem dL_law_381 : decode cL_law 381 = .ok (.iconst 2, 1) := by decide +kernel
theorem dL_law_382 : decode cL_law 382 = .ok (.iadd, 1) := by decide +kernel
theorem dL_law_383 : decode cL_law 383 = .ok (.iaload, 1) := by decide +kernel
theorem dL_law_384 : decode cL_law 384 = .ok (.invokevirtual 61, 3) := by decide +kernel
theorem dL_law_387 : decode cL_law 387 = .ok (.aload_n 2, 1) := by decide +kernel
theorem dL_law_388 : decode cL_law 388 = .ok (.aload_n 0, 1) := by decide +kernel
theorem dL_law_389 : decode cL_law 389 = .ok (.iload_n 3, 1) := by decide +kernel
theorem dL_law_390 : decode cL_law 390 = .ok (.iconst 1, 1) := by decide +kernel
theorem dL_law_391 : decode cL_law 391 = .ok (.iadd, 1) := by decide +kernel
theorem dL_law_392 : decode cL_law 392 = .ok (.iaload, 1) := by decide +kernel
theorem dL_law_393 : decode cL_law 393 = .ok (.aload_n 0, 1) := by decide +kernel
theorem dL_law_394 : decode cL_law 394 = .ok (.iload_n 3, 1) := by decide +kernel
theorem dL_law_395 : decode cL_law 395 = .ok (.iconst 2, 1) := by decide +kernel
theorem dL_law_396 : decode cL_law 396 = .ok (.iadd, 1) := by decide +kernel
theorem dL_law_397 : decode cL_law 397 = .ok (.iaload, 1) := by decide +kernel
theorem dL_law_398 : decode cL_law 398 = .ok (.invokevirtual 64, 3) := by decide +kernel
theorem dL_law_401 : decode cL_law 401 = .ok (.if_icmp .eq 233, 3) := by decide +kernel
theorem dL_law_404 : decode cL_law 404 = .ok (.iconst 0, 1) := by decide +kernel
theorem dL_law_405 : decode cL_law 405 = .ok (.ireturn, 1) := by decide +kernel
theorem dL_law_406 : decode cL_law 406 = .ok (.aload_n 1, 1) := by decide +kernel
theorem dL_law_407 : decode cL_law 407 = .ok (.aload_n 0, 1) := by decide +kernel
theorem dL_law_408 : decode cL_law 408 = .ok (.iload_n 3, 1) := by decide +kernel
theorem dL_law_409 : decode cL_law 409 = .ok (.iconst 1, 1) := by decide +kernel
theorem dL_law_410 : decode cL_law 410 = .ok (.iadd, 1) := by decide +kernel
theorem dL_law_411 : decode cL_law 411 = .ok (.iaload, 1) := by decide +kernel
theorem dL_law_412 : decode cL_law 412 = .ok (.aload_n 0, 1) := by decide +kernel
theorem dL_law_413 : decode cL_law 413 = .ok (.iload_n 3, 1) := by decide +kernel
theorem dL_law_414 : decode cL_law 414 = .ok (.iconst 2, 1) := by decide +kernel
theorem dL_law_415 : decode cL_law 415 = .ok (.iadd, 1) := by decide +kernel
theorem dL_law_416 : decode cL_law 416 = .ok (.iaload, 1) := by decide +kernel
theorem dL_law_417 : decode cL_law 417 = .ok (.aload_n 0, 1) := by decide +kernel
theorem dL_law_418 : decode cL_law 418 = .ok (.iload_n 3, 1) := by decide +kernel
theorem dL_law_419 : decode cL_law 419 = .ok (.iconst 3, 1) := by decide +kernel
theorem dL_law_420 : decode cL_law 420 = .ok (.iadd, 1) := by decide +kernel
theorem dL_law_421 : decode cL_law 421 = .ok (.iaload, 1) := by decide +kernel
theorem dL_law_422 : decode cL_law 422 = .ok (.invokevirtual 65, 3) := by decide +kernel
theorem dL_law_425 : decode cL_law 425 = .ok (.aload_n 2, 1) := by decide +kernel
theorem dL_law_426 : decode cL_law 426 = .ok (.aload_n 0, 1) := by decide +kernel
theorem dL_law_427 : decode cL_law 427 = .ok (.iload_n 3, 1) := by decide +kernel
theorem dL_law_428 : decode cL_law 428 = .ok (.iconst 1, 1) := by decide +kernel
theorem dL_law_429 : decode cL_law 429 = .ok (.iadd, 1) := by decide +kernel
theorem dL_law_430 : decode cL_law 430 = .ok (.iaload, 1) := by decide +kernel
theorem dL_law_431 : decode cL_law 431 = .ok (.aload_n 0, 1) := by decide +kernel
theorem dL_law_432 : decode cL_law 432 = .ok (.iload_n 3, 1) := by decide +kernel
theorem dL_law_433 : decode cL_law 433 = .ok (.iconst 2, 1) := by decide +kernel
theorem dL_law_434 : decode cL_law 434 = .ok (.iadd, 1) := by decide +kernel
theorem dL_law_435 : decode cL_law 435 = .ok (.iaload, 1) := by decide +kernel
theorem dL_law_436 : decode cL_law 436 = .ok (.aload_n 0, 1) := by decide +kernel
theorem dL_law_437 : decode cL_law 437 = .ok (.iload_n 3, 1) := by decide +kernel
theorem dL_law_438 : decode cL_law 438 = .ok (.iconst 3, 1) := by decide +kernel
theorem dL_law_439 : decode cL_law 439 = .ok (.iadd, 1) := by decide +kernel
theorem dL_law_440 : decode cL_law 440 = .ok (.iaload, 1) := by decide +kernel
theorem dL_law_441 : decode cL_law 441 = .ok (.invokevirtual 68, 3) := by decide +kernel
theorem dL_law_444 : decode cL_law 444 = .ok (.if_icmp .eq 190, 3) := by decide +kernel
theorem dL_law_447 : decode cL_law 447 = .ok (.iconst 0, 1) := by decide +kernel
theorem dL_law_448 : decode cL_law 448 = .ok (.ireturn, 1) := by decide +kernel
theorem dL_law_449 : decode cL_law 449 = .ok (.aload_n 1, 1) := by decide +kernel
theorem dL_law_450 : decode cL_law 450 = .ok (.aload_n 0, 1) := by decide +kernel
theorem dL_law_451 : decode cL_law 451 = .ok (.iload_n 3, 1) := by decide +kernel
theorem dL_law_452 : decode cL_law 452 = .ok (.iconst 1, 1) := by decide +kernel
theorem dL_law_453 : decode cL_law 453 = .ok (.iadd, 1) := by decide +kernel
theorem dL_law_454 : decode cL_law 454 = .ok (.iaload, 1) := by decide +kernel
theorem dL_law_455 : decode cL_law 455 = .ok (.aload_n 0, 1) := by decide +kernel
theorem dL_law_456 : decode cL_law 456 = .ok (.iload_n 3, 1) := by decide +kernel
theorem dL_law_457 : decode cL_law 457 = .ok (.iconst 2, 1) := by decide +kernel
theorem dL_law_458 : decode cL_law 458 = .ok (.iadd, 1) := by decide +kernel
theorem dL_law_459 : decode cL_law 459 = .ok (.iaload, 1) := by decide +kernel
theorem dL_law_460 : decode cL_law 460 = .ok (.aload_n 0, 1) := by decide +kernel
theorem dL_law_461 : decode cL_law 461 = .ok (.iload_n 3, 1) := by decide +kernel
theorem dL_law_462 : decode cL_law 462 = .ok (.iconst 3, 1) := by decide +kernel
theorem dL_law_463 : decode cL_law 463 = .ok (.iadd, 1) := by decide +kernel
theorem dL_law_464 : decode cL_law 464 = .ok (.iaload, 1) := by decide +kernel
theorem dL_law_465 : decode cL_law 465 = .ok (.invokevirtual 69, 3) := by decide +kernel
theorem dL_law_468 : decode cL_law 468 = .ok (.aload_n 2, 1) := by decide +kernel
theorem dL_law_469 : decode cL_law 469 = .ok (.aload_n 0, 1) := by decide +kernel
theorem dL_law_470 : decode cL_law 470 = .ok (.iload_n 3, 1) := by decide +kernel
theorem dL_law_471 : decode cL_law 471 = .ok (.iconst 1, 1) := by decide +kernel
theorem dL_law_472 : decode cL_law 472 = .ok (.iadd, 1) := by decide +kernel
theorem dL_law_473 : decode cL_law 473 = .ok (.iaload, 1) := by decide +kernel
theorem dL_law_474 : decode cL_law 474 = .ok (.aload_n 0, 1) := by decide +kernel
theorem dL_law_475 : decode cL_law 475 = .ok (.iload_n 3, 1) := by decide +kernel
theorem dL_law_476 : decode cL_law 476 = .ok (.iconst 2, 1) := by decide +kernel
theorem dL_law_477 : decode cL_law 477 = .ok (.iadd, 1) := by decide +kernel
end
section
set_option maxRecDepth 100000
theorem dL_law_478 : decode cL_law 478 = .ok (.iaload, 1) := by decide +kernel
theorem dL_law_479 : decode cL_law 479 = .ok (.aload_n 0, 1) := by decide +kernel
theorem dL_law_480 : decode cL_law 480 = .ok (.iload_n 3, 1) := by decide +kernel
theorem dL_law_481 : decode cL_law 481 = .ok (.iconst 3, 1) := by decide +kernel
theorem dL_law_482 : decode cL_law 482 = .ok (.iadd, 1) := by decide +kernel
theorem dL_law_483 : decode cL_law 483 = .ok (.iaload, 1) := by decide +kernel
theorem dL_law_484 : decode cL_law 484 = .ok (.invokevirtual 72, 3) := by decide +kernel
theorem dL_law_487 : decode cL_law 487 = .ok (.if_icmp .eq 147, 3) := by decide +kernel
theorem dL_law_490 : decode cL_law 490 = .ok (.iconst 0, 1) := by decide +kernel
theorem dL_law_491 : decode cL_law 491 = .ok (.ireturn, 1) := by decide +kernel
theorem dL_law_492 : decode cL_law 492 = .ok (.aload_n 1, 1) := by decide +kernel
theorem dL_law_493 : decode cL_law 493 = .ok (.aload_n 0, 1) := by decide +kernel
theorem dL_law_494 : decode cL_law 494 = .ok (.iload_n 3, 1) := by decide +kernel
theorem dL_law_495 : decode cL_law 495 = .ok (.iconst 1, 1) := by decide +kernel
theorem dL_law_496 : decode cL_law 496 = .ok (.iadd, 1) := by decide +kernel
theorem dL_law_497 : decode cL_law 497 = .ok (.iaload, 1) := by decide +kernel
theorem dL_law_498 : decode cL_law 498 = .ok (.aload_n 0, 1) := by decide +kernel
theorem dL_law_499 : decode cL_law 499 = .ok (.iload_n 3, 1) := by decide +kernel
theorem dL_law_500 : decode cL_law 500 = .ok (.iconst 2, 1) := by decide +kernel
theorem dL_law_501 : decode cL_law 501 = .ok (.iadd, 1) := by decide +kernel
theorem dL_law_502 : decode cL_law 502 = .ok (.iaload, 1) := by decide +kernel
theorem dL_law_503 : decode cL_law 503 = .ok (.aload_n 0, 1) := by decide +kernel
theorem dL_law_504 : decode cL_law 504 = .ok (.iload_n 3, 1) := by decide +kernel
theorem dL_law_505 : decode cL_law 505 = .ok (.iconst 3, 1) := by decide +kernel
theorem dL_law_506 : decode cL_law 506 = .ok (.iadd, 1) := by decide +kernel
theorem dL_law_507 : decode cL_law 507 = .ok (.iaload, 1) := by decide +kernel
theorem dL_law_508 : decode cL_law 508 = .ok (.invokevirtual 73, 3) := by decide +kernel
theorem dL_law_511 : decode cL_law 511 = .ok (.aload_n 2, 1) := by decide +kernel
theorem dL_law_512 : decode cL_law 512 = .ok (.aload_n 0, 1) := by decide +kernel
theorem dL_law_513 : decode cL_law 513 = .ok (.iload_n 3, 1) := by decide +kernel
theorem dL_law_514 : decode cL_law 514 = .ok (.iconst 1, 1) := by decide +kernel
theorem dL_law_515 : decode cL_law 515 = .ok (.iadd, 1) := by decide +kernel
theorem dL_law_516 : decode cL_law 516 = .ok (.iaload, 1) := by decide +kernel
theorem dL_law_517 : decode cL_law 517 = .ok (.aload_n 0, 1) := by decide +kernel
theorem dL_law_518 : decode cL_law 518 = .ok (.iload_n 3, 1) := by decide +kernel
theorem dL_law_519 : decode cL_law 519 = .ok (.iconst 2, 1) := by decide +kernel
theorem dL_law_520 : decode cL_law 520 = .ok (.iadd, 1) := by decide +kernel
theorem dL_law_521 : decode cL_law 521 = .ok (.iaload, 1) := by decide +kernel
theorem dL_law_522 : decode cL_law 522 = .ok (.aload_n 0, 1) := by decide +kernel
theorem dL_law_523 : decode cL_law 523 = .ok (.iload_n 3, 1) := by decide +kernel
theorem dL_law_524 : decode cL_law 524 = .ok (.iconst 3, 1) := by decide +kernel
theorem dL_law_525 : decode cL_law 525 = .ok (.iadd, 1) := by decide +kernel
theorem dL_law_526 : decode cL_law 526 = .ok (.iaload, 1) := by decide +kernel
theorem dL_law_527 : decode cL_law 527 = .ok (.invokevirtual 76, 3) := by decide +kernel
theorem dL_law_530 : decode cL_law 530 = .ok (.if_icmp .eq 104, 3) := by decide +kernel
theorem dL_law_533 : decode cL_law 533 = .ok (.iconst 0, 1) := by decide +kernel
theorem dL_law_534 : decode cL_law 534 = .ok (.ireturn, 1) := by decide +kernel
theorem dL_law_535 : decode cL_law 535 = .ok (.aload_n 1, 1) := by decide +kernel
theorem dL_law_536 : decode cL_law 536 = .ok (.aload_n 0, 1) := by decide +kernel
theorem dL_law_537 : decode cL_law 537 = .ok (.iload_n 3, 1) := by decide +kernel
theorem dL_law_538 : decode cL_law 538 = .ok (.iconst 1, 1) := by decide +kernel
theorem dL_law_539 : decode cL_law 539 = .ok (.iadd, 1) := by decide +kernel
theorem dL_law_540 : decode cL_law 540 = .ok (.iaload, 1) := by decide +kernel
theorem dL_law_541 : decode cL_law 541 = .ok (.aload_n 0, 1) := by decide +kernel
theorem dL_law_542 : decode cL_law 542 = .ok (.iload_n 3, 1) := by decide +kernel
theorem dL_law_543 : decode cL_law 543 = .ok (.iconst 2, 1) := by decide +kernel
theorem dL_law_544 : decode cL_law 544 = .ok (.iadd, 1) := by decide +kernel
theorem dL_law_545 : decode cL_law 545 = .ok (.iaload, 1) := by decide +kernel
theorem dL_law_546 : decode cL_law 546 = .ok (.invokevirtual 77, 3) := by decide +kernel
theorem dL_law_549 : decode cL_law 549 = .ok (.aload_n 2, 1) := by decide +kernel
theorem dL_law_550 : decode cL_law 550 = .ok (.aload_n 0, 1) := by decide +kernel
theorem dL_law_551 : decode cL_law 551 = .ok (.iload_n 3, 1) := by decide +kernel
theorem dL_law_552 : decode cL_law 552 = .ok (.iconst 1, 1) := by decide +kernel
theorem dL_law_553 : decode cL_law 553 = .ok (.iadd, 1) := by decide +kernel
theorem dL_law_554 : decode cL_law 554 = .ok (.iaload, 1) := by decide +kernel
theorem dL_law_555 : decode cL_law 555 = .ok (.aload_n 0, 1) := by decide +kernel
theorem dL_law_556 : decode cL_law 556 = .ok (.iload_n 3, 1) := by decide +kernel
theorem dL_law_557 : decode cL_law 557 = .ok (.iconst 2, 1) := by decide +kernel
theorem dL_law_558 : decode cL_law 558 = .ok (.iadd, 1) := by decide +kernel
theorem dL_law_559 : decode cL_law 559 = .ok (.iaload, 1) := by decide +kernel
theorem dL_law_560 : decode cL_law 560 = .ok (.invokevirtual 80, 3) := by decide +kernel
theorem dL_law_563 : decode cL_law 563 = .ok (.if_icmp .eq 71, 3) := by decide +kernel
theorem dL_law_566 : decode cL_law 566 = .ok (.iconst 0, 1) := by decide +kernel
theorem dL_law_567 : decode cL_law 567 = .ok (.ireturn, 1) := by decide +kernel
theorem dL_law_568 : decode cL_law 568 = .ok (.aload_n 1, 1) := by decide +kernel
theorem dL_law_569 : decode cL_law 569 = .ok (.aload_n 0, 1) := by decide +kernel
theorem dL_law_570 : decode cL_law 570 = .ok (.iload_n 3, 1) := by decide +kernel
theorem dL_law_571 : decode cL_law 571 = .ok (.iconst 1, 1) := by decide +kernel
theorem dL_law_572 : decode cL_law 572 = .ok (.iadd, 1) := by decide +kernel
theorem dL_law_573 : decode cL_law 573 = .ok (.iaload, 1) := by decide +kernel
theorem dL_law_574 : decode cL_law 574 = .ok (.aload_n 0, 1) := by decide +kernel
theorem dL_law_575 : decode cL_law 575 = .ok (.iload_n 3, 1) := by decide +kernel
theorem dL_law_576 : decode cL_law 576 = .ok (.iconst 2, 1) := by decide +kernel
theorem dL_law_577 : decode cL_law 577 = .ok (.iadd, 1) := by decide +kernel
theorem dL_law_578 : decode cL_law 578 = .ok (.iaload, 1) := by decide +kernel
theorem dL_law_579 : decode cL_law 579 = .ok (.invokevirtual 81, 3) := by decide +kernel
theorem dL_law_582 : decode cL_law 582 = .ok (.aload_n 2, 1) := by decide +kernel
theorem dL_law_583 : decode cL_law 583 = .ok (.aload_n 0, 1) := by decide +kernel
theorem dL_law_584 : decode cL_law 584 = .ok (.iload_n 3, 1) := by decide +kernel
theorem dL_law_585 : decode cL_law 585 = .ok (.iconst 1, 1) := by decide +kernel
theorem dL_law_586 : decode cL_law 586 = .ok (.iadd, 1) := by decide +kernel
theorem dL_law_587 : decode cL_law 587 = .ok (.iaload, 1) := by decide +kernel
theorem dL_law_588 : decode cL_law 588 = .ok (.aload_n 0, 1) := by decide +kernel
theorem dL_law_589 : decode cL_law 589 = .ok (.iload_n 3, 1) := by decide +kernel
theorem dL_law_590 : decode cL_law 590 = .ok (.iconst 2, 1) := by decide +kernel
theorem dL_law_591 : decode cL_law 591 = .ok (.iadd, 1) := by decide +kernel
theorem dL_law_592 : decode cL_law 592 = .ok (.iaload, 1) := by decide +kernel
theorem dL_law_593 : decode cL_law 593 = .ok (.invokevirtual 84, 3) := by decide +kernel
theorem dL_law_596 : decode cL_law 596 = .ok (.if_icmp .eq 38, 3) := by decide +kernel
theorem dL_law_599 : decode cL_law 599 = .ok (.iconst 0, 1) := by decide +kernel
theorem dL_law_600 : decode cL_law 600 = .ok (.ireturn, 1) := by decide +kernel
theorem dL_law_601 : decode cL_law 601 = .ok (.aload_n 1, 1) := by decide +kernel
theorem dL_law_602 : decode cL_law 602 = .ok (.aload_n 0, 1) := by decide +kernel
theorem dL_law_603 : decode cL_law 603 = .ok (.iload_n 3, 1) := by decide +kernel
theorem dL_law_604 : decode cL_law 604 = .ok (.iconst 1, 1) := by decide +kernel
theorem dL_law_605 : decode cL_law 605 = .ok (.iadd, 1) := by decide +kernel
theorem dL_law_606 : decode cL_law 606 = .ok (.iaload, 1) := by decide +kernel
theorem dL_law_607 : decode cL_law 607 = .ok (.aload_n 0, 1) := by decide +kernel
theorem dL_law_608 : decode cL_law 608 = .ok (.iload_n 3, 1) := by decide +kernel
theorem dL_law_609 : decode cL_law 609 = .ok (.iconst 2, 1) := by decide +kernel
theorem dL_law_610 : decode cL_law 610 = .ok (.iadd, 1) := by decide +kernel
theorem dL_law_611 : decode cL_law 611 = .ok (.iaload, 1) := by decide +kernel
theorem dL_law_612 : decode cL_law 612 = .ok (.invokevirtual 85, 3) := by decide +kernel
theorem dL_law_615 : decode cL_law 615 = .ok (.aload_n 2, 1) := by decide +kernel
theorem dL_law_616 : decode cL_law 616 = .ok (.aload_n 0, 1) := by decide +kernel
theorem dL_law_617 : decode cL_law 617 = .ok (.iload_n 3, 1) := by decide +kernel
theorem dL_law_618 : decode cL_law 618 = .ok (.iconst 1, 1) := by decide +kernel
theorem dL_law_619 : decode cL_law 619 = .ok (.iadd, 1) := by decide +kernel
theorem dL_law_620 : decode cL_law 620 = .ok (.iaload, 1) := by decide +kernel
theorem dL_law_621 : decode cL_law 621 = .ok (.aload_n 0, 1) := by decide +kernel
theorem dL_law_622 : decode cL_law 622 = .ok (.iload_n 3, 1) := by decide +kernel
theorem dL_law_623 : decode cL_law 623 = .ok (.iconst 2, 1) := by decide +kernel
theorem dL_law_624 : decode cL_law 624 = .ok (.iadd, 1) := by decide +kernel
theorem dL_law_625 : decode cL_law 625 = .ok (.iaload, 1) := by decide +kernel
theorem dL_law_626 : decode cL_law 626 = .ok (.invokevirtual 88, 3) := by decide +kernel
theorem dL_law_629 : decode cL_law 629 = .ok (.if_icmp .eq 5, 3) := by decide +kernel
theorem dL_law_632 : decode cL_law 632 = .ok (.iconst 0, 1) := by decide +kernel
theorem dL_law_633 : decode cL_law 633 = .ok (.ireturn, 1) := by decide +kernel
theorem dL_law_634 : decode cL_law 634 = .ok (.iinc 3 4, 3) := by decide +kernel
theorem dL_law_637 : decode cL_law 637 = .ok (.goto (-619), 3) := by decide +kernel
theorem dL_law_640 : decode cL_law 640 = .ok (.iconst 1, 1) := by decide +kernel
theorem dL_law_641 : decode cL_law 641 = .ok (.ireturn, 1) := by decide +kernel
end
section
/-! THE LAW'S ROWS: the two objects side by side, calls of either, the script -/
/-- the cells that the law may change: the new ones -/
abbrev lwA (s : State) : Nat → Prop := fun q => s.heap.size ≤ q
def lwW (D : va_G) (a : Nat) (f : Nat → Nat) (a' : Nat) (f' : Nat → Nat) (ci cb : ClassId) (u : bkS) (v : mdS) : va_W := bkW (D, a, f, ci, cb) u ++ mdW (D, a', f', ci, cb) v
def lwE (p : Program) (s : State) (m : MethodId) (c : Code) (b L : Nat) (xs : Nat → Int32) (D : va_G) (ci cb : ClassId) : Prop := p.tables.exec = Jvm.exec ∧ c.code = cL_law ∧ c.maxLocals = 4 ∧ s.vm.findClass R_law = some m.cls ∧ (∀ w ∈ lw_all, w.before #[Value.ref b] s = true) ∧ va_K D vwCl [(ci, .int), (cb, .boolean)] s ∧ va_X b L xs s s.heap ∧ b < s.heap.size ∧ L ≤ 256
def lwG (D : va_G) (a : Nat) (f : Nat → Nat) (a' : Nat) (f' : Nat → Nat) (ci cb : ClassId) (s : State) (u : bkS) (v : mdS) (H : Heap) (locs : List Loc) : Prop := va_P D vwCl (lwW D a f a' f' ci cb u v) H ∧ va_D (lwA s) (lwW D a f a' f' ci cb u v) ∧ va_S (lwA s) s.heap H locs
/-- the script by its ints -/
def sx (xs : Nat → Int32) (j : Int) : Int := (xs j.toNat).toInt
section LWR
variable {p : Program} {l : Launch} {e : Env} {s : State} {m : MethodId} {below : List Frame} {meth : Method} {c : Code} {H : Heap} {locs : List Loc} {Q : State → Prop}
variable {b L : Nat} {xs : Nat → Int32} {D : va_G} {a : Nat} {f : Nat → Nat} {a' : Nat} {f' : Nat → Nat} {ci cb : ClassId} {u : bkS} {v : mdS} {pc : Nat} {ls : Array Slot} {rest st0 : List Value}
theorem lw_sld {cells slots : Nat} (E : lwE p s m c b L xs D ci cb) (hS : va_S (lwA s) s.heap H locs) {j : Int} (hj : 0 ≤ j ∧ j < L) (hdg : decode cL_law pc = .ok (.iaload, 1)) (kk : W p l e room_1 s m #[Value.ref b] below meth c H locs cells slots Q (F0 m (pc + 1) ls (.int (zi (sx xs j)) :: rest))) : W p l e room_1 s m #[Value.ref b] below meth c H locs cells slots Q (F0 m pc ls (.int (zi j) :: .ref b :: rest)) := by
  obtain ⟨hx, hb, hml, hown, hts, hK, hX, hbl, hL⟩ := E
  refine va_sld hx hb hX hbl (Nat.not_le.mpr hbl) hS (zi_in hj (by omega)) hdg ?_
  rw [zi_clamp (by omega), show xs j.toNat = zi (sx xs j) from (zi_self _).symm]
  exact kk
theorem lw_slen {cells slots : Nat} (E : lwE p s m c b L xs D ci cb) (hS : va_S (lwA s) s.heap H locs) (hdg : decode cL_law pc = .ok (.arraylength, 1)) (kk : W p l e room_1 s m #[Value.ref b] below meth c H locs cells slots Q (F0 m (pc + 1) ls (.int (zi (L : Int)) :: rest))) : W p l e room_1 s m #[Value.ref b] below meth c H locs cells slots Q (F0 m pc ls (.ref b :: rest)) := by
  obtain ⟨hx, hb, hml, hown, hts, hK, hX, hbl, hL⟩ := E
  refine va_slen hx hb hX hbl (Nat.not_le.mpr hbl) hS hdg ?_
  rw [zi_nat] at kk
  exact kk
set_option maxHeartbeats 4000000 in
set_option maxRecDepth 100000 in
theorem lw_callB {y : MethodName} {bytes : ByteArray} {maxL n index : Nat} {rm : Room} {as : List Value} {post : Int → bkS → Prop} (E : lwE p s m c b L xs D ci cb) (w : lwG D a f a' f' ci cb s u v H locs) (hM : bkM l y bytes maxL .int rm (D, a, f, ci, cb) u as post) (h1 : Cond.methodLink R_law index y ∈ lw_all) (h2 : Cond.instanceMethod y ∈ lw_all) (h3 : Cond.selects RX0 y y ∈ lw_all) (h5 : Cond.code y bytes maxL (some .int) ∈ lw_all) (hrc : rm.cells = 0) (hrs : rm.slots = 0) (hd : y.cls = RX0 ∧ y.cls ≠ "java/lang/invoke/MethodHandle" ∧ y.cls ≠ "java/lang/invoke/VarHandle" ∧ (parseMethodDescriptor y.desc).map (fun d => d.parameters.length) = some n) (hR : rm.frames + 1 ≤ room_1.frames ∧ 8 + (maxL + 11) + rm.locals ≤ room_1.locals) (hn : as.length = n) (hls : ls.size = 4) (hst : st0 = as.reverse ++ .ref a :: rest) (hW : (rest.map fun v => v.category).sum ≤ 8) (hdg : decode cL_law pc = .ok (.invokevirtual index, 3)) (kk : ∀ (k : Int) (u' : bkS) (H1 : Heap) (locs1 : List Loc), post k u' → lwG D a f a' f' ci cb s u' v H1 locs1 → W p l e room_1 s m #[Value.ref b] below meth c H1 locs1 17 2169 Q (F0 m (pc + 3) ls (.int (zi k) :: rest))) : W p l e room_1 s m #[Value.ref b] below meth c H locs 17 2169 Q (F0 m pc ls st0) := by
  obtain ⟨hx, hb, hml, hown, hts, hK, hX, hbl, hL⟩ := E
  obtain ⟨hP, hD, hS⟩ := w
  have hA : ∀ q, s.heap.size ≤ q → lwA s q := fun _ h => h
  have hPc := hP.sub (ws' := bkW (D, a, f, ci, cb) u) [0, 1, 2, 3, 4, 5, 6, 7, 8, 9] rfl
  have hDc := hD.sub (ws' := bkW (D, a, f, ci, cb) u) [0, 1, 2, 3, 4, 5, 6, 7, 8, 9] (by decide) rfl
  have hFc : ∀ q, va_A (bkW (D, a, f, ci, cb) u) H.size q → lwA s q := va_free (wc := bkW (D, a, f, ci, cb) u) hD hS hA [0, 1, 2, 3, 4, 5, 6, 7, 8, 9] rfl
  refine va_calli (va_runV (As := as) (rest := rest) ⟨hx, hb, hml, hown, hts⟩ (hM H.size) (cwV n hts (lw_V h1 h2 h3 q20 h5) rfl hrc hrs hd hR) ⟨fun a U g mk q => by obtain ⟨q0, q1, qP, qK, qD⟩ := q; exact ⟨q0, q1, qP, va_K.moved (u := U) (U := U.calling g mk a) (Vm.Alike.refl U.vm) qK, qD⟩, va_recv hK hPc (ci := 0) (q0 := 0) rfl rfl, fun U hU hW => ⟨rfl, by rw [hU], by rw [hU]; exact hPc, va_K.moved hW.alike hK, hDc.weaken (fun _ _ _ _ => trivial)⟩⟩ rfl hn hls hst (lv_room hW) hdg ⟨Nat.le_of_ble_eq_true rfl, Nat.le_of_ble_eq_true rfl⟩) hS (fun q _ h => hFc q h) hFc (fun r u' t H1 locs1 ht hvm hw hB hz1 hk1 hS => ?_)
  obtain ⟨k, rfl, hw⟩ := hw
  obtain ⟨hP1, hK1, hD1⟩ := hB
  rw [ht] at hP1
  obtain ⟨hP2, hD2⟩ := va_join (wr := mdW (D, a', f', ci, cb) v) (w1 := bkW (D, a, f, ci, cb) u') hP hD [0, 1, 2, 3, 4, 5, 6, 7, 8, 9] [10, 11, 12, 13, 14, 15, 16] rfl rfl (by decide) (by decide) hk1 hFc hP1 hD1
  exact kk k u' H1 locs1 hw ⟨hP2.sub [7, 8, 9, 10, 11, 12, 13, 14, 15, 16, 0, 1, 2, 3, 4, 5, 6] rfl, hD2.sub [7, 8, 9, 10, 11, 12, 13, 14, 15, 16, 0, 1, 2, 3, 4, 5, 6] (by decide) rfl, hS⟩
set_option maxHeartbeats 4000000 in
set_option maxRecDepth 100000 in
theorem lw_callM {y : MethodName} {bytes : ByteArray} {maxL n index : Nat} {rm : Room} {as : List Value} {post : Int → mdS → Prop} (E : lwE p s m c b L xs D ci cb) (w : lwG D a f a' f' ci cb s u v H locs) (hM : mdM l y bytes maxL .int rm (D, a', f', ci, cb) v as post) (h1 : Cond.methodLink R_law index y ∈ lw_all) (h2 : Cond.instanceMethod y ∈ lw_all) (h3 : Cond.selects RX1 y y ∈ lw_all) (h5 : Cond.code y bytes maxL (some .int) ∈ lw_all) (hrc : rm.cells = 0) (hrs : rm.slots = 0) (hd : y.cls = RX1 ∧ y.cls ≠ "java/lang/invoke/MethodHandle" ∧ y.cls ≠ "java/lang/invoke/VarHandle" ∧ (parseMethodDescriptor y.desc).map (fun d => d.parameters.length) = some n) (hR : rm.frames + 1 ≤ room_1.frames ∧ 8 + (maxL + 11) + rm.locals ≤ room_1.locals) (hn : as.length = n) (hls : ls.size = 4) (hst : st0 = as.reverse ++ .ref a' :: rest) (hW : (rest.map fun v => v.category).sum ≤ 8) (hdg : decode cL_law pc = .ok (.invokevirtual index, 3)) (kk : ∀ (k : Int) (v' : mdS) (H1 : Heap) (locs1 : List Loc), post k v' → lwG D a f a' f' ci cb s u v' H1 locs1 → W p l e room_1 s m #[Value.ref b] below meth c H1 locs1 17 2169 Q (F0 m (pc + 3) ls (.int (zi k) :: rest))) : W p l e room_1 s m #[Value.ref b] below meth c H locs 17 2169 Q (F0 m pc ls st0) := by
  obtain ⟨hx, hb, hml, hown, hts, hK, hX, hbl, hL⟩ := E
  obtain ⟨hP, hD, hS⟩ := w
  have hA : ∀ q, s.heap.size ≤ q → lwA s q := fun _ h => h
  have hPc := hP.sub (ws' := mdW (D, a', f', ci, cb) v) [10, 11, 12, 13, 14, 15, 16] rfl
  have hDc := hD.sub (ws' := mdW (D, a', f', ci, cb) v) [10, 11, 12, 13, 14, 15, 16] (by decide) rfl
  have hFc : ∀ q, va_A (mdW (D, a', f', ci, cb) v) H.size q → lwA s q := va_free (wc := mdW (D, a', f', ci, cb) v) hD hS hA [10, 11, 12, 13, 14, 15, 16] rfl
  refine va_calli (va_runV (As := as) (rest := rest) ⟨hx, hb, hml, hown, hts⟩ (hM H.size) (cwV n hts (lw_V h1 h2 h3 q21 h5) rfl hrc hrs hd hR) ⟨fun a U g mk q => by obtain ⟨q0, q1, qP, qK, qD⟩ := q; exact ⟨q0, q1, qP, va_K.moved (u := U) (U := U.calling g mk a) (Vm.Alike.refl U.vm) qK, qD⟩, va_recv hK hPc (ci := 1) (q0 := 0) rfl rfl, fun U hU hW => ⟨rfl, by rw [hU], by rw [hU]; exact hPc, va_K.moved hW.alike hK, hDc.weaken (fun _ _ _ _ => trivial)⟩⟩ rfl hn hls hst (lv_room hW) hdg ⟨Nat.le_of_ble_eq_true rfl, Nat.le_of_ble_eq_true rfl⟩) hS (fun q _ h => hFc q h) hFc (fun r v' t H1 locs1 ht hvm hw hB hz1 hk1 hS => ?_)
  obtain ⟨k, rfl, hw⟩ := hw
  obtain ⟨hP1, hK1, hD1⟩ := hB
  rw [ht] at hP1
  obtain ⟨hP2, hD2⟩ := va_join (wr := bkW (D, a, f, ci, cb) u) (w1 := mdW (D, a', f', ci, cb) v') hP hD [10, 11, 12, 13, 14, 15, 16] [0, 1, 2, 3, 4, 5, 6, 7, 8, 9] rfl rfl (by decide) (by decide) hk1 hFc hP1 hD1
  exact kk k v' H1 locs1 hw ⟨hP2.sub [0, 1, 2, 3, 4, 5, 6, 7, 8, 9, 10, 11, 12, 13, 14, 15, 16] rfl, hD2.sub [0, 1, 2, 3, 4, 5, 6, 7, 8, 9, 10, 11, 12, 13, 14, 15, 16] (by decide) rfl, hS⟩
end LWR
end
section
/-! THE LAW'S CASES 0 .. 5 -/
section LWC
variable {p : Program} {l : Launch} {e : Env} {s : State} {m : MethodId} {below : List Frame} {meth : Method} {c : Code} {H : Heap} {locs : List Loc} {Q : State → Prop}
variable {b L : Nat} {xs : Nat → Int32} {D : va_G} {a : Nat} {f : Nat → Nat} {a' : Nat} {f' : Nat → Nat} {ci cb : ClassId} {u : bkS} {v : mdS} {pc : Nat} {ls : Array Slot} {rest st0 : List Value}
set_option maxHeartbeats 4000000 in
set_option maxRecDepth 100000 in
theorem lc_post (E : lwE p s m c b L xs D ci cb) (h : RI u v) (w : lwG D a f a' f' ci cb s u v H locs) {i : Int} (hi : 0 ≤ i ∧ i + 4 ≤ L) (hl : lv_has ls 4 [(0, .ref b), (1, .ref a), (2, .ref a'), (3, .int (zi i))]) (kk : ∀ (u' : bkS) (v' : mdS) (H : Heap) (locs : List Loc), RI u' v' → lwG D a f a' f' ci cb s u' v' H locs → W p l e room_1 s m #[Value.ref b] below meth c H locs 17 2169 Q (F0 m 634 ls [])) : W p l e room_1 s m #[Value.ref b] below meth c H locs 17 2169 Q (F0 m 120 ls []) := by
  have hx := E.1
  have hb := E.2.1
  obtain ⟨post, post', hM, hM', hpp⟩ := op_post l h (sx xs (i + 1)) (sx xs (i + 2)) (sx xs (i + 3)) (zi_rg _) (zi_rg _) (zi_rg _) (D, a, f, ci, cb) (D, a', f', ci, cb)
  refine lv_aload_n hx hb dL_law_120 rfl (lv_at hl 1 rfl) ?_
  refine lv_aload_n hx hb dL_law_121 rfl (lv_at hl 0 rfl) ?_
  refine lv_iload_n hx hb dL_law_122 rfl (lv_at hl 3 rfl) ?_
  refine zr_iconst hx hb dL_law_123 ?_
  refine zr_iadd hx hb dL_law_124 ?_
  refine lw_sld E w.2.2 (by omega) dL_law_125 ?_
  refine lv_aload_n hx hb dL_law_126 rfl (lv_at hl 0 rfl) ?_
  refine lv_iload_n hx hb dL_law_127 rfl (lv_at hl 3 rfl) ?_
  refine zr_iconst hx hb dL_law_128 ?_
  refine zr_iadd hx hb dL_law_129 ?_
  refine lw_sld E w.2.2 (by omega) dL_law_130 ?_
  refine lv_aload_n hx hb dL_law_131 rfl (lv_at hl 0 rfl) ?_
  refine lv_iload_n hx hb dL_law_132 rfl (lv_at hl 3 rfl) ?_
  refine zr_iconst hx hb dL_law_133 ?_
  refine zr_iadd hx hb dL_law_134 ?_
  refine lw_sld E w.2.2 (by omega) dL_law_135 ?_
  refine lw_callB (as := [.int (zi (sx xs (i + 1))), .int (zi (sx xs (i + 2))), .int (zi (sx xs (i + 3)))]) (rest := []) (n := 3) E w hM q81 q82 q83 q84 rfl rfl (by decide +kernel) ⟨Nat.le_of_ble_eq_true rfl, Nat.le_of_ble_eq_true rfl⟩ rfl hl.1 rfl (Nat.le_of_ble_eq_true rfl) dL_law_136 (fun k u' H locs hk w => ?_)
  refine lv_aload_n hx hb dL_law_139 rfl (lv_at hl 2 rfl) ?_
  refine lv_aload_n hx hb dL_law_140 rfl (lv_at hl 0 rfl) ?_
  refine lv_iload_n hx hb dL_law_141 rfl (lv_at hl 3 rfl) ?_
  refine zr_iconst hx hb dL_law_142 ?_
  refine zr_iadd hx hb dL_law_143 ?_
  refine lw_sld E w.2.2 (by omega) dL_law_144 ?_
  refine lv_aload_n hx hb dL_law_145 rfl (lv_at hl 0 rfl) ?_
  refine lv_iload_n hx hb dL_law_146 rfl (lv_at hl 3 rfl) ?_
  refine zr_iconst hx hb dL_law_147 ?_
  refine zr_iadd hx hb dL_law_148 ?_
  refine lw_sld E w.2.2 (by omega) dL_law_149 ?_
  refine lv_aload_n hx hb dL_law_150 rfl (lv_at hl 0 rfl) ?_
  refine lv_iload_n hx hb dL_law_151 rfl (lv_at hl 3 rfl) ?_
  refine zr_iconst hx hb dL_law_152 ?_
  refine zr_iadd hx hb dL_law_153 ?_
  refine lw_sld E w.2.2 (by omega) dL_law_154 ?_
  refine lw_callM (as := [.int (zi (sx xs (i + 1))), .int (zi (sx xs (i + 2))), .int (zi (sx xs (i + 3)))]) (rest := [.int (zi k)]) (n := 3) E w hM' q244 q245 q246 q247 rfl rfl (by decide +kernel) ⟨Nat.le_of_ble_eq_true rfl, Nat.le_of_ble_eq_true rfl⟩ rfl hl.1 rfl (Nat.le_of_ble_eq_true rfl) dL_law_155 (fun k' v' H locs hk' w => ?_)
  refine lv_icmp_eq (tgt := 634) hx hb dL_law_158 (by decide) (fun _ => ?_) (fun q => absurd (by rw [(hpp k u' k' v' hk hk').1]) q)
  exact kk u' v' H locs (hpp k u' k' v' hk hk').2 w
set_option maxHeartbeats 4000000 in
set_option maxRecDepth 100000 in
theorem lc_transfer (E : lwE p s m c b L xs D ci cb) (h : RI u v) (w : lwG D a f a' f' ci cb s u v H locs) {i : Int} (hi : 0 ≤ i ∧ i + 4 ≤ L) (hl : lv_has ls 4 [(0, .ref b), (1, .ref a), (2, .ref a'), (3, .int (zi i))]) (kk : ∀ (u' : bkS) (v' : mdS) (H : Heap) (locs : List Loc), RI u' v' → lwG D a f a' f' ci cb s u' v' H locs → W p l e room_1 s m #[Value.ref b] below meth c H locs 17 2169 Q (F0 m 634 ls [])) : W p l e room_1 s m #[Value.ref b] below meth c H locs 17 2169 Q (F0 m 163 ls []) := by
  have hx := E.1
  have hb := E.2.1
  obtain ⟨post, post', hM, hM', hpp⟩ := op_transfer l h (sx xs (i + 1)) (sx xs (i + 2)) (sx xs (i + 3)) (zi_rg _) (zi_rg _) (zi_rg _) (D, a, f, ci, cb) (D, a', f', ci, cb)
  refine lv_aload_n hx hb dL_law_163 rfl (lv_at hl 1 rfl) ?_
  refine lv_aload_n hx hb dL_law_164 rfl (lv_at hl 0 rfl) ?_
  refine lv_iload_n hx hb dL_law_165 rfl (lv_at hl 3 rfl) ?_
  refine zr_iconst hx hb dL_law_166 ?_
  refine zr_iadd hx hb dL_law_167 ?_
  refine lw_sld E w.2.2 (by omega) dL_law_168 ?_
  refine lv_aload_n hx hb dL_law_169 rfl (lv_at hl 0 rfl) ?_
  refine lv_iload_n hx hb dL_law_170 rfl (lv_at hl 3 rfl) ?_
  refine zr_iconst hx hb dL_law_171 ?_
  refine zr_iadd hx hb dL_law_172 ?_
  refine lw_sld E w.2.2 (by omega) dL_law_173 ?_
  refine lv_aload_n hx hb dL_law_174 rfl (lv_at hl 0 rfl) ?_
  refine lv_iload_n hx hb dL_law_175 rfl (lv_at hl 3 rfl) ?_
  refine zr_iconst hx hb dL_law_176 ?_
  refine zr_iadd hx hb dL_law_177 ?_
  refine lw_sld E w.2.2 (by omega) dL_law_178 ?_
  refine lw_callB (as := [.int (zi (sx xs (i + 1))), .int (zi (sx xs (i + 2))), .int (zi (sx xs (i + 3)))]) (rest := []) (n := 3) E w hM q115 q116 q117 q118 rfl rfl (by decide +kernel) ⟨Nat.le_of_ble_eq_true rfl, Nat.le_of_ble_eq_true rfl⟩ rfl hl.1 rfl (Nat.le_of_ble_eq_true rfl) dL_law_179 (fun k u' H locs hk w => ?_)
  refine lv_aload_n hx hb dL_law_182 rfl (lv_at hl 2 rfl) ?_
  refine lv_aload_n hx hb dL_law_183 rfl (lv_at hl 0 rfl) ?_
  refine lv_iload_n hx hb dL_law_184 rfl (lv_at hl 3 rfl) ?_
  refine zr_iconst hx hb dL_law_185 ?_
  refine zr_iadd hx hb dL_law_186 ?_
  refine lw_sld E w.2.2 (by omega) dL_law_187 ?_
  refine lv_aload_n hx hb dL_law_188 rfl (lv_at hl 0 rfl) ?_
  refine lv_iload_n hx hb dL_law_189 rfl (lv_at hl 3 rfl) ?_
  refine zr_iconst hx hb dL_law_190 ?_
  refine zr_iadd hx hb dL_law_191 ?_
  refine lw_sld E w.2.2 (by omega) dL_law_192 ?_
  refine lv_aload_n hx hb dL_law_193 rfl (lv_at hl 0 rfl) ?_
  refine lv_iload_n hx hb dL_law_194 rfl (lv_at hl 3 rfl) ?_
  refine zr_iconst hx hb dL_law_195 ?_
  refine zr_iadd hx hb dL_law_196 ?_
  refine lw_sld E w.2.2 (by omega) dL_law_197 ?_
  refine lw_callM (as := [.int (zi (sx xs (i + 1))), .int (zi (sx xs (i + 2))), .int (zi (sx xs (i + 3)))]) (rest := [.int (zi k)]) (n := 3) E w hM' q272 q273 q274 q275 rfl rfl (by decide +kernel) ⟨Nat.le_of_ble_eq_true rfl, Nat.le_of_ble_eq_true rfl⟩ rfl hl.1 rfl (Nat.le_of_ble_eq_true rfl) dL_law_198 (fun k' v' H locs hk' w => ?_)
  refine lv_icmp_eq (tgt := 634) hx hb dL_law_201 (by decide) (fun _ => ?_) (fun q => absurd (by rw [(hpp k u' k' v' hk hk').1]) q)
  exact kk u' v' H locs (hpp k u' k' v' hk hk').2 w
set_option maxHeartbeats 4000000 in
set_option maxRecDepth 100000 in
theorem lc_cancel (E : lwE p s m c b L xs D ci cb) (h : RI u v) (w : lwG D a f a' f' ci cb s u v H locs) {i : Int} (hi : 0 ≤ i ∧ i + 4 ≤ L) (hl : lv_has ls 4 [(0, .ref b), (1, .ref a), (2, .ref a'), (3, .int (zi i))]) (kk : ∀ (u' : bkS) (v' : mdS) (H : Heap) (locs : List Loc), RI u' v' → lwG D a f a' f' ci cb s u' v' H locs → W p l e room_1 s m #[Value.ref b] below meth c H locs 17 2169 Q (F0 m 634 ls [])) : W p l e room_1 s m #[Value.ref b] below meth c H locs 17 2169 Q (F0 m 206 ls []) := by
  have hx := E.1
  have hb := E.2.1
  obtain ⟨post, post', hM, hM', hpp⟩ := op_cancel l h (sx xs (i + 1)) (zi_rg _) (D, a, f, ci, cb) (D, a', f', ci, cb)
  refine lv_aload_n hx hb dL_law_206 rfl (lv_at hl 1 rfl) ?_
  refine lv_aload_n hx hb dL_law_207 rfl (lv_at hl 0 rfl) ?_
  refine lv_iload_n hx hb dL_law_208 rfl (lv_at hl 3 rfl) ?_
  refine zr_iconst hx hb dL_law_209 ?_
  refine zr_iadd hx hb dL_law_210 ?_
  refine lw_sld E w.2.2 (by omega) dL_law_211 ?_
  refine lw_callB (as := [.int (zi (sx xs (i + 1)))]) (rest := []) (n := 1) E w hM q119 q120 q121 q122 rfl rfl (by decide +kernel) ⟨Nat.le_of_ble_eq_true rfl, Nat.le_of_ble_eq_true rfl⟩ rfl hl.1 rfl (Nat.le_of_ble_eq_true rfl) dL_law_212 (fun k u' H locs hk w => ?_)
  refine lv_aload_n hx hb dL_law_215 rfl (lv_at hl 2 rfl) ?_
  refine lv_aload_n hx hb dL_law_216 rfl (lv_at hl 0 rfl) ?_
  refine lv_iload_n hx hb dL_law_217 rfl (lv_at hl 3 rfl) ?_
  refine zr_iconst hx hb dL_law_218 ?_
  refine zr_iadd hx hb dL_law_219 ?_
  refine lw_sld E w.2.2 (by omega) dL_law_220 ?_
  refine lw_callM (as := [.int (zi (sx xs (i + 1)))]) (rest := [.int (zi k)]) (n := 1) E w hM' q276 q277 q278 q279 rfl rfl (by decide +kernel) ⟨Nat.le_of_ble_eq_true rfl, Nat.le_of_ble_eq_true rfl⟩ rfl hl.1 rfl (Nat.le_of_ble_eq_true rfl) dL_law_221 (fun k' v' H locs hk' w => ?_)
  refine lv_icmp_eq (tgt := 634) hx hb dL_law_224 (by decide) (fun _ => ?_) (fun q => absurd (by rw [(hpp k u' k' v' hk hk').1]) q)
  exact kk u' v' H locs (hpp k u' k' v' hk hk').2 w
set_option maxHeartbeats 4000000 in
set_option maxRecDepth 100000 in
theorem lc_floor (E : lwE p s m c b L xs D ci cb) (h : RI u v) (w : lwG D a f a' f' ci cb s u v H locs) {i : Int} (hi : 0 ≤ i ∧ i + 4 ≤ L) (hl : lv_has ls 4 [(0, .ref b), (1, .ref a), (2, .ref a'), (3, .int (zi i))]) (kk : ∀ (u' : bkS) (v' : mdS) (H : Heap) (locs : List Loc), RI u' v' → lwG D a f a' f' ci cb s u' v' H locs → W p l e room_1 s m #[Value.ref b] below meth c H locs 17 2169 Q (F0 m 634 ls [])) : W p l e room_1 s m #[Value.ref b] below meth c H locs 17 2169 Q (F0 m 229 ls []) := by
  have hx := E.1
  have hb := E.2.1
  obtain ⟨post, post', hM, hM', hpp⟩ := op_floor l h (sx xs (i + 1)) (sx xs (i + 2)) (zi_rg _) (zi_rg _) (D, a, f, ci, cb) (D, a', f', ci, cb)
  refine lv_aload_n hx hb dL_law_229 rfl (lv_at hl 1 rfl) ?_
  refine lv_aload_n hx hb dL_law_230 rfl (lv_at hl 0 rfl) ?_
  refine lv_iload_n hx hb dL_law_231 rfl (lv_at hl 3 rfl) ?_
  refine zr_iconst hx hb dL_law_232 ?_
  refine zr_iadd hx hb dL_law_233 ?_
  refine lw_sld E w.2.2 (by omega) dL_law_234 ?_
  refine lv_aload_n hx hb dL_law_235 rfl (lv_at hl 0 rfl) ?_
  refine lv_iload_n hx hb dL_law_236 rfl (lv_at hl 3 rfl) ?_
  refine zr_iconst hx hb dL_law_237 ?_
  refine zr_iadd hx hb dL_law_238 ?_
  refine lw_sld E w.2.2 (by omega) dL_law_239 ?_
  refine lw_callB (as := [.int (zi (sx xs (i + 1))), .int (zi (sx xs (i + 2)))]) (rest := []) (n := 2) E w hM q127 q128 q129 q130 rfl rfl (by decide +kernel) ⟨Nat.le_of_ble_eq_true rfl, Nat.le_of_ble_eq_true rfl⟩ rfl hl.1 rfl (Nat.le_of_ble_eq_true rfl) dL_law_240 (fun k u' H locs hk w => ?_)
  refine lv_aload_n hx hb dL_law_243 rfl (lv_at hl 2 rfl) ?_
  refine lv_aload_n hx hb dL_law_244 rfl (lv_at hl 0 rfl) ?_
  refine lv_iload_n hx hb dL_law_245 rfl (lv_at hl 3 rfl) ?_
  refine zr_iconst hx hb dL_law_246 ?_
  refine zr_iadd hx hb dL_law_247 ?_
  refine lw_sld E w.2.2 (by omega) dL_law_248 ?_
  refine lv_aload_n hx hb dL_law_249 rfl (lv_at hl 0 rfl) ?_
  refine lv_iload_n hx hb dL_law_250 rfl (lv_at hl 3 rfl) ?_
  refine zr_iconst hx hb dL_law_251 ?_
  refine zr_iadd hx hb dL_law_252 ?_
  refine lw_sld E w.2.2 (by omega) dL_law_253 ?_
  refine lw_callM (as := [.int (zi (sx xs (i + 1))), .int (zi (sx xs (i + 2)))]) (rest := [.int (zi k)]) (n := 2) E w hM' q284 q285 q286 q287 rfl rfl (by decide +kernel) ⟨Nat.le_of_ble_eq_true rfl, Nat.le_of_ble_eq_true rfl⟩ rfl hl.1 rfl (Nat.le_of_ble_eq_true rfl) dL_law_254 (fun k' v' H locs hk' w => ?_)
  refine lv_icmp_eq (tgt := 634) hx hb dL_law_257 (by decide) (fun _ => ?_) (fun q => absurd (by rw [(hpp k u' k' v' hk hk').1]) q)
  exact kk u' v' H locs (hpp k u' k' v' hk hk').2 w
set_option maxHeartbeats 4000000 in
set_option maxRecDepth 100000 in
theorem lc_open (E : lwE p s m c b L xs D ci cb) (h : RI u v) (w : lwG D a f a' f' ci cb s u v H locs) {i : Int} (hi : 0 ≤ i ∧ i + 4 ≤ L) (hl : lv_has ls 4 [(0, .ref b), (1, .ref a), (2, .ref a'), (3, .int (zi i))]) (kk : ∀ (u' : bkS) (v' : mdS) (H : Heap) (locs : List Loc), RI u' v' → lwG D a f a' f' ci cb s u' v' H locs → W p l e room_1 s m #[Value.ref b] below meth c H locs 17 2169 Q (F0 m 634 ls [])) : W p l e room_1 s m #[Value.ref b] below meth c H locs 17 2169 Q (F0 m 262 ls []) := by
  have hx := E.1
  have hb := E.2.1
  obtain ⟨post, post', hM, hM', hpp⟩ := op_open l h (D, a, f, ci, cb) (D, a', f', ci, cb)
  refine lv_aload_n hx hb dL_law_262 rfl (lv_at hl 1 rfl) ?_
  refine lw_callB (as := []) (rest := []) (n := 0) E w hM q131 q132 q133 q134 rfl rfl (by decide +kernel) ⟨Nat.le_of_ble_eq_true rfl, Nat.le_of_ble_eq_true rfl⟩ rfl hl.1 rfl (Nat.le_of_ble_eq_true rfl) dL_law_263 (fun k u' H locs hk w => ?_)
  refine lv_aload_n hx hb dL_law_266 rfl (lv_at hl 2 rfl) ?_
  refine lw_callM (as := []) (rest := [.int (zi k)]) (n := 0) E w hM' q288 q289 q290 q291 rfl rfl (by decide +kernel) ⟨Nat.le_of_ble_eq_true rfl, Nat.le_of_ble_eq_true rfl⟩ rfl hl.1 rfl (Nat.le_of_ble_eq_true rfl) dL_law_267 (fun k' v' H locs hk' w => ?_)
  refine lv_icmp_eq (tgt := 634) hx hb dL_law_270 (by decide) (fun _ => ?_) (fun q => absurd (by rw [(hpp k u' k' v' hk hk').1]) q)
  exact kk u' v' H locs (hpp k u' k' v' hk hk').2 w
set_option maxHeartbeats 4000000 in
set_option maxRecDepth 100000 in
theorem lc_close (E : lwE p s m c b L xs D ci cb) (h : RI u v) (w : lwG D a f a' f' ci cb s u v H locs) {i : Int} (hi : 0 ≤ i ∧ i + 4 ≤ L) (hl : lv_has ls 4 [(0, .ref b), (1, .ref a), (2, .ref a'), (3, .int (zi i))]) (kk : ∀ (u' : bkS) (v' : mdS) (H : Heap) (locs : List Loc), RI u' v' → lwG D a f a' f' ci cb s u' v' H locs → W p l e room_1 s m #[Value.ref b] below meth c H locs 17 2169 Q (F0 m 634 ls [])) : W p l e room_1 s m #[Value.ref b] below meth c H locs 17 2169 Q (F0 m 275 ls []) := by
  have hx := E.1
  have hb := E.2.1
  obtain ⟨post, post', hM, hM', hpp⟩ := op_close l h (D, a, f, ci, cb) (D, a', f', ci, cb)
  refine lv_aload_n hx hb dL_law_275 rfl (lv_at hl 1 rfl) ?_
  refine lw_callB (as := []) (rest := []) (n := 0) E w hM q135 q136 q137 q138 rfl rfl (by decide +kernel) ⟨Nat.le_of_ble_eq_true rfl, Nat.le_of_ble_eq_true rfl⟩ rfl hl.1 rfl (Nat.le_of_ble_eq_true rfl) dL_law_276 (fun k u' H locs hk w => ?_)
  refine lv_aload_n hx hb dL_law_279 rfl (lv_at hl 2 rfl) ?_
  refine lw_callM (as := []) (rest := [.int (zi k)]) (n := 0) E w hM' q292 q293 q294 q295 rfl rfl (by decide +kernel) ⟨Nat.le_of_ble_eq_true rfl, Nat.le_of_ble_eq_true rfl⟩ rfl hl.1 rfl (Nat.le_of_ble_eq_true rfl) dL_law_280 (fun k' v' H locs hk' w => ?_)
  refine lv_icmp_eq (tgt := 634) hx hb dL_law_283 (by decide) (fun _ => ?_) (fun q => absurd (by rw [(hpp k u' k' v' hk hk').1]) q)
  exact kk u' v' H locs (hpp k u' k' v' hk hk').2 w
end LWC
end
section
/-! THE LAW'S CASES 6 .. 11 -/
section LWC
variable {p : Program} {l : Launch} {e : Env} {s : State} {m : MethodId} {below : List Frame} {meth : Method} {c : Code} {H : Heap} {locs : List Loc} {Q : State → Prop}
variable {b L : Nat} {xs : Nat → Int32} {D : va_G} {a : Nat} {f : Nat → Nat} {a' : Nat} {f' : Nat → Nat} {ci cb : ClassId} {u : bkS} {v : mdS} {pc : Nat} {ls : Array Slot} {rest st0 : List Value}
set_option maxHeartbeats 4000000 in
set_option maxRecDepth 100000 in
theorem lc_isOpen (E : lwE p s m c b L xs D ci cb) (h : RI u v) (w : lwG D a f a' f' ci cb s u v H locs) {i : Int} (hi : 0 ≤ i ∧ i + 4 ≤ L) (hl : lv_has ls 4 [(0, .ref b), (1, .ref a), (2, .ref a'), (3, .int (zi i))]) (kk : ∀ (u' : bkS) (v' : mdS) (H : Heap) (locs : List Loc), RI u' v' → lwG D a f a' f' ci cb s u' v' H locs → W p l e room_1 s m #[Value.ref b] below meth c H locs 17 2169 Q (F0 m 634 ls [])) : W p l e room_1 s m #[Value.ref b] below meth c H locs 17 2169 Q (F0 m 288 ls []) := by
  have hx := E.1
  have hb := E.2.1
  obtain ⟨post, post', hM, hM', hpp⟩ := op_isOpen l h (D, a, f, ci, cb) (D, a', f', ci, cb)
  refine lv_aload_n hx hb dL_law_288 rfl (lv_at hl 1 rfl) ?_
  refine lw_callB (as := []) (rest := []) (n := 0) E w hM q143 q144 q145 q146 rfl rfl (by decide +kernel) ⟨Nat.le_of_ble_eq_true rfl, Nat.le_of_ble_eq_true rfl⟩ rfl hl.1 rfl (Nat.le_of_ble_eq_true rfl) dL_law_289 (fun k u' H locs hk w => ?_)
  refine lv_aload_n hx hb dL_law_292 rfl (lv_at hl 2 rfl) ?_
  refine lw_callM (as := []) (rest := [.int (zi k)]) (n := 0) E w hM' q296 q297 q298 q299 rfl rfl (by decide +kernel) ⟨Nat.le_of_ble_eq_true rfl, Nat.le_of_ble_eq_true rfl⟩ rfl hl.1 rfl (Nat.le_of_ble_eq_true rfl) dL_law_293 (fun k' v' H locs hk' w => ?_)
  refine lv_icmp_eq (tgt := 634) hx hb dL_law_296 (by decide) (fun _ => ?_) (fun q => absurd (by rw [(hpp k u' k' v' hk hk').1]) q)
  exact kk u' v' H locs (hpp k u' k' v' hk hk').2 w
set_option maxHeartbeats 4000000 in
set_option maxRecDepth 100000 in
theorem lc_entries (E : lwE p s m c b L xs D ci cb) (h : RI u v) (w : lwG D a f a' f' ci cb s u v H locs) {i : Int} (hi : 0 ≤ i ∧ i + 4 ≤ L) (hl : lv_has ls 4 [(0, .ref b), (1, .ref a), (2, .ref a'), (3, .int (zi i))]) (kk : ∀ (u' : bkS) (v' : mdS) (H : Heap) (locs : List Loc), RI u' v' → lwG D a f a' f' ci cb s u' v' H locs → W p l e room_1 s m #[Value.ref b] below meth c H locs 17 2169 Q (F0 m 634 ls [])) : W p l e room_1 s m #[Value.ref b] below meth c H locs 17 2169 Q (F0 m 301 ls []) := by
  have hx := E.1
  have hb := E.2.1
  obtain ⟨post, post', hM, hM', hpp⟩ := op_entries l h (D, a, f, ci, cb) (D, a', f', ci, cb)
  refine lv_aload_n hx hb dL_law_301 rfl (lv_at hl 1 rfl) ?_
  refine lw_callB (as := []) (rest := []) (n := 0) E w hM q147 q148 q149 q150 rfl rfl (by decide +kernel) ⟨Nat.le_of_ble_eq_true rfl, Nat.le_of_ble_eq_true rfl⟩ rfl hl.1 rfl (Nat.le_of_ble_eq_true rfl) dL_law_302 (fun k u' H locs hk w => ?_)
  refine lv_aload_n hx hb dL_law_305 rfl (lv_at hl 2 rfl) ?_
  refine lw_callM (as := []) (rest := [.int (zi k)]) (n := 0) E w hM' q300 q301 q302 q303 rfl rfl (by decide +kernel) ⟨Nat.le_of_ble_eq_true rfl, Nat.le_of_ble_eq_true rfl⟩ rfl hl.1 rfl (Nat.le_of_ble_eq_true rfl) dL_law_306 (fun k' v' H locs hk' w => ?_)
  refine lv_icmp_eq (tgt := 634) hx hb dL_law_309 (by decide) (fun _ => ?_) (fun q => absurd (by rw [(hpp k u' k' v' hk hk').1]) q)
  exact kk u' v' H locs (hpp k u' k' v' hk hk').2 w
set_option maxHeartbeats 4000000 in
set_option maxRecDepth 100000 in
theorem lc_cancelled (E : lwE p s m c b L xs D ci cb) (h : RI u v) (w : lwG D a f a' f' ci cb s u v H locs) {i : Int} (hi : 0 ≤ i ∧ i + 4 ≤ L) (hl : lv_has ls 4 [(0, .ref b), (1, .ref a), (2, .ref a'), (3, .int (zi i))]) (kk : ∀ (u' : bkS) (v' : mdS) (H : Heap) (locs : List Loc), RI u' v' → lwG D a f a' f' ci cb s u' v' H locs → W p l e room_1 s m #[Value.ref b] below meth c H locs 17 2169 Q (F0 m 634 ls [])) : W p l e room_1 s m #[Value.ref b] below meth c H locs 17 2169 Q (F0 m 314 ls []) := by
  have hx := E.1
  have hb := E.2.1
  obtain ⟨post, post', hM, hM', hpp⟩ := op_cancelled l h (sx xs (i + 1)) (zi_rg _) (D, a, f, ci, cb) (D, a', f', ci, cb)
  refine lv_aload_n hx hb dL_law_314 rfl (lv_at hl 1 rfl) ?_
  refine lv_aload_n hx hb dL_law_315 rfl (lv_at hl 0 rfl) ?_
  refine lv_iload_n hx hb dL_law_316 rfl (lv_at hl 3 rfl) ?_
  refine zr_iconst hx hb dL_law_317 ?_
  refine zr_iadd hx hb dL_law_318 ?_
  refine lw_sld E w.2.2 (by omega) dL_law_319 ?_
  refine lw_callB (as := [.int (zi (sx xs (i + 1)))]) (rest := []) (n := 1) E w hM q151 q152 q153 q154 rfl rfl (by decide +kernel) ⟨Nat.le_of_ble_eq_true rfl, Nat.le_of_ble_eq_true rfl⟩ rfl hl.1 rfl (Nat.le_of_ble_eq_true rfl) dL_law_320 (fun k u' H locs hk w => ?_)
  refine lv_aload_n hx hb dL_law_323 rfl (lv_at hl 2 rfl) ?_
  refine lv_aload_n hx hb dL_law_324 rfl (lv_at hl 0 rfl) ?_
  refine lv_iload_n hx hb dL_law_325 rfl (lv_at hl 3 rfl) ?_
  refine zr_iconst hx hb dL_law_326 ?_
  refine zr_iadd hx hb dL_law_327 ?_
  refine lw_sld E w.2.2 (by omega) dL_law_328 ?_
  refine lw_callM (as := [.int (zi (sx xs (i + 1)))]) (rest := [.int (zi k)]) (n := 1) E w hM' q304 q305 q306 q307 rfl rfl (by decide +kernel) ⟨Nat.le_of_ble_eq_true rfl, Nat.le_of_ble_eq_true rfl⟩ rfl hl.1 rfl (Nat.le_of_ble_eq_true rfl) dL_law_329 (fun k' v' H locs hk' w => ?_)
  refine lv_icmp_eq (tgt := 634) hx hb dL_law_332 (by decide) (fun _ => ?_) (fun q => absurd (by rw [(hpp k u' k' v' hk hk').1]) q)
  exact kk u' v' H locs (hpp k u' k' v' hk hk').2 w
set_option maxHeartbeats 4000000 in
set_option maxRecDepth 100000 in
theorem lc_amountOf (E : lwE p s m c b L xs D ci cb) (h : RI u v) (w : lwG D a f a' f' ci cb s u v H locs) {i : Int} (hi : 0 ≤ i ∧ i + 4 ≤ L) (hl : lv_has ls 4 [(0, .ref b), (1, .ref a), (2, .ref a'), (3, .int (zi i))]) (kk : ∀ (u' : bkS) (v' : mdS) (H : Heap) (locs : List Loc), RI u' v' → lwG D a f a' f' ci cb s u' v' H locs → W p l e room_1 s m #[Value.ref b] below meth c H locs 17 2169 Q (F0 m 634 ls [])) : W p l e room_1 s m #[Value.ref b] below meth c H locs 17 2169 Q (F0 m 337 ls []) := by
  have hx := E.1
  have hb := E.2.1
  obtain ⟨post, post', hM, hM', hpp⟩ := op_amountOf l h (sx xs (i + 1)) (zi_rg _) (D, a, f, ci, cb) (D, a', f', ci, cb)
  refine lv_aload_n hx hb dL_law_337 rfl (lv_at hl 1 rfl) ?_
  refine lv_aload_n hx hb dL_law_338 rfl (lv_at hl 0 rfl) ?_
  refine lv_iload_n hx hb dL_law_339 rfl (lv_at hl 3 rfl) ?_
  refine zr_iconst hx hb dL_law_340 ?_
  refine zr_iadd hx hb dL_law_341 ?_
  refine lw_sld E w.2.2 (by omega) dL_law_342 ?_
  refine lw_callB (as := [.int (zi (sx xs (i + 1)))]) (rest := []) (n := 1) E w hM q155 q156 q157 q158 rfl rfl (by decide +kernel) ⟨Nat.le_of_ble_eq_true rfl, Nat.le_of_ble_eq_true rfl⟩ rfl hl.1 rfl (Nat.le_of_ble_eq_true rfl) dL_law_343 (fun k u' H locs hk w => ?_)
  refine lv_aload_n hx hb dL_law_346 rfl (lv_at hl 2 rfl) ?_
  refine lv_aload_n hx hb dL_law_347 rfl (lv_at hl 0 rfl) ?_
  refine lv_iload_n hx hb dL_law_348 rfl (lv_at hl 3 rfl) ?_
  refine zr_iconst hx hb dL_law_349 ?_
  refine zr_iadd hx hb dL_law_350 ?_
  refine lw_sld E w.2.2 (by omega) dL_law_351 ?_
  refine lw_callM (as := [.int (zi (sx xs (i + 1)))]) (rest := [.int (zi k)]) (n := 1) E w hM' q308 q309 q310 q311 rfl rfl (by decide +kernel) ⟨Nat.le_of_ble_eq_true rfl, Nat.le_of_ble_eq_true rfl⟩ rfl hl.1 rfl (Nat.le_of_ble_eq_true rfl) dL_law_352 (fun k' v' H locs hk' w => ?_)
  refine lv_icmp_eq (tgt := 634) hx hb dL_law_355 (by decide) (fun _ => ?_) (fun q => absurd (by rw [(hpp k u' k' v' hk hk').1]) q)
  exact kk u' v' H locs (hpp k u' k' v' hk hk').2 w
set_option maxHeartbeats 4000000 in
set_option maxRecDepth 100000 in
theorem lc_sound (E : lwE p s m c b L xs D ci cb) (h : RI u v) (w : lwG D a f a' f' ci cb s u v H locs) {i : Int} (hi : 0 ≤ i ∧ i + 4 ≤ L) (hl : lv_has ls 4 [(0, .ref b), (1, .ref a), (2, .ref a'), (3, .int (zi i))]) (kk : ∀ (u' : bkS) (v' : mdS) (H : Heap) (locs : List Loc), RI u' v' → lwG D a f a' f' ci cb s u' v' H locs → W p l e room_1 s m #[Value.ref b] below meth c H locs 17 2169 Q (F0 m 634 ls [])) : W p l e room_1 s m #[Value.ref b] below meth c H locs 17 2169 Q (F0 m 360 ls []) := by
  have hx := E.1
  have hb := E.2.1
  obtain ⟨post, post', hM, hM', hpp⟩ := op_sound l h (D, a, f, ci, cb) (D, a', f', ci, cb)
  refine lv_aload_n hx hb dL_law_360 rfl (lv_at hl 1 rfl) ?_
  refine lw_callB (as := []) (rest := []) (n := 0) E w hM q159 q160 q161 q162 rfl rfl (by decide +kernel) ⟨Nat.le_of_ble_eq_true rfl, Nat.le_of_ble_eq_true rfl⟩ rfl hl.1 rfl (Nat.le_of_ble_eq_true rfl) dL_law_361 (fun k u' H locs hk w => ?_)
  refine lv_aload_n hx hb dL_law_364 rfl (lv_at hl 2 rfl) ?_
  refine lw_callM (as := []) (rest := [.int (zi k)]) (n := 0) E w hM' q312 q313 q314 q315 rfl rfl (by decide +kernel) ⟨Nat.le_of_ble_eq_true rfl, Nat.le_of_ble_eq_true rfl⟩ rfl hl.1 rfl (Nat.le_of_ble_eq_true rfl) dL_law_365 (fun k' v' H locs hk' w => ?_)
  refine lv_icmp_eq (tgt := 634) hx hb dL_law_368 (by decide) (fun _ => ?_) (fun q => absurd (by rw [(hpp k u' k' v' hk hk').1]) q)
  exact kk u' v' H locs (hpp k u' k' v' hk hk').2 w
set_option maxHeartbeats 4000000 in
set_option maxRecDepth 100000 in
theorem lc_balance (E : lwE p s m c b L xs D ci cb) (h : RI u v) (w : lwG D a f a' f' ci cb s u v H locs) {i : Int} (hi : 0 ≤ i ∧ i + 4 ≤ L) (hl : lv_has ls 4 [(0, .ref b), (1, .ref a), (2, .ref a'), (3, .int (zi i))]) (kk : ∀ (u' : bkS) (v' : mdS) (H : Heap) (locs : List Loc), RI u' v' → lwG D a f a' f' ci cb s u' v' H locs → W p l e room_1 s m #[Value.ref b] below meth c H locs 17 2169 Q (F0 m 634 ls [])) : W p l e room_1 s m #[Value.ref b] below meth c H locs 17 2169 Q (F0 m 373 ls []) := by
  have hx := E.1
  have hb := E.2.1
  obtain ⟨post, post', hM, hM', hpp⟩ := op_balance l h (sx xs (i + 1)) (sx xs (i + 2)) (zi_rg _) (zi_rg _) (D, a, f, ci, cb) (D, a', f', ci, cb)
  refine lv_aload_n hx hb dL_law_373 rfl (lv_at hl 1 rfl) ?_
  refine lv_aload_n hx hb dL_law_374 rfl (lv_at hl 0 rfl) ?_
  refine lv_iload_n hx hb dL_law_375 rfl (lv_at hl 3 rfl) ?_
  refine zr_iconst hx hb dL_law_376 ?_
  refine zr_iadd hx hb dL_law_377 ?_
  refine lw_sld E w.2.2 (by omega) dL_law_378 ?_
  refine lv_aload_n hx hb dL_law_379 rfl (lv_at hl 0 rfl) ?_
  refine lv_iload_n hx hb dL_law_380 rfl (lv_at hl 3 rfl) ?_
  refine zr_iconst hx hb dL_law_381 ?_
  refine zr_iadd hx hb dL_law_382 ?_
  refine lw_sld E w.2.2 (by omega) dL_law_383 ?_
  refine lw_callB (as := [.int (zi (sx xs (i + 1))), .int (zi (sx xs (i + 2)))]) (rest := []) (n := 2) E w hM q163 q164 q165 q166 rfl rfl (by decide +kernel) ⟨Nat.le_of_ble_eq_true rfl, Nat.le_of_ble_eq_true rfl⟩ rfl hl.1 rfl (Nat.le_of_ble_eq_true rfl) dL_law_384 (fun k u' H locs hk w => ?_)
  refine lv_aload_n hx hb dL_law_387 rfl (lv_at hl 2 rfl) ?_
  refine lv_aload_n hx hb dL_law_388 rfl (lv_at hl 0 rfl) ?_
  refine lv_iload_n hx hb dL_law_389 rfl (lv_at hl 3 rfl) ?_
  refine zr_iconst hx hb dL_law_390 ?_
  refine zr_iadd hx hb dL_law_391 ?_
  refine lw_sld E w.2.2 (by omega) dL_law_392 ?_
  refine lv_aload_n hx hb dL_law_393 rfl (lv_at hl 0 rfl) ?_
  refine lv_iload_n hx hb dL_law_394 rfl (lv_at hl 3 rfl) ?_
  refine zr_iconst hx hb dL_law_395 ?_
  refine zr_iadd hx hb dL_law_396 ?_
  refine lw_sld E w.2.2 (by omega) dL_law_397 ?_
  refine lw_callM (as := [.int (zi (sx xs (i + 1))), .int (zi (sx xs (i + 2)))]) (rest := [.int (zi k)]) (n := 2) E w hM' q316 q317 q318 q319 rfl rfl (by decide +kernel) ⟨Nat.le_of_ble_eq_true rfl, Nat.le_of_ble_eq_true rfl⟩ rfl hl.1 rfl (Nat.le_of_ble_eq_true rfl) dL_law_398 (fun k' v' H locs hk' w => ?_)
  refine lv_icmp_eq (tgt := 634) hx hb dL_law_401 (by decide) (fun _ => ?_) (fun q => absurd (by rw [(hpp k u' k' v' hk hk').1]) q)
  exact kk u' v' H locs (hpp k u' k' v' hk hk').2 w
end LWC
end
section
/-! THE LAW'S CASES 12 .. 17 -/
section LWC
variable {p : Program} {l : Launch} {e : Env} {s : State} {m : MethodId} {below : List Frame} {meth : Method} {c : Code} {H : Heap} {locs : List Loc} {Q : State → Prop}
variable {b L : Nat} {xs : Nat → Int32} {D : va_G} {a : Nat} {f : Nat → Nat} {a' : Nat} {f' : Nat → Nat} {ci cb : ClassId} {u : bkS} {v : mdS} {pc : Nat} {ls : Array Slot} {rest st0 : List Value}
set_option maxHeartbeats 4000000 in
set_option maxRecDepth 100000 in
theorem lc_lowest (E : lwE p s m c b L xs D ci cb) (h : RI u v) (w : lwG D a f a' f' ci cb s u v H locs) {i : Int} (hi : 0 ≤ i ∧ i + 4 ≤ L) (hl : lv_has ls 4 [(0, .ref b), (1, .ref a), (2, .ref a'), (3, .int (zi i))]) (kk : ∀ (u' : bkS) (v' : mdS) (H : Heap) (locs : List Loc), RI u' v' → lwG D a f a' f' ci cb s u' v' H locs → W p l e room_1 s m #[Value.ref b] below meth c H locs 17 2169 Q (F0 m 634 ls [])) : W p l e room_1 s m #[Value.ref b] below meth c H locs 17 2169 Q (F0 m 406 ls []) := by
  have hx := E.1
  have hb := E.2.1
  obtain ⟨post, post', hM, hM', hpp⟩ := op_lowest l h (sx xs (i + 1)) (sx xs (i + 2)) (sx xs (i + 3)) (zi_rg _) (zi_rg _) (zi_rg _) (D, a, f, ci, cb) (D, a', f', ci, cb)
  refine lv_aload_n hx hb dL_law_406 rfl (lv_at hl 1 rfl) ?_
  refine lv_aload_n hx hb dL_law_407 rfl (lv_at hl 0 rfl) ?_
  refine lv_iload_n hx hb dL_law_408 rfl (lv_at hl 3 rfl) ?_
  refine zr_iconst hx hb dL_law_409 ?_
  refine zr_iadd hx hb dL_law_410 ?_
  refine lw_sld E w.2.2 (by omega) dL_law_411 ?_
  refine lv_aload_n hx hb dL_law_412 rfl (lv_at hl 0 rfl) ?_
  refine lv_iload_n hx hb dL_law_413 rfl (lv_at hl 3 rfl) ?_
  refine zr_iconst hx hb dL_law_414 ?_
  refine zr_iadd hx hb dL_law_415 ?_
  refine lw_sld E w.2.2 (by omega) dL_law_416 ?_
  refine lv_aload_n hx hb dL_law_417 rfl (lv_at hl 0 rfl) ?_
  refine lv_iload_n hx hb dL_law_418 rfl (lv_at hl 3 rfl) ?_
  refine zr_iconst hx hb dL_law_419 ?_
  refine zr_iadd hx hb dL_law_420 ?_
  refine lw_sld E w.2.2 (by omega) dL_law_421 ?_
  refine lw_callB (as := [.int (zi (sx xs (i + 1))), .int (zi (sx xs (i + 2))), .int (zi (sx xs (i + 3)))]) (rest := []) (n := 3) E w hM q168 q169 q170 q171 rfl rfl (by decide +kernel) ⟨Nat.le_of_ble_eq_true rfl, Nat.le_of_ble_eq_true rfl⟩ rfl hl.1 rfl (Nat.le_of_ble_eq_true rfl) dL_law_422 (fun k u' H locs hk w => ?_)
  refine lv_aload_n hx hb dL_law_425 rfl (lv_at hl 2 rfl) ?_
  refine lv_aload_n hx hb dL_law_426 rfl (lv_at hl 0 rfl) ?_
  refine lv_iload_n hx hb dL_law_427 rfl (lv_at hl 3 rfl) ?_
  refine zr_iconst hx hb dL_law_428 ?_
  refine zr_iadd hx hb dL_law_429 ?_
  refine lw_sld E w.2.2 (by omega) dL_law_430 ?_
  refine lv_aload_n hx hb dL_law_431 rfl (lv_at hl 0 rfl) ?_
  refine lv_iload_n hx hb dL_law_432 rfl (lv_at hl 3 rfl) ?_
  refine zr_iconst hx hb dL_law_433 ?_
  refine zr_iadd hx hb dL_law_434 ?_
  refine lw_sld E w.2.2 (by omega) dL_law_435 ?_
  refine lv_aload_n hx hb dL_law_436 rfl (lv_at hl 0 rfl) ?_
  refine lv_iload_n hx hb dL_law_437 rfl (lv_at hl 3 rfl) ?_
  refine zr_iconst hx hb dL_law_438 ?_
  refine zr_iadd hx hb dL_law_439 ?_
  refine lw_sld E w.2.2 (by omega) dL_law_440 ?_
  refine lw_callM (as := [.int (zi (sx xs (i + 1))), .int (zi (sx xs (i + 2))), .int (zi (sx xs (i + 3)))]) (rest := [.int (zi k)]) (n := 3) E w hM' q321 q322 q323 q324 rfl rfl (by decide +kernel) ⟨Nat.le_of_ble_eq_true rfl, Nat.le_of_ble_eq_true rfl⟩ rfl hl.1 rfl (Nat.le_of_ble_eq_true rfl) dL_law_441 (fun k' v' H locs hk' w => ?_)
  refine lv_icmp_eq (tgt := 634) hx hb dL_law_444 (by decide) (fun _ => ?_) (fun q => absurd (by rw [(hpp k u' k' v' hk hk').1]) q)
  exact kk u' v' H locs (hpp k u' k' v' hk hk').2 w
set_option maxHeartbeats 4000000 in
set_option maxRecDepth 100000 in
theorem lc_total (E : lwE p s m c b L xs D ci cb) (h : RI u v) (w : lwG D a f a' f' ci cb s u v H locs) {i : Int} (hi : 0 ≤ i ∧ i + 4 ≤ L) (hl : lv_has ls 4 [(0, .ref b), (1, .ref a), (2, .ref a'), (3, .int (zi i))]) (kk : ∀ (u' : bkS) (v' : mdS) (H : Heap) (locs : List Loc), RI u' v' → lwG D a f a' f' ci cb s u' v' H locs → W p l e room_1 s m #[Value.ref b] below meth c H locs 17 2169 Q (F0 m 634 ls [])) : W p l e room_1 s m #[Value.ref b] below meth c H locs 17 2169 Q (F0 m 449 ls []) := by
  have hx := E.1
  have hb := E.2.1
  obtain ⟨post, post', hM, hM', hpp⟩ := op_total l h (sx xs (i + 1)) (sx xs (i + 2)) (sx xs (i + 3)) (zi_rg _) (zi_rg _) (zi_rg _) (D, a, f, ci, cb) (D, a', f', ci, cb)
  refine lv_aload_n hx hb dL_law_449 rfl (lv_at hl 1 rfl) ?_
  refine lv_aload_n hx hb dL_law_450 rfl (lv_at hl 0 rfl) ?_
  refine lv_iload_n hx hb dL_law_451 rfl (lv_at hl 3 rfl) ?_
  refine zr_iconst hx hb dL_law_452 ?_
  refine zr_iadd hx hb dL_law_453 ?_
  refine lw_sld E w.2.2 (by omega) dL_law_454 ?_
  refine lv_aload_n hx hb dL_law_455 rfl (lv_at hl 0 rfl) ?_
  refine lv_iload_n hx hb dL_law_456 rfl (lv_at hl 3 rfl) ?_
  refine zr_iconst hx hb dL_law_457 ?_
  refine zr_iadd hx hb dL_law_458 ?_
  refine lw_sld E w.2.2 (by omega) dL_law_459 ?_
  refine lv_aload_n hx hb dL_law_460 rfl (lv_at hl 0 rfl) ?_
  refine lv_iload_n hx hb dL_law_461 rfl (lv_at hl 3 rfl) ?_
  refine zr_iconst hx hb dL_law_462 ?_
  refine zr_iadd hx hb dL_law_463 ?_
  refine lw_sld E w.2.2 (by omega) dL_law_464 ?_
  refine lw_callB (as := [.int (zi (sx xs (i + 1))), .int (zi (sx xs (i + 2))), .int (zi (sx xs (i + 3)))]) (rest := []) (n := 3) E w hM q176 q177 q178 q179 rfl rfl (by decide +kernel) ⟨Nat.le_of_ble_eq_true rfl, Nat.le_of_ble_eq_true rfl⟩ rfl hl.1 rfl (Nat.le_of_ble_eq_true rfl) dL_law_465 (fun k u' H locs hk w => ?_)
  refine lv_aload_n hx hb dL_law_468 rfl (lv_at hl 2 rfl) ?_
  refine lv_aload_n hx hb dL_law_469 rfl (lv_at hl 0 rfl) ?_
  refine lv_iload_n hx hb dL_law_470 rfl (lv_at hl 3 rfl) ?_
  refine zr_iconst hx hb dL_law_471 ?_
  refine zr_iadd hx hb dL_law_472 ?_
  refine lw_sld E w.2.2 (by omega) dL_law_473 ?_
  refine lv_aload_n hx hb dL_law_474 rfl (lv_at hl 0 rfl) ?_
  refine lv_iload_n hx hb dL_law_475 rfl (lv_at hl 3 rfl) ?_
  refine zr_iconst hx hb dL_law_476 ?_
  refine zr_iadd hx hb dL_law_477 ?_
  refine lw_sld E w.2.2 (by omega) dL_law_478 ?_
  refine lv_aload_n hx hb dL_law_479 rfl (lv_at hl 0 rfl) ?_
  refine lv_iload_n hx hb dL_law_480 rfl (lv_at hl 3 rfl) ?_
  refine zr_iconst hx hb dL_law_481 ?_
  refine zr_iadd hx hb dL_law_482 ?_
  refine lw_sld E w.2.2 (by omega) dL_law_483 ?_
  refine lw_callM (as := [.int (zi (sx xs (i + 1))), .int (zi (sx xs (i + 2))), .int (zi (sx xs (i + 3)))]) (rest := [.int (zi k)]) (n := 3) E w hM' q330 q331 q332 q333 rfl rfl (by decide +kernel) ⟨Nat.le_of_ble_eq_true rfl, Nat.le_of_ble_eq_true rfl⟩ rfl hl.1 rfl (Nat.le_of_ble_eq_true rfl) dL_law_484 (fun k' v' H locs hk' w => ?_)
  refine lv_icmp_eq (tgt := 634) hx hb dL_law_487 (by decide) (fun _ => ?_) (fun q => absurd (by rw [(hpp k u' k' v' hk hk').1]) q)
  exact kk u' v' H locs (hpp k u' k' v' hk hk').2 w
set_option maxHeartbeats 4000000 in
set_option maxRecDepth 100000 in
theorem lc_firstBelow (E : lwE p s m c b L xs D ci cb) (h : RI u v) (w : lwG D a f a' f' ci cb s u v H locs) {i : Int} (hi : 0 ≤ i ∧ i + 4 ≤ L) (hl : lv_has ls 4 [(0, .ref b), (1, .ref a), (2, .ref a'), (3, .int (zi i))]) (kk : ∀ (u' : bkS) (v' : mdS) (H : Heap) (locs : List Loc), RI u' v' → lwG D a f a' f' ci cb s u' v' H locs → W p l e room_1 s m #[Value.ref b] below meth c H locs 17 2169 Q (F0 m 634 ls [])) : W p l e room_1 s m #[Value.ref b] below meth c H locs 17 2169 Q (F0 m 492 ls []) := by
  have hx := E.1
  have hb := E.2.1
  obtain ⟨post, post', hM, hM', hpp⟩ := op_firstBelow l h (sx xs (i + 1)) (sx xs (i + 2)) (sx xs (i + 3)) (zi_rg _) (zi_rg _) (zi_rg _) (D, a, f, ci, cb) (D, a', f', ci, cb)
  refine lv_aload_n hx hb dL_law_492 rfl (lv_at hl 1 rfl) ?_
  refine lv_aload_n hx hb dL_law_493 rfl (lv_at hl 0 rfl) ?_
  refine lv_iload_n hx hb dL_law_494 rfl (lv_at hl 3 rfl) ?_
  refine zr_iconst hx hb dL_law_495 ?_
  refine zr_iadd hx hb dL_law_496 ?_
  refine lw_sld E w.2.2 (by omega) dL_law_497 ?_
  refine lv_aload_n hx hb dL_law_498 rfl (lv_at hl 0 rfl) ?_
  refine lv_iload_n hx hb dL_law_499 rfl (lv_at hl 3 rfl) ?_
  refine zr_iconst hx hb dL_law_500 ?_
  refine zr_iadd hx hb dL_law_501 ?_
  refine lw_sld E w.2.2 (by omega) dL_law_502 ?_
  refine lv_aload_n hx hb dL_law_503 rfl (lv_at hl 0 rfl) ?_
  refine lv_iload_n hx hb dL_law_504 rfl (lv_at hl 3 rfl) ?_
  refine zr_iconst hx hb dL_law_505 ?_
  refine zr_iadd hx hb dL_law_506 ?_
  refine lw_sld E w.2.2 (by omega) dL_law_507 ?_
  refine lw_callB (as := [.int (zi (sx xs (i + 1))), .int (zi (sx xs (i + 2))), .int (zi (sx xs (i + 3)))]) (rest := []) (n := 3) E w hM q181 q182 q183 q184 rfl rfl (by decide +kernel) ⟨Nat.le_of_ble_eq_true rfl, Nat.le_of_ble_eq_true rfl⟩ rfl hl.1 rfl (Nat.le_of_ble_eq_true rfl) dL_law_508 (fun k u' H locs hk w => ?_)
  refine lv_aload_n hx hb dL_law_511 rfl (lv_at hl 2 rfl) ?_
  refine lv_aload_n hx hb dL_law_512 rfl (lv_at hl 0 rfl) ?_
  refine lv_iload_n hx hb dL_law_513 rfl (lv_at hl 3 rfl) ?_
  refine zr_iconst hx hb dL_law_514 ?_
  refine zr_iadd hx hb dL_law_515 ?_
  refine lw_sld E w.2.2 (by omega) dL_law_516 ?_
  refine lv_aload_n hx hb dL_law_517 rfl (lv_at hl 0 rfl) ?_
  refine lv_iload_n hx hb dL_law_518 rfl (lv_at hl 3 rfl) ?_
  refine zr_iconst hx hb dL_law_519 ?_
  refine zr_iadd hx hb dL_law_520 ?_
  refine lw_sld E w.2.2 (by omega) dL_law_521 ?_
  refine lv_aload_n hx hb dL_law_522 rfl (lv_at hl 0 rfl) ?_
  refine lv_iload_n hx hb dL_law_523 rfl (lv_at hl 3 rfl) ?_
  refine zr_iconst hx hb dL_law_524 ?_
  refine zr_iadd hx hb dL_law_525 ?_
  refine lw_sld E w.2.2 (by omega) dL_law_526 ?_
  refine lw_callM (as := [.int (zi (sx xs (i + 1))), .int (zi (sx xs (i + 2))), .int (zi (sx xs (i + 3)))]) (rest := [.int (zi k)]) (n := 3) E w hM' q335 q336 q337 q338 rfl rfl (by decide +kernel) ⟨Nat.le_of_ble_eq_true rfl, Nat.le_of_ble_eq_true rfl⟩ rfl hl.1 rfl (Nat.le_of_ble_eq_true rfl) dL_law_527 (fun k' v' H locs hk' w => ?_)
  refine lv_icmp_eq (tgt := 634) hx hb dL_law_530 (by decide) (fun _ => ?_) (fun q => absurd (by rw [(hpp k u' k' v' hk hk').1]) q)
  exact kk u' v' H locs (hpp k u' k' v' hk hk').2 w
set_option maxHeartbeats 4000000 in
set_option maxRecDepth 100000 in
theorem lc_free (E : lwE p s m c b L xs D ci cb) (h : RI u v) (w : lwG D a f a' f' ci cb s u v H locs) {i : Int} (hi : 0 ≤ i ∧ i + 4 ≤ L) (hl : lv_has ls 4 [(0, .ref b), (1, .ref a), (2, .ref a'), (3, .int (zi i))]) (kk : ∀ (u' : bkS) (v' : mdS) (H : Heap) (locs : List Loc), RI u' v' → lwG D a f a' f' ci cb s u' v' H locs → W p l e room_1 s m #[Value.ref b] below meth c H locs 17 2169 Q (F0 m 634 ls [])) : W p l e room_1 s m #[Value.ref b] below meth c H locs 17 2169 Q (F0 m 535 ls []) := by
  have hx := E.1
  have hb := E.2.1
  obtain ⟨post, post', hM, hM', hpp⟩ := op_free l h (sx xs (i + 1)) (sx xs (i + 2)) (zi_rg _) (zi_rg _) (D, a, f, ci, cb) (D, a', f', ci, cb)
  refine lv_aload_n hx hb dL_law_535 rfl (lv_at hl 1 rfl) ?_
  refine lv_aload_n hx hb dL_law_536 rfl (lv_at hl 0 rfl) ?_
  refine lv_iload_n hx hb dL_law_537 rfl (lv_at hl 3 rfl) ?_
  refine zr_iconst hx hb dL_law_538 ?_
  refine zr_iadd hx hb dL_law_539 ?_
  refine lw_sld E w.2.2 (by omega) dL_law_540 ?_
  refine lv_aload_n hx hb dL_law_541 rfl (lv_at hl 0 rfl) ?_
  refine lv_iload_n hx hb dL_law_542 rfl (lv_at hl 3 rfl) ?_
  refine zr_iconst hx hb dL_law_543 ?_
  refine zr_iadd hx hb dL_law_544 ?_
  refine lw_sld E w.2.2 (by omega) dL_law_545 ?_
  refine lw_callB (as := [.int (zi (sx xs (i + 1))), .int (zi (sx xs (i + 2)))]) (rest := []) (n := 2) E w hM q193 q194 q195 q196 rfl rfl (by decide +kernel) ⟨Nat.le_of_ble_eq_true rfl, Nat.le_of_ble_eq_true rfl⟩ rfl hl.1 rfl (Nat.le_of_ble_eq_true rfl) dL_law_546 (fun k u' H locs hk w => ?_)
  refine lv_aload_n hx hb dL_law_549 rfl (lv_at hl 2 rfl) ?_
  refine lv_aload_n hx hb dL_law_550 rfl (lv_at hl 0 rfl) ?_
  refine lv_iload_n hx hb dL_law_551 rfl (lv_at hl 3 rfl) ?_
  refine zr_iconst hx hb dL_law_552 ?_
  refine zr_iadd hx hb dL_law_553 ?_
  refine lw_sld E w.2.2 (by omega) dL_law_554 ?_
  refine lv_aload_n hx hb dL_law_555 rfl (lv_at hl 0 rfl) ?_
  refine lv_iload_n hx hb dL_law_556 rfl (lv_at hl 3 rfl) ?_
  refine zr_iconst hx hb dL_law_557 ?_
  refine zr_iadd hx hb dL_law_558 ?_
  refine lw_sld E w.2.2 (by omega) dL_law_559 ?_
  refine lw_callM (as := [.int (zi (sx xs (i + 1))), .int (zi (sx xs (i + 2)))]) (rest := [.int (zi k)]) (n := 2) E w hM' q339 q340 q341 q342 rfl rfl (by decide +kernel) ⟨Nat.le_of_ble_eq_true rfl, Nat.le_of_ble_eq_true rfl⟩ rfl hl.1 rfl (Nat.le_of_ble_eq_true rfl) dL_law_560 (fun k' v' H locs hk' w => ?_)
  refine lv_icmp_eq (tgt := 634) hx hb dL_law_563 (by decide) (fun _ => ?_) (fun q => absurd (by rw [(hpp k u' k' v' hk hk').1]) q)
  exact kk u' v' H locs (hpp k u' k' v' hk hk').2 w
set_option maxHeartbeats 4000000 in
set_option maxRecDepth 100000 in
theorem lc_firstFree (E : lwE p s m c b L xs D ci cb) (h : RI u v) (w : lwG D a f a' f' ci cb s u v H locs) {i : Int} (hi : 0 ≤ i ∧ i + 4 ≤ L) (hl : lv_has ls 4 [(0, .ref b), (1, .ref a), (2, .ref a'), (3, .int (zi i))]) (kk : ∀ (u' : bkS) (v' : mdS) (H : Heap) (locs : List Loc), RI u' v' → lwG D a f a' f' ci cb s u' v' H locs → W p l e room_1 s m #[Value.ref b] below meth c H locs 17 2169 Q (F0 m 634 ls [])) : W p l e room_1 s m #[Value.ref b] below meth c H locs 17 2169 Q (F0 m 568 ls []) := by
  have hx := E.1
  have hb := E.2.1
  obtain ⟨post, post', hM, hM', hpp⟩ := op_firstFree l h (sx xs (i + 1)) (sx xs (i + 2)) (zi_rg _) (zi_rg _) (D, a, f, ci, cb) (D, a', f', ci, cb)
  refine lv_aload_n hx hb dL_law_568 rfl (lv_at hl 1 rfl) ?_
  refine lv_aload_n hx hb dL_law_569 rfl (lv_at hl 0 rfl) ?_
  refine lv_iload_n hx hb dL_law_570 rfl (lv_at hl 3 rfl) ?_
  refine zr_iconst hx hb dL_law_571 ?_
  refine zr_iadd hx hb dL_law_572 ?_
  refine lw_sld E w.2.2 (by omega) dL_law_573 ?_
  refine lv_aload_n hx hb dL_law_574 rfl (lv_at hl 0 rfl) ?_
  refine lv_iload_n hx hb dL_law_575 rfl (lv_at hl 3 rfl) ?_
  refine zr_iconst hx hb dL_law_576 ?_
  refine zr_iadd hx hb dL_law_577 ?_
  refine lw_sld E w.2.2 (by omega) dL_law_578 ?_
  refine lw_callB (as := [.int (zi (sx xs (i + 1))), .int (zi (sx xs (i + 2)))]) (rest := []) (n := 2) E w hM q197 q198 q199 q200 rfl rfl (by decide +kernel) ⟨Nat.le_of_ble_eq_true rfl, Nat.le_of_ble_eq_true rfl⟩ rfl hl.1 rfl (Nat.le_of_ble_eq_true rfl) dL_law_579 (fun k u' H locs hk w => ?_)
  refine lv_aload_n hx hb dL_law_582 rfl (lv_at hl 2 rfl) ?_
  refine lv_aload_n hx hb dL_law_583 rfl (lv_at hl 0 rfl) ?_
  refine lv_iload_n hx hb dL_law_584 rfl (lv_at hl 3 rfl) ?_
  refine zr_iconst hx hb dL_law_585 ?_
  refine zr_iadd hx hb dL_law_586 ?_
  refine lw_sld E w.2.2 (by omega) dL_law_587 ?_
  refine lv_aload_n hx hb dL_law_588 rfl (lv_at hl 0 rfl) ?_
  refine lv_iload_n hx hb dL_law_589 rfl (lv_at hl 3 rfl) ?_
  refine zr_iconst hx hb dL_law_590 ?_
  refine zr_iadd hx hb dL_law_591 ?_
  refine lw_sld E w.2.2 (by omega) dL_law_592 ?_
  refine lw_callM (as := [.int (zi (sx xs (i + 1))), .int (zi (sx xs (i + 2)))]) (rest := [.int (zi k)]) (n := 2) E w hM' q347 q348 q349 q350 rfl rfl (by decide +kernel) ⟨Nat.le_of_ble_eq_true rfl, Nat.le_of_ble_eq_true rfl⟩ rfl hl.1 rfl (Nat.le_of_ble_eq_true rfl) dL_law_593 (fun k' v' H locs hk' w => ?_)
  refine lv_icmp_eq (tgt := 634) hx hb dL_law_596 (by decide) (fun _ => ?_) (fun q => absurd (by rw [(hpp k u' k' v' hk hk').1]) q)
  exact kk u' v' H locs (hpp k u' k' v' hk hk').2 w
set_option maxHeartbeats 4000000 in
set_option maxRecDepth 100000 in
theorem lc_daysBelow (E : lwE p s m c b L xs D ci cb) (h : RI u v) (w : lwG D a f a' f' ci cb s u v H locs) {i : Int} (hi : 0 ≤ i ∧ i + 4 ≤ L) (hl : lv_has ls 4 [(0, .ref b), (1, .ref a), (2, .ref a'), (3, .int (zi i))]) (kk : ∀ (u' : bkS) (v' : mdS) (H : Heap) (locs : List Loc), RI u' v' → lwG D a f a' f' ci cb s u' v' H locs → W p l e room_1 s m #[Value.ref b] below meth c H locs 17 2169 Q (F0 m 634 ls [])) : W p l e room_1 s m #[Value.ref b] below meth c H locs 17 2169 Q (F0 m 601 ls []) := by
  have hx := E.1
  have hb := E.2.1
  obtain ⟨post, post', hM, hM', hpp⟩ := op_daysBelow l h (sx xs (i + 1)) (sx xs (i + 2)) (zi_rg _) (zi_rg _) (D, a, f, ci, cb) (D, a', f', ci, cb)
  refine lv_aload_n hx hb dL_law_601 rfl (lv_at hl 1 rfl) ?_
  refine lv_aload_n hx hb dL_law_602 rfl (lv_at hl 0 rfl) ?_
  refine lv_iload_n hx hb dL_law_603 rfl (lv_at hl 3 rfl) ?_
  refine zr_iconst hx hb dL_law_604 ?_
  refine zr_iadd hx hb dL_law_605 ?_
  refine lw_sld E w.2.2 (by omega) dL_law_606 ?_
  refine lv_aload_n hx hb dL_law_607 rfl (lv_at hl 0 rfl) ?_
  refine lv_iload_n hx hb dL_law_608 rfl (lv_at hl 3 rfl) ?_
  refine zr_iconst hx hb dL_law_609 ?_
  refine zr_iadd hx hb dL_law_610 ?_
  refine lw_sld E w.2.2 (by omega) dL_law_611 ?_
  refine lw_callB (as := [.int (zi (sx xs (i + 1))), .int (zi (sx xs (i + 2)))]) (rest := []) (n := 2) E w hM q206 q207 q208 q209 rfl rfl (by decide +kernel) ⟨Nat.le_of_ble_eq_true rfl, Nat.le_of_ble_eq_true rfl⟩ rfl hl.1 rfl (Nat.le_of_ble_eq_true rfl) dL_law_612 (fun k u' H locs hk w => ?_)
  refine lv_aload_n hx hb dL_law_615 rfl (lv_at hl 2 rfl) ?_
  refine lv_aload_n hx hb dL_law_616 rfl (lv_at hl 0 rfl) ?_
  refine lv_iload_n hx hb dL_law_617 rfl (lv_at hl 3 rfl) ?_
  refine zr_iconst hx hb dL_law_618 ?_
  refine zr_iadd hx hb dL_law_619 ?_
  refine lw_sld E w.2.2 (by omega) dL_law_620 ?_
  refine lv_aload_n hx hb dL_law_621 rfl (lv_at hl 0 rfl) ?_
  refine lv_iload_n hx hb dL_law_622 rfl (lv_at hl 3 rfl) ?_
  refine zr_iconst hx hb dL_law_623 ?_
  refine zr_iadd hx hb dL_law_624 ?_
  refine lw_sld E w.2.2 (by omega) dL_law_625 ?_
  refine lw_callM (as := [.int (zi (sx xs (i + 1))), .int (zi (sx xs (i + 2)))]) (rest := [.int (zi k)]) (n := 2) E w hM' q352 q353 q354 q355 rfl rfl (by decide +kernel) ⟨Nat.le_of_ble_eq_true rfl, Nat.le_of_ble_eq_true rfl⟩ rfl hl.1 rfl (Nat.le_of_ble_eq_true rfl) dL_law_626 (fun k' v' H locs hk' w => ?_)
  refine lv_icmp_eq (tgt := 634) hx hb dL_law_629 (by decide) (fun _ => ?_) (fun q => absurd (by rw [(hpp k u' k' v' hk hk').1]) q)
  exact kk u' v' H locs (hpp k u' k' v' hk hk').2 w
end LWC
end
section
/-! THE LAW'S LOOP, AND THE LAW FROM ITS ENTRY -/
set_option maxHeartbeats 4000000 in
set_option maxRecDepth 100000 in
theorem law_loop {p : Program} {e : Env} {s : State} {m : MethodId} {below : List Frame} {meth : Method} {c : Code} (l : Launch) {b L : Nat} {xs : Nat → Int32} {D : va_G} {a : Nat} {f : Nat → Nat} {a' : Nat} {f' : Nat → Nat} {ci cb : ClassId} (E : lwE p s m c b L xs D ci cb) (hr : meth.sig.returnType = ret) (hlocks : meth.locks = false) : ∀ (n : Nat) (i : Int) (u : bkS) (v : mdS) (H : Heap) (locs : List Loc) (ls : Array Slot), 0 ≤ i ∧ i ≤ L → (L : Int) + 1 ≤ i + n → RI u v → lwG D a f a' f' ci cb s u v H locs → lv_has ls 4 [(0, .ref b), (1, .ref a), (2, .ref a'), (3, .int (zi i))] → W p l e room_1 s m #[Value.ref b] below meth c H locs 17 2169 (lw_Z below #[Value.ref b] s) (F0 m 18 ls []) := by
  have hx := E.1
  have hb := E.2.1
  have hL : L ≤ 256 := E.2.2.2.2.2.2.2.2
  intro n
  induction n with
  | zero =>
    intro i u v H locs ls h1 h2
    exfalso
    omega
  | succ n ih =>
    intro i u v H locs ls hi hn h w hl
    refine lv_iload_n hx hb dL_law_18 rfl (lv_at hl 3 rfl) ?_
    refine lv_aload_n hx hb dL_law_19 rfl (lv_at hl 0 rfl) ?_
    refine lw_slen E w.2.2 dL_law_20 ?_
    refine zr_iconst hx hb dL_law_21 ?_
    refine zr_isub hx hb dL_law_22 ?_
    refine zr_icmp_gt (tgt := 640) hx hb dL_law_23 (by decide) (by omega) (by omega) (fun c_23 => ?_) (fun c_23 => ?_)
    · refine lv_iconst (v := 1) hx hb dL_law_640 (by decide) ?_
      refine va_forget (fun q hq => w.2.2.2.2 q hq) ?_
      refine W.widen (k := 600000) (n := 7290000) (by decide) (by decide) ?_
      exact lw_ret hx hb hr hlocks dL_law_641
    · have hi4 : 0 ≤ i ∧ i + 4 ≤ L := by omega
      have hk : ∀ (u' : bkS) (v' : mdS) (H : Heap) (locs : List Loc), RI u' v' → lwG D a f a' f' ci cb s u' v' H locs → W p l e room_1 s m #[Value.ref b] below meth c H locs 17 2169 (lw_Z below #[Value.ref b] s) (F0 m 634 ls []) := by
        intro u' v' H locs h w
        refine lv_iinc (v := zi (i + 4)) (lv' := [(3, .int (zi (i + 4))), (0, .ref b), (1, .ref a), (2, .ref a')]) hx hb dL_law_634 hl (k := 3) rfl (zi_add i 4) (by decide) rfl (fun ls hl => ?_)
        refine lv_goto (tgt := 18) hx hb dL_law_637 (by decide) ?_
        exact ih (i + 4) u' v' H locs ls (by omega) (by omega) h w (lv_sub hl [1, 2, 3, 0] rfl)
      refine lv_aload_n hx hb dL_law_26 rfl (lv_at hl 0 rfl) ?_
      refine lv_iload_n hx hb dL_law_27 rfl (lv_at hl 3 rfl) ?_
      refine lw_sld E w.2.2 (by omega) dL_law_28 ?_
      refine zr_bipush hx hb dL_law_29 (by decide) ?_
      refine zr_iand (sx xs i % 32) hx hb (zi_and31 (sx xs i)) dL_law_31 ?_
      have ht : 0 ≤ sx xs i % 32 ∧ sx xs i % 32 < 32 := by omega
      generalize sx xs i % 32 = t at ht ⊢
      rcases (show t = 0 ∨ t = 1 ∨ t = 2 ∨ t = 3 ∨ t = 4 ∨ t = 5 ∨ t = 6 ∨ t = 7 ∨ t = 8 ∨ t = 9 ∨ t = 10 ∨ t = 11 ∨ t = 12 ∨ t = 13 ∨ t = 14 ∨ t = 15 ∨ t = 16 ∨ t = 17 ∨ 18 ≤ t by omega) with rfl | rfl | rfl | rfl | rfl | rfl | rfl | rfl | rfl | rfl | rfl | rfl | rfl | rfl | rfl | rfl | rfl | rfl | ht9
      · refine lv_tableIn (off := 88) (tgt := 120) hx hb dL_law_32 (by decide +kernel) (by decide +kernel) (by decide +kernel) (by decide) ?_
        exact lc_post E h w hi4 hl hk
      · refine lv_tableIn (off := 131) (tgt := 163) hx hb dL_law_32 (by decide +kernel) (by decide +kernel) (by decide +kernel) (by decide) ?_
        exact lc_transfer E h w hi4 hl hk
      · refine lv_tableIn (off := 174) (tgt := 206) hx hb dL_law_32 (by decide +kernel) (by decide +kernel) (by decide +kernel) (by decide) ?_
        exact lc_cancel E h w hi4 hl hk
      · refine lv_tableIn (off := 197) (tgt := 229) hx hb dL_law_32 (by decide +kernel) (by decide +kernel) (by decide +kernel) (by decide) ?_
        exact lc_floor E h w hi4 hl hk
      · refine lv_tableIn (off := 230) (tgt := 262) hx hb dL_law_32 (by decide +kernel) (by decide +kernel) (by decide +kernel) (by decide) ?_
        exact lc_open E h w hi4 hl hk
      · refine lv_tableIn (off := 243) (tgt := 275) hx hb dL_law_32 (by decide +kernel) (by decide +kernel) (by decide +kernel) (by decide) ?_
        exact lc_close E h w hi4 hl hk
      · refine lv_tableIn (off := 256) (tgt := 288) hx hb dL_law_32 (by decide +kernel) (by decide +kernel) (by decide +kernel) (by decide) ?_
        exact lc_isOpen E h w hi4 hl hk
      · refine lv_tableIn (off := 269) (tgt := 301) hx hb dL_law_32 (by decide +kernel) (by decide +kernel) (by decide +kernel) (by decide) ?_
        exact lc_entries E h w hi4 hl hk
      · refine lv_tableIn (off := 282) (tgt := 314) hx hb dL_law_32 (by decide +kernel) (by decide +kernel) (by decide +kernel) (by decide) ?_
        exact lc_cancelled E h w hi4 hl hk
      · refine lv_tableIn (off := 305) (tgt := 337) hx hb dL_law_32 (by decide +kernel) (by decide +kernel) (by decide +kernel) (by decide) ?_
        exact lc_amountOf E h w hi4 hl hk
      · refine lv_tableIn (off := 328) (tgt := 360) hx hb dL_law_32 (by decide +kernel) (by decide +kernel) (by decide +kernel) (by decide) ?_
        exact lc_sound E h w hi4 hl hk
      · refine lv_tableIn (off := 341) (tgt := 373) hx hb dL_law_32 (by decide +kernel) (by decide +kernel) (by decide +kernel) (by decide) ?_
        exact lc_balance E h w hi4 hl hk
      · refine lv_tableIn (off := 374) (tgt := 406) hx hb dL_law_32 (by decide +kernel) (by decide +kernel) (by decide +kernel) (by decide) ?_
        exact lc_lowest E h w hi4 hl hk
      · refine lv_tableIn (off := 417) (tgt := 449) hx hb dL_law_32 (by decide +kernel) (by decide +kernel) (by decide +kernel) (by decide) ?_
        exact lc_total E h w hi4 hl hk
      · refine lv_tableIn (off := 460) (tgt := 492) hx hb dL_law_32 (by decide +kernel) (by decide +kernel) (by decide +kernel) (by decide) ?_
        exact lc_firstBelow E h w hi4 hl hk
      · refine lv_tableIn (off := 503) (tgt := 535) hx hb dL_law_32 (by decide +kernel) (by decide +kernel) (by decide +kernel) (by decide) ?_
        exact lc_free E h w hi4 hl hk
      · refine lv_tableIn (off := 536) (tgt := 568) hx hb dL_law_32 (by decide +kernel) (by decide +kernel) (by decide +kernel) (by decide) ?_
        exact lc_firstFree E h w hi4 hl hk
      · refine lv_tableIn (off := 569) (tgt := 601) hx hb dL_law_32 (by decide +kernel) (by decide +kernel) (by decide +kernel) (by decide) ?_
        exact lc_daysBelow E h w hi4 hl hk
      · refine lv_tableOut (tgt := 634) hx hb dL_law_32 (Or.inr (by rw [zi_toInt (by omega)]; omega)) (by decide) ?_
        exact hk u v H locs h w
set_option maxHeartbeats 4000000 in
set_option maxRecDepth 100000 in
/-- THE LAW, from its entry -/
theorem whole_start {p : Program} {e : Env} {s : State} {m : MethodId} {below : List Frame} {meth : Method} {c : Code} (l : Launch) {b L : Nat} {xs : Nat → Int32} (hL : L ≤ 256) (C0 : lw_At p s m meth c b L xs) : W p l e room_1 s m #[Value.ref b] below meth c s.heap [] 0 0 (lw_Z below #[Value.ref b] s) (entryFrame m ([Value.ref b] : List Value).toArray 4) := by
  obtain ⟨hx, hb, hr, hml, hown, hts0, hX, hbl, hlocks, hgv⟩ := id C0
  have hts : ∀ w ∈ lw_all, w.before #[Value.ref b] s = true := fun w h => hts0 w (lw_all_tbl h)
  have hA : ∀ q : Nat, s.heap.size ≤ q → lwA s q := fun _ h => h
  obtain ⟨c0, iS0, hKn0⟩ := u_known (C := RX0) (T := TX0) (N := 16) (n := 16) hts0 (fun w h => lw_all_tbl (in_X0 w h)) (hts _ q23)
  obtain ⟨c1, iS1, hKn1⟩ := u_known (C := RX1) (T := TX1) (N := 9) (n := 9) hts0 (fun w h => lw_all_tbl (in_X1 w h)) (hts _ q211)
  obtain ⟨D, hKc⟩ : ∃ (D : va_G), ∀ (k : Nat) (q : vw_C), vwCl[k]? = some q → u_Kn s q.1 q.2.1 q.2.2 (D.1 k) (D.2 k) := by
    refine ⟨(fun k => if k = 0 then c0 else c1, fun k => if k = 0 then iS0 else iS1), ?_⟩
    intro k q hq
    match k, hq with
    | 0, hq => cases hq; exact hKn0
    | 1, hq => cases hq; exact hKn1
    | k + 2, hq => simp [vwCl] at hq
  obtain ⟨ci, hci⟩ := ra_of (Or.inl rfl) (hts _ q79)
  obtain ⟨cb, hcb⟩ := ra_of (Or.inr rfl) (hts _ q80)
  have hK : va_K D vwCl [(ci, .int), (cb, .boolean)] s := by
    refine ⟨hKc, fun k q h => ?_⟩
    match k, h with
    | 0, h => cases h; exact hci
    | 1, h => cases h; exact hcb
    | k + 2, h => simp at h
  have E : lwE p s m c b L xs D ci cb := ⟨hx, hb, hml, hown, hts, hK, hX, hbl, hL⟩
  have hS : va_S (lwA s) s.heap s.heap [] := va_S.rf
  have hP : va_P D vwCl [] s.heap := fun k q h => by simp at h
  have hD : va_D (lwA s) [] := ⟨fun i j p q h => by simp at h, fun k q h => by simp at h⟩
  have hl := lv_entry ([.ref b]) (n := 4) (Nat.le_of_ble_eq_true rfl)
  rw [lg_entry_eq]
  generalize (lg_sl ([.ref b]) ++ List.replicate (4 - (lg_sl ([.ref b])).length) Slot.unset).toArray = ls at hl ⊢
  have hl : lv_has ls 4 [(0, .ref b)] := hl
  refine va_new (ci := 0) (fs := bkN) (C := RX0) (T := TX0) (N := 16) hx hb hts in_X0 tyX0 tyX0_ok hown (hts _ q22) (hts _ q23) (hts _ q20) hK hP hD hS hA rfl bkN_ok (Nat.le_of_ble_eq_true rfl) (Nat.le_of_ble_eq_true rfl) dL_law_0 (fun a H hP hD hS => ?_)
  have hP : va_P D vwCl [(a, .inr (0, bkN))] H := hP
  have hD : va_D (lwA s) [(a, .inr (0, bkN))] := hD
  refine W.widen (k := 1) (n := 16) (Nat.le_of_ble_eq_true rfl) (Nat.le_of_ble_eq_true rfl) ?_
  refine lv_dup hx hb dL_law_3 rfl ?_
  have hPc := hP
  have hDc := hD
  have hFc := va_free (wc := [(a, .inr (0, bkN))]) hD hS hA [0] rfl
  refine va_callv (va_runI (As := []) (rest := [.ref a]) ⟨hx, hb, hml, hown, hts⟩ (bk_init l D a ci cb H.size) (cwI 0 hts (lw_meth q26) rfl rfl rfl (hts _ q20) (hts _ q24) (hts _ q25) rfl (by decide +kernel) ⟨Nat.le_of_ble_eq_true rfl, Nat.le_of_ble_eq_true rfl⟩) ⟨fun a U g mk q => by obtain ⟨q0, q1, qP, qK, qD⟩ := q; exact ⟨q0, q1, qP, va_K.moved (u := U) (U := U.calling g mk a) (Vm.Alike.refl U.vm) qK, qD⟩, fun U hU hW => ⟨rfl, by rw [hU], by rw [hU]; exact hPc, va_K.moved hW.alike hK, hDc.weaken (fun _ _ _ _ => trivial)⟩⟩ rfl rfl hl.1 rfl (lv_room (Nat.le_of_ble_eq_true rfl)) dL_law_4 ⟨Nat.le_of_ble_eq_true rfl, Nat.le_of_ble_eq_true rfl⟩) hS (fun q _ h => hFc q h) hFc (fun f t H1 locs ht hvm hw hB hz1 hk1 hS => ?_)
  obtain ⟨hP1, hK1, hD1⟩ := hB
  rw [ht] at hP1
  obtain ⟨hP, hD⟩ := va_join (wr := []) (w1 := bkW (D, a, f, ci, cb) bk0) hP hD [0] [] rfl rfl (by decide) (by decide) hk1 hFc hP1 hD1
  generalize H1 = H at hP hS ⊢
  have hP : va_P D vwCl (bkW (D, a, f, ci, cb) bk0) H := hP
  have hD : va_D (lwA s) (bkW (D, a, f, ci, cb) bk0) := hD
  refine W.widen (k := 10) (n := 1856) (Nat.le_of_ble_eq_true rfl) (Nat.le_of_ble_eq_true rfl) ?_
  refine lv_astore_n (lv' := [(1, .ref a), (0, .ref b)]) hx hb dL_law_7 rfl hl (by decide) rfl (fun ls hl => ?_)
  refine va_new (ci := 1) (fs := mdN) (C := RX1) (T := TX1) (N := 9) hx hb hts in_X1 tyX1 tyX1_ok hown (hts _ q210) (hts _ q211) (hts _ q21) hK hP hD hS hA rfl mdN_ok (Nat.le_of_ble_eq_true rfl) (Nat.le_of_ble_eq_true rfl) dL_law_8 (fun a' H hP hD hS => ?_)
  refine W.widen (k := 11) (n := 1865) (Nat.le_of_ble_eq_true rfl) (Nat.le_of_ble_eq_true rfl) ?_
  refine lv_dup hx hb dL_law_11 rfl ?_
  have hPc := hP.sub (ws' := [(a', .inr (1, mdN))]) [10] rfl
  have hDc := hD.sub (ws' := [(a', .inr (1, mdN))]) [10] (by decide) rfl
  have hFc := va_free (wc := [(a', .inr (1, mdN))]) hD hS hA [10] rfl
  refine va_callv (va_runI (As := []) (rest := [.ref a']) ⟨hx, hb, hml, hown, hts⟩ (md_init l D a' ci cb H.size) (cwI 0 hts (lw_meth q214) rfl rfl rfl (hts _ q21) (hts _ q212) (hts _ q213) rfl (by decide +kernel) ⟨Nat.le_of_ble_eq_true rfl, Nat.le_of_ble_eq_true rfl⟩) ⟨fun a U g mk q => by obtain ⟨q0, q1, qP, qK, qD⟩ := q; exact ⟨q0, q1, qP, va_K.moved (u := U) (U := U.calling g mk a) (Vm.Alike.refl U.vm) qK, qD⟩, fun U hU hW => ⟨rfl, by rw [hU], by rw [hU]; exact hPc, va_K.moved hW.alike hK, hDc.weaken (fun _ _ _ _ => trivial)⟩⟩ rfl rfl hl.1 rfl (lv_room (Nat.le_of_ble_eq_true rfl)) dL_law_12 ⟨Nat.le_of_ble_eq_true rfl, Nat.le_of_ble_eq_true rfl⟩) hS (fun q _ h => hFc q h) hFc (fun f' t H1 locs ht hvm hw hB hz1 hk1 hS => ?_)
  obtain ⟨hP1, hK1, hD1⟩ := hB
  rw [ht] at hP1
  obtain ⟨hP, hD⟩ := va_join (wr := bkW (D, a, f, ci, cb) bk0) (w1 := mdW (D, a', f', ci, cb) md0) hP hD [10] [0, 1, 2, 3, 4, 5, 6, 7, 8, 9] rfl rfl (by decide) (by decide) hk1 hFc hP1 hD1
  generalize H1 = H at hP hS ⊢
  refine W.widen (k := 17) (n := 2169) (Nat.le_of_ble_eq_true rfl) (Nat.le_of_ble_eq_true rfl) ?_
  refine lv_astore_n (lv' := [(2, .ref a'), (1, .ref a), (0, .ref b)]) hx hb dL_law_15 rfl hl (by decide) rfl (fun ls hl => ?_)
  refine zr_iconst hx hb dL_law_16 ?_
  refine lv_istore_n (lv' := [(3, .int (zi 0)), (2, .ref a'), (1, .ref a), (0, .ref b)]) hx hb dL_law_17 rfl hl (by decide) rfl (fun ls hl => ?_)
  exact law_loop l E hr hlocks 257 0 bk0 md0 _ _ ls (by omega) (by omega) RI_0 ⟨hP, hD, hS⟩ (lv_sub hl [3, 2, 1, 0] rfl)
end
section
set_option maxHeartbeats 4000000 in
theorem lw_walk (l : Launch) (b : Addr) (xs : List Int32) : MetFree l x (headSpec (Jvm.Cond.code x code maxLocals ret :: tables_1) room_1) (lw_P b xs) (fun _ _ _ _ _ => True) lw_Q := by
  refine MetFree.of_bodyS (code := code) (maxLocals := maxLocals) (ret := ret) (by decide) ?_ ?_
  · intro args s m h hn
    obtain ⟨meth, c, h1, h2, h3, h4, h5, h6, -, -⟩ := Cond.code_spec hn (atoms_spec (ws := Jvm.Cond.code x code maxLocals ret :: tables_1) h _ List.mem_cons_self)
    exact ⟨meth, c, h1, h2, h3, h4, h5, h6⟩
  · intro p e s m args below meth c s₁ B hml0 hP _
    obtain ⟨rfl, hx, hbd, hgv⟩ := hP
    obtain ⟨scr, harrAt, hlist, hof, hsmall⟩ := hx
    obtain ⟨hcb, hkn, -, -⟩ := State.arrayAt?_spec harrAt
    have hown : s.vm.findClass R_law = some m.cls := findClass_of_methodNamed B.named
    have hts0 : ∀ c ∈ (Jvm.Cond.code x code maxLocals ret :: tables_1), c.before #[Value.ref b] s = true := atoms_spec (ws := Jvm.Cond.code x code maxLocals ret :: tables_1) B.pre
    have hts : ∀ w ∈ lw_tbl, w.before #[Value.ref b] s = true := k2_hts_sels lw_privs (fun w hw => hts0 w (List.mem_cons_of_mem _ hw)) lw_privs_ok
    have hml : c.maxLocals = 4 := B.maxLocals_eq (hts0 _ List.mem_cons_self)
    have X₀ : Stand p l e room_1 s m #[Value.ref b] below meth c s₁ [] 0 0 := Stand.of_body B
    have hh0 : s₁.heap = s.heap := by rw [B.state]; rfl
    have hsz : scr.slots.size = xs.length := by rw [← Array.length_toList, hlist, List.length_map]
    have hval : ∀ j : Nat, j < xs.length → scr.slots[j]? = some (.int (xs.getD j 0)) := fun j hj => by
      rw [← Array.getElem?_toList, hlist]
      simp [hj]
    have hbl : b < s.heap.size := (Array.getElem?_eq_some_iff.mp hcb).1
    have hX : va_X b xs.length (fun j => xs.getD j 0) s s.heap := ⟨scr, hcb, hof, hkn, hsz, hval⟩
    have K : W p l e room_1 s m #[Value.ref b] below meth c s₁.heap [] 0 0 (lw_Z below #[Value.ref b] s) (entryFrame m ([Value.ref b] : List Value).toArray 4) := by
      rw [hh0]
      exact whole_start l hbd ⟨B.exec, B.bytes, B.returns, hml, hown, hts, hX, hbl, B.notSynchronized, hgv⟩
    obtain ⟨t, a1, o, b1, b2, b3⟩ := K s₁ rfl X₀
    exact ⟨t, o, a1, b1, b2, b3⟩
theorem lw_pre_spec {args : Array Value} {s : State} (h : (Jvm.Cond.and given_1 narrow_1).before args s = true) (hr : rest_1_c.before args s = true) : ∃ (b : Addr) (xs : List Int32), lw_P b xs args s := by
  have hs := flat_of_before _ h
  have hq := flat_of_before _ hr
  have hc : (Cond.count 1).before args s = true := hs _ (by decide +kernel)
  have harr : (Cond.arrayOf (.arg 0) .int).before args s = true := hs _ (by decide +kernel)
  have hle : (Cond.le (.length (.arg 0)) (.int 256)).before args s = true := hs _ (by decide +kernel)
  have hlen : (Cond.isInt (.length (.arg 0))).before args s = true := hq _ (by decide +kernel)
  have hall : (Cond.all (.arg 0) (.isInt (.elem (.arg 0) (.index 0)))).before args s = true := hq _ (by decide +kernel)
  obtain ⟨b, xs, hb, hx⟩ := State.ints_of_pre rfl harr hlen hall
  have hsm : xs.length < 2 ^ 31 := hx.choose_spec.2.2.2
  have hev : (Term.length (.arg 0)).eval args s none [] s = some (.int xs.length.toInt32) := hx.length_eval hb
  have hv := Cond.le_ints hev (show (Term.int 256).eval args s none [] s = some (.int 256) from rfl)
  have hd : xs.length.toInt32 ≤ 256 := by
    simpa [Cond.before, Cond.holds, hv] using hle
  have hN : xs.length ≤ 256 := (Int32.ofNat_le_ofNat hsm (by decide)).mp (show Int32.ofNat xs.length ≤ Int32.ofNat 256 from hd)
  exact ⟨b, xs, Cond.one_arg hc (show args[0]? = some (.ref b) from hb), hx, hN, h⟩
theorem lw_comes (l : Launch) : Comes l x (Jvm.Cond.code x code maxLocals ret :: tables_1) room_1 (fun tb e args s => Calls_1 tb e args s ∧ rest_1 tb e args s ∧ Pre_1 tb e args s)
    (fun _ _ args s o t => lw_Q args s o t) := by
  intro p e ha hc hk s m args below hf hfit hheap happ hpre
  obtain ⟨b, xs, hP⟩ := lw_pre_spec hpre.2.2 hpre.2.1
  obtain ⟨k, o, h1, h2, h3, hQ⟩ := lw_walk l b xs p e ha hc hk s m args below hf ((Spec.applies_iff_loose hf).mp happ).1 hP trivial
  exact ⟨k, o, h1, h2, h3, hQ⟩
theorem lw_frame {s t : State} {o : Outcome} {args : Array Value} (h : Framed s o t [] 600000 7290000) :
    Framed s o t (fieldLocs frame_1_writes args s ++ arrayLocs frame_1_arrays args s ++ staticLocs frame_1_statics s) 600000 7290000 := h
theorem lw_limb (L : Cond) (hL : ∀ (args : Array Value) (s t : State), L.after args s (.returned (some (.int 1))) t = true) :
    ArmFor flags0 classFile x code maxLocals ret World_1 tables_1 room_1 Calls_1 rest_1 Pre_1
      (fun tb e a s o t => postC L tb e a s o t ∧ Framed s o t (fieldLocs frame_1_writes a s ++ arrayLocs frame_1_arrays a s ++ staticLocs frame_1_statics s) 600000 7290000) := by
  intro l _ _ _ p e ha hc hk s m args below hf hfit hheap happ hpre
  obtain ⟨k, o, h1, h2, h3, rfl, hF⟩ := lw_comes l p e ha hc hk s m args below hf hfit hheap happ hpre
  exact ⟨k, _, h1, h2, h3, hL args s _, lw_frame hF⟩
theorem i_vc : Claimed_1_1 ∧ Claimed_1_2 := ⟨lw_limb limb_1_1 (fun args s t => by simp [limb_1_1, Cond.after, Cond.holds, Cond.value]), lw_limb limb_1_2 (fun args s t => Cond.after_iff.mpr (by
  first | (rw [show limb_1_2 = Cond.eq .result (.int 1) from rfl, Cond.eq_ints (x := 1) (y := 1) rfl rfl]; simp; done) | (simp [limb_1_2, Cond.value, Term.eval]; done)))⟩
end
