section
/-- a private method of a class that the tables say can be made, by its rows of tables_1 -/
def lw_okq (q : MethodName × Nat) : Prop := (q.1.cls ≠ "java/lang/invoke/MethodHandle" ∧ q.1.cls ≠ "java/lang/invoke/VarHandle") ∧ Cond.instantiable q.1.cls q.2 ∈ tables_1 ∧ Cond.privateMethod q.1 ∈ tables_1 ∧ Cond.instanceMethod q.1 ∈ tables_1
set_option maxRecDepth 100000
theorem lw_t1 {w : Cond} (h : w ∈ tables_1_1) : w ∈ tables_1 := List.mem_append_left _ h
theorem lw_t2 {w : Cond} (h : w ∈ tables_1_2) : w ∈ tables_1 := List.mem_append_right _ h
theorem lw_p0 : lw_okq (⟨"BlockRows", "isBlock", "(I)Z"⟩, 21) := ⟨⟨by decide +kernel, by decide +kernel⟩, lw_t1 (List.mem_of_getElem? (i := 5) rfl), lw_t1 (List.mem_of_getElem? (i := 90) rfl), lw_t1 (List.mem_of_getElem? (i := 91) rfl)⟩
theorem lw_p1 : lw_okq (⟨"BlockRows", "work", "()V"⟩, 21) := ⟨⟨by decide +kernel, by decide +kernel⟩, lw_t1 (List.mem_of_getElem? (i := 5) rfl), lw_t1 (List.mem_of_getElem? (i := 114) rfl), lw_t1 (List.mem_of_getElem? (i := 115) rfl)⟩
theorem lw_p2 : lw_okq (⟨"BlockRows", "join", "()V"⟩, 21) := ⟨⟨by decide +kernel, by decide +kernel⟩, lw_t1 (List.mem_of_getElem? (i := 5) rfl), lw_t1 (List.mem_of_getElem? (i := 118) rfl), lw_t1 (List.mem_of_getElem? (i := 119) rfl)⟩
theorem lw_p3 : lw_okq (⟨"BlockRows", "sort", "()I"⟩, 21) := ⟨⟨by decide +kernel, by decide +kernel⟩, lw_t1 (List.mem_of_getElem? (i := 5) rfl), lw_t1 (List.mem_of_getElem? (i := 122) rfl), lw_t1 (List.mem_of_getElem? (i := 123) rfl)⟩
theorem lw_p4 : lw_okq (⟨"BlockRows", "sink", "(II)V"⟩, 21) := ⟨⟨by decide +kernel, by decide +kernel⟩, lw_t1 (List.mem_of_getElem? (i := 5) rfl), lw_t1 (List.mem_of_getElem? (i := 126) rfl), lw_t1 (List.mem_of_getElem? (i := 127) rfl)⟩
theorem lw_p5 : lw_okq (⟨"BlockRows", "isSooner", "(II)Z"⟩, 21) := ⟨⟨by decide +kernel, by decide +kernel⟩, lw_t1 (List.mem_of_getElem? (i := 5) rfl), lw_t1 (List.mem_of_getElem? (i := 130) rfl), lw_t1 (List.mem_of_getElem? (i := 131) rfl)⟩
theorem lw_p6 : lw_okq (⟨"BlockRows", "headOf", "(I)I"⟩, 21) := ⟨⟨by decide +kernel, by decide +kernel⟩, lw_t1 (List.mem_of_getElem? (i := 5) rfl), lw_t1 (List.mem_of_getElem? (i := 134) rfl), lw_t1 (List.mem_of_getElem? (i := 135) rfl)⟩
theorem lw_p7 : lw_okq (⟨"BlockRows", "weigh", "([II)J"⟩, 21) := ⟨⟨by decide +kernel, by decide +kernel⟩, lw_t1 (List.mem_of_getElem? (i := 5) rfl), lw_t1 (List.mem_of_getElem? (i := 138) rfl), lw_t1 (List.mem_of_getElem? (i := 139) rfl)⟩
theorem lw_p8 : lw_okq (⟨"BlockRows", "best", "()I"⟩, 21) := ⟨⟨by decide +kernel, by decide +kernel⟩, lw_t1 (List.mem_of_getElem? (i := 5) rfl), lw_t1 (List.mem_of_getElem? (i := 142) rfl), lw_t1 (List.mem_of_getElem? (i := 143) rfl)⟩
theorem lw_p9 : lw_okq (⟨"BlockRows", "put", "(II)I"⟩, 21) := ⟨⟨by decide +kernel, by decide +kernel⟩, lw_t1 (List.mem_of_getElem? (i := 5) rfl), lw_t1 (List.mem_of_getElem? (i := 146) rfl), lw_t1 (List.mem_of_getElem? (i := 147) rfl)⟩
theorem lw_p10 : lw_okq (⟨"BlockRowsModel", "isBlock", "(I)Z"⟩, 18) := ⟨⟨by decide +kernel, by decide +kernel⟩, lw_t1 (List.mem_of_getElem? (i := 162) rfl), lw_t1 (List.mem_of_getElem? (i := 232) rfl), lw_t1 (List.mem_of_getElem? (i := 233) rfl)⟩
theorem lw_p11 : lw_okq (⟨"BlockRowsModel", "find", "(II)I"⟩, 18) := ⟨⟨by decide +kernel, by decide +kernel⟩, lw_t1 (List.mem_of_getElem? (i := 162) rfl), lw_t2 (List.mem_of_getElem? (i := 3) rfl), lw_t2 (List.mem_of_getElem? (i := 4) rfl)⟩
theorem lw_p12 : lw_okq (⟨"BlockRowsModel", "know", "()V"⟩, 18) := ⟨⟨by decide +kernel, by decide +kernel⟩, lw_t1 (List.mem_of_getElem? (i := 162) rfl), lw_t2 (List.mem_of_getElem? (i := 18) rfl), lw_t2 (List.mem_of_getElem? (i := 19) rfl)⟩
theorem lw_p13 : lw_okq (⟨"BlockRowsModel", "chains", "()V"⟩, 18) := ⟨⟨by decide +kernel, by decide +kernel⟩, lw_t1 (List.mem_of_getElem? (i := 162) rfl), lw_t2 (List.mem_of_getElem? (i := 22) rfl), lw_t2 (List.mem_of_getElem? (i := 23) rfl)⟩
theorem lw_p14 : lw_okq (⟨"BlockRowsModel", "comesBefore", "(II)Z"⟩, 18) := ⟨⟨by decide +kernel, by decide +kernel⟩, lw_t1 (List.mem_of_getElem? (i := 162) rfl), lw_t2 (List.mem_of_getElem? (i := 26) rfl), lw_t2 (List.mem_of_getElem? (i := 27) rfl)⟩
theorem lw_p15 : lw_okq (⟨"BlockRowsModel", "place", "()V"⟩, 18) := ⟨⟨by decide +kernel, by decide +kernel⟩, lw_t1 (List.mem_of_getElem? (i := 162) rfl), lw_t2 (List.mem_of_getElem? (i := 30) rfl), lw_t2 (List.mem_of_getElem? (i := 31) rfl)⟩
def lw_privs_1 : List (MethodName × Nat) := [(⟨"BlockRows", "isBlock", "(I)Z"⟩, 21), (⟨"BlockRows", "work", "()V"⟩, 21), (⟨"BlockRows", "join", "()V"⟩, 21), (⟨"BlockRows", "sort", "()I"⟩, 21), (⟨"BlockRows", "sink", "(II)V"⟩, 21), (⟨"BlockRows", "isSooner", "(II)Z"⟩, 21), (⟨"BlockRows", "headOf", "(I)I"⟩, 21), (⟨"BlockRows", "weigh", "([II)J"⟩, 21), (⟨"BlockRows", "best", "()I"⟩, 21), (⟨"BlockRows", "put", "(II)I"⟩, 21), (⟨"BlockRowsModel", "isBlock", "(I)Z"⟩, 18), (⟨"BlockRowsModel", "find", "(II)I"⟩, 18), (⟨"BlockRowsModel", "know", "()V"⟩, 18), (⟨"BlockRowsModel", "chains", "()V"⟩, 18), (⟨"BlockRowsModel", "comesBefore", "(II)Z"⟩, 18), (⟨"BlockRowsModel", "place", "()V"⟩, 18)]
theorem lw_r1 : ∀ q ∈ lw_privs_1, lw_okq q := List.forall_mem_cons.mpr ⟨lw_p0, List.forall_mem_cons.mpr ⟨lw_p1, List.forall_mem_cons.mpr ⟨lw_p2, List.forall_mem_cons.mpr ⟨lw_p3, List.forall_mem_cons.mpr ⟨lw_p4, List.forall_mem_cons.mpr ⟨lw_p5, List.forall_mem_cons.mpr ⟨lw_p6, List.forall_mem_cons.mpr ⟨lw_p7, List.forall_mem_cons.mpr ⟨lw_p8, List.forall_mem_cons.mpr ⟨lw_p9, List.forall_mem_cons.mpr ⟨lw_p10, List.forall_mem_cons.mpr ⟨lw_p11, List.forall_mem_cons.mpr ⟨lw_p12, List.forall_mem_cons.mpr ⟨lw_p13, List.forall_mem_cons.mpr ⟨lw_p14, List.forall_mem_cons.mpr ⟨lw_p15, fun _ h => absurd h List.not_mem_nil⟩⟩⟩⟩⟩⟩⟩⟩⟩⟩⟩⟩⟩⟩⟩⟩
theorem lw_p16 : lw_okq (⟨"BlockRowsModel", "sum", "(I)J"⟩, 18) := ⟨⟨by decide +kernel, by decide +kernel⟩, lw_t1 (List.mem_of_getElem? (i := 162) rfl), lw_t2 (List.mem_of_getElem? (i := 34) rfl), lw_t2 (List.mem_of_getElem? (i := 35) rfl)⟩
theorem lw_p17 : lw_okq (⟨"BlockRowsModel", "weightOf", "([II)J"⟩, 18) := ⟨⟨by decide +kernel, by decide +kernel⟩, lw_t1 (List.mem_of_getElem? (i := 162) rfl), lw_t2 (List.mem_of_getElem? (i := 38) rfl), lw_t2 (List.mem_of_getElem? (i := 39) rfl)⟩
def lw_privs_2 : List (MethodName × Nat) := [(⟨"BlockRowsModel", "sum", "(I)J"⟩, 18), (⟨"BlockRowsModel", "weightOf", "([II)J"⟩, 18)]
theorem lw_r2 : ∀ q ∈ lw_privs_2, lw_okq q := List.forall_mem_cons.mpr ⟨lw_p16, List.forall_mem_cons.mpr ⟨lw_p17, fun _ h => absurd h List.not_mem_nil⟩⟩
def lw_privs : List (MethodName × Nat) := lw_privs_1 ++ (lw_privs_2)
def lw_tbl : List Cond := k2_sels lw_privs ++ tables_1
theorem lw_privs_ok : ∀ q ∈ lw_privs, lw_okq q := by
  show ∀ q ∈ lw_privs_1 ++ (lw_privs_2), lw_okq q
  exact List.forall_mem_append.mpr ⟨lw_r1, lw_r2⟩
-- ===== ONE list of words for every method: the tables' words that hold all through a run =====
def lw_all : List Cond := lw_tbl.filter goodWord
/-- a word of the tables by its place: claim/WORDS.tsv -/
theorem lw_w {w : Cond} (i : Nat) (h : lw_tbl[i]? = some w) (g : goodWord w = true) : w ∈ lw_all := List.mem_filter.mpr ⟨List.mem_of_getElem? h, g⟩
theorem lw_all_tbl {w : Cond} (h : w ∈ lw_all) : w ∈ lw_tbl := (List.mem_filter.mp h).1
theorem lw_self : GoodIn lw_all lw_all := fun w h => ⟨h, good_of_word (List.mem_filter.mp h).2⟩
/-- a class's field words, by their places -/
theorem lw_in (ws : List Cond) (ps : List Nat) (hp : ws = ps.filterMap (fun i => lw_tbl[i]?)) (hg : ws.all goodWord = true) : ∀ w ∈ ws, w ∈ lw_all := by
  intro w h
  have h1 := List.all_eq_true.mp hg w h
  rw [hp] at h
  obtain ⟨i, -, hi⟩ := List.mem_filterMap.mp h
  exact lw_w i hi h1
/-- the words of a contract for the method y with code b, L locals, answer r -/
abbrev ws_ (y : MethodName) (b : ByteArray) (L : Nat) (r : Option FieldType) : List Cond := Cond.code y b L r :: lw_all
theorem lw_meth {y : MethodName} {b : ByteArray} {L : Nat} {r : Option FieldType} (h : Cond.code y b L r ∈ lw_all) : GoodIn lw_all (ws_ y b L r) := by
  intro w hw
  rcases List.mem_cons.mp hw with e | e
  · rw [e]
    exact lw_self _ h
  · exact lw_self _ e
theorem lw_app {a c : List Cond} (ha : ∀ w ∈ a, w ∈ lw_all) (hc : GoodIn lw_all c) : GoodIn lw_all (a ++ c) := by
  intro w hw
  rcases List.mem_append.mp hw with e | e
  · exact lw_self w (ha w e)
  · exact hc w e
/-- what a call through an object asks: cwV n hts (lw_V ..) -/
theorem lw_V {own : String} {idx : Nat} {C : String} {y : MethodName} {b : ByteArray} {L : Nat} {r : Option FieldType} (h1 : Cond.methodLink own idx y ∈ lw_all) (h2 : Cond.instanceMethod y ∈ lw_all) (h3 : Cond.selects C y y ∈ lw_all) (h4 : Cond.initialized C ∈ lw_all) (h5 : Cond.code y b L r ∈ lw_all) : GoodIn lw_all (wsV own idx C y (ws_ y b L r)) := by
  refine lw_app ?_ (lw_meth h5)
  intro w hw
  simp only [List.mem_cons, List.not_mem_nil, or_false] at hw
  rcases hw with e | e | e | e
  · rw [e]; exact h1
  · rw [e]; exact h2
  · rw [e]; exact h3
  · rw [e]; exact h4
/-- what a static call asks: va_cwS n hts (lw_S ..) -/
theorem lw_S {own : String} {idx : Nat} {y : MethodName} {b : ByteArray} {L : Nat} {r : Option FieldType} (h1 : Cond.methodLink own idx y ∈ lw_all) (h2 : Cond.static y ∈ lw_all) (h3 : Cond.initialized y.cls ∈ lw_all) (h4 : Cond.code y b L r ∈ lw_all) : GoodIn lw_all (va_wsS own idx y (ws_ y b L r)) := by
  refine lw_app ?_ (lw_meth h4)
  intro w hw
  simp only [List.mem_cons, List.not_mem_nil, or_false] at hw
  rcases hw with e | e | e
  · rw [e]; exact h1
  · rw [e]; exact h2
  · rw [e]; exact h3
/-- the words of a contract for a method WITH HANDLERS (hh: its table) -/
abbrev wsW_ (y : MethodName) (b : ByteArray) (L : Nat) (r : Option FieldType) (hh : List (Nat × Nat × Nat × Nat)) : List Cond := Cond.codeWith y b L r hh :: lw_all
theorem lw_methW {y : MethodName} {b : ByteArray} {L : Nat} {r : Option FieldType} {hh : List (Nat × Nat × Nat × Nat)} (h : Cond.codeWith y b L r hh ∈ lw_all) : GoodIn lw_all (wsW_ y b L r hh) := by
  intro w hw
  rcases List.mem_cons.mp hw with e | e
  · rw [e]
    exact lw_self _ h
  · exact lw_self _ e
/-- any list of words by their places (lw_in), good -/
theorem lw_good {ws : List Cond} (h : ∀ w ∈ ws, w ∈ lw_all) : GoodIn lw_all ws := fun w hw => lw_self w (h w hw)
/-- what a call of a method with handlers asks: vx_cwVW n hts (lw_VW ..), vx_cwSW n hts (lw_SW ..) -/
theorem lw_VW {own : String} {idx : Nat} {C : String} {y : MethodName} {b : ByteArray} {L : Nat} {r : Option FieldType} {hh : List (Nat × Nat × Nat × Nat)} (h1 : Cond.methodLink own idx y ∈ lw_all) (h2 : Cond.instanceMethod y ∈ lw_all) (h3 : Cond.selects C y y ∈ lw_all) (h4 : Cond.initialized C ∈ lw_all) (h5 : Cond.codeWith y b L r hh ∈ lw_all) : GoodIn lw_all (wsV own idx C y (wsW_ y b L r hh)) := by
  refine lw_app ?_ (lw_methW h5)
  intro w hw
  simp only [List.mem_cons, List.not_mem_nil, or_false] at hw
  rcases hw with e | e | e | e
  · rw [e]; exact h1
  · rw [e]; exact h2
  · rw [e]; exact h3
  · rw [e]; exact h4
theorem lw_SW {own : String} {idx : Nat} {y : MethodName} {b : ByteArray} {L : Nat} {r : Option FieldType} {hh : List (Nat × Nat × Nat × Nat)} (h1 : Cond.methodLink own idx y ∈ lw_all) (h2 : Cond.static y ∈ lw_all) (h3 : Cond.initialized y.cls ∈ lw_all) (h4 : Cond.codeWith y b L r hh ∈ lw_all) : GoodIn lw_all (va_wsS own idx y (wsW_ y b L r hh)) := by
  refine lw_app ?_ (lw_methW h4)
  intro w hw
  simp only [List.mem_cons, List.not_mem_nil, or_false] at hw
  rcases hw with e | e | e
  · rw [e]; exact h1
  · rw [e]; exact h2
  · rw [e]; exact h3
/-- a word by its place in its run of the tables -/
theorem lw_at {r : List Cond} (hr : ∀ w ∈ r, w ∈ lw_tbl) {w : Cond} (i : Nat) (h : r[i]? = some w) : w ∈ lw_tbl := hr w (List.mem_of_getElem? h)
theorem lw_g {w : Cond} (h : w ∈ lw_tbl) (g : goodWord w = true) : w ∈ lw_all := List.mem_filter.mpr ⟨h, g⟩
theorem lw_ms : ∀ w ∈ k2_sels lw_privs, w ∈ lw_tbl := fun w h => show w ∈ k2_sels lw_privs ++ tables_1 from List.mem_append_left _ h
theorem lw_m1 : ∀ w ∈ tables_1_1, w ∈ lw_tbl := fun w h => show w ∈ k2_sels lw_privs ++ tables_1 from List.mem_append_right (k2_sels lw_privs) (show w ∈ tables_1 from List.mem_append_left _ h)
theorem lw_m2 : ∀ w ∈ tables_1_2, w ∈ lw_tbl := fun w h => show w ∈ k2_sels lw_privs ++ tables_1 from List.mem_append_right (k2_sels lw_privs) (show w ∈ tables_1 from List.mem_append_right _ h)
theorem qs0 : (Cond.selects "BlockRows" ⟨"BlockRows", "isBlock", "(I)Z"⟩ ⟨"BlockRows", "isBlock", "(I)Z"⟩) ∈ lw_all := lw_g (lw_at lw_ms 0 rfl) rfl
theorem qs1 : (Cond.selects "BlockRows" ⟨"BlockRows", "work", "()V"⟩ ⟨"BlockRows", "work", "()V"⟩) ∈ lw_all := lw_g (lw_at lw_ms 1 rfl) rfl
theorem qs2 : (Cond.selects "BlockRows" ⟨"BlockRows", "join", "()V"⟩ ⟨"BlockRows", "join", "()V"⟩) ∈ lw_all := lw_g (lw_at lw_ms 2 rfl) rfl
theorem qs3 : (Cond.selects "BlockRows" ⟨"BlockRows", "sort", "()I"⟩ ⟨"BlockRows", "sort", "()I"⟩) ∈ lw_all := lw_g (lw_at lw_ms 3 rfl) rfl
theorem qs4 : (Cond.selects "BlockRows" ⟨"BlockRows", "sink", "(II)V"⟩ ⟨"BlockRows", "sink", "(II)V"⟩) ∈ lw_all := lw_g (lw_at lw_ms 4 rfl) rfl
theorem qs5 : (Cond.selects "BlockRows" ⟨"BlockRows", "isSooner", "(II)Z"⟩ ⟨"BlockRows", "isSooner", "(II)Z"⟩) ∈ lw_all := lw_g (lw_at lw_ms 5 rfl) rfl
theorem qs6 : (Cond.selects "BlockRows" ⟨"BlockRows", "headOf", "(I)I"⟩ ⟨"BlockRows", "headOf", "(I)I"⟩) ∈ lw_all := lw_g (lw_at lw_ms 6 rfl) rfl
theorem qs7 : (Cond.selects "BlockRows" ⟨"BlockRows", "weigh", "([II)J"⟩ ⟨"BlockRows", "weigh", "([II)J"⟩) ∈ lw_all := lw_g (lw_at lw_ms 7 rfl) rfl
theorem qs8 : (Cond.selects "BlockRows" ⟨"BlockRows", "best", "()I"⟩ ⟨"BlockRows", "best", "()I"⟩) ∈ lw_all := lw_g (lw_at lw_ms 8 rfl) rfl
theorem qs9 : (Cond.selects "BlockRows" ⟨"BlockRows", "put", "(II)I"⟩ ⟨"BlockRows", "put", "(II)I"⟩) ∈ lw_all := lw_g (lw_at lw_ms 9 rfl) rfl
theorem qs10 : (Cond.selects "BlockRowsModel" ⟨"BlockRowsModel", "isBlock", "(I)Z"⟩ ⟨"BlockRowsModel", "isBlock", "(I)Z"⟩) ∈ lw_all := lw_g (lw_at lw_ms 10 rfl) rfl
theorem qs11 : (Cond.selects "BlockRowsModel" ⟨"BlockRowsModel", "find", "(II)I"⟩ ⟨"BlockRowsModel", "find", "(II)I"⟩) ∈ lw_all := lw_g (lw_at lw_ms 11 rfl) rfl
theorem qs12 : (Cond.selects "BlockRowsModel" ⟨"BlockRowsModel", "know", "()V"⟩ ⟨"BlockRowsModel", "know", "()V"⟩) ∈ lw_all := lw_g (lw_at lw_ms 12 rfl) rfl
theorem qs13 : (Cond.selects "BlockRowsModel" ⟨"BlockRowsModel", "chains", "()V"⟩ ⟨"BlockRowsModel", "chains", "()V"⟩) ∈ lw_all := lw_g (lw_at lw_ms 13 rfl) rfl
theorem qs14 : (Cond.selects "BlockRowsModel" ⟨"BlockRowsModel", "comesBefore", "(II)Z"⟩ ⟨"BlockRowsModel", "comesBefore", "(II)Z"⟩) ∈ lw_all := lw_g (lw_at lw_ms 14 rfl) rfl
theorem qs15 : (Cond.selects "BlockRowsModel" ⟨"BlockRowsModel", "place", "()V"⟩ ⟨"BlockRowsModel", "place", "()V"⟩) ∈ lw_all := lw_g (lw_at lw_ms 15 rfl) rfl
theorem qs16 : (Cond.selects "BlockRowsModel" ⟨"BlockRowsModel", "sum", "(I)J"⟩ ⟨"BlockRowsModel", "sum", "(I)J"⟩) ∈ lw_all := lw_g (lw_at lw_ms 16 rfl) rfl
theorem qs17 : (Cond.selects "BlockRowsModel" ⟨"BlockRowsModel", "weightOf", "([II)J"⟩ ⟨"BlockRowsModel", "weightOf", "([II)J"⟩) ∈ lw_all := lw_g (lw_at lw_ms 17 rfl) rfl
end
section
set_option maxRecDepth 100000
/-! BlockRows -/
def RX0 : String := "BlockRows"
def TX0 : u_T := fun k => match k with
  | 0 => ("BlockRows", "blocks", "I", false)
  | 1 => ("BlockRows", "isHot", "[Z", true)
  | 2 => ("BlockRows", "from", "[I", true)
  | 3 => ("BlockRows", "to", "[I", true)
  | 4 => ("BlockRows", "counts", "[J", true)
  | 5 => ("BlockRows", "falls", "[Z", true)
  | 6 => ("BlockRows", "wayOf", "[S", true)
  | 7 => ("BlockRows", "ways", "I", false)
  | 8 => ("BlockRows", "isDone", "Z", false)
  | 9 => ("BlockRows", "sorted", "[I", true)
  | 10 => ("BlockRows", "next", "[I", true)
  | 11 => ("BlockRows", "before", "[I", true)
  | 12 => ("BlockRows", "head", "[I", true)
  | 13 => ("BlockRows", "isPlaced", "[Z", true)
  | 14 => ("BlockRows", "score", "[J", true)
  | 15 => ("BlockRows", "byChains", "[I", true)
  | 16 => ("BlockRows", "byNumber", "[I", true)
  | 17 => ("BlockRows", "rowOfBlocks", "[I", true)
  | 18 => ("BlockRows", "place", "[I", true)
  | 19 => ("BlockRows", "hot", "I", false)
  | _ => ("BlockRows", "weights", "[J", true)
def tyX0 : Nat → FieldType := fun k => match k with
  | 0 => .int
  | 1 => .array .boolean
  | 2 => .array .int
  | 3 => .array .int
  | 4 => .array .long
  | 5 => .array .boolean
  | 6 => .array .short
  | 7 => .int
  | 8 => .boolean
  | 9 => .array .int
  | 10 => .array .int
  | 11 => .array .int
  | 12 => .array .int
  | 13 => .array .boolean
  | 14 => .array .long
  | 15 => .array .int
  | 16 => .array .int
  | 17 => .array .int
  | 18 => .array .int
  | 19 => .int
  | _ => .array .long
abbrev wsX00 : List Cond := u_ws RX0 TX0 21
set_option maxRecDepth 100000 in
theorem nmX0 : ∀ a, a < 21 → ∀ b, b < 21 → a ≠ b → (TX0 a).2.1 ≠ (TX0 b).2.1 := by decide +kernel
set_option maxRecDepth 100000 in
theorem tyX0_ok : ∀ k, k < 21 → parseFieldDescriptor (TX0 k).2.2.1 = some (tyX0 k) := by decide +kernel
abbrev cX0_init : ByteArray := prog_1_method_1_code
def yX0_init : MethodName := ⟨RX0, "<init>", "()V"⟩
abbrev cX0_size : ByteArray := prog_1_method_2_code
def yX0_size : MethodName := ⟨RX0, "size", "(I)Z"⟩
abbrev cX0_heat : ByteArray := prog_1_method_4_code
def yX0_heat : MethodName := ⟨RX0, "heat", "(IZ)Z"⟩
abbrev cX0_isBlock : ByteArray := prog_1_method_3_code
def yX0_isBlock : MethodName := ⟨RX0, "isBlock", "(I)Z"⟩
abbrev cX0_way : ByteArray := prog_1_method_5_code
def yX0_way : MethodName := ⟨RX0, "way", "(IIIZ)J"⟩
abbrev cX0_count : ByteArray := prog_1_method_6_code
def yX0_count : MethodName := ⟨RX0, "count", "(II)J"⟩
abbrev cX0_length : ByteArray := prog_1_method_16_code
def yX0_length : MethodName := ⟨RX0, "length", "()I"⟩
abbrev cX0_work : ByteArray := prog_1_method_15_code
def yX0_work : MethodName := ⟨RX0, "work", "()V"⟩
abbrev cX0_join : ByteArray := prog_1_method_11_code
def yX0_join : MethodName := ⟨RX0, "join", "()V"⟩
abbrev cX0_sort : ByteArray := prog_1_method_8_code
def yX0_sort : MethodName := ⟨RX0, "sort", "()I"⟩
abbrev cX0_sink : ByteArray := prog_1_method_9_code
def yX0_sink : MethodName := ⟨RX0, "sink", "(II)V"⟩
abbrev cX0_isSooner : ByteArray := prog_1_method_7_code
def yX0_isSooner : MethodName := ⟨RX0, "isSooner", "(II)Z"⟩
abbrev cX0_headOf : ByteArray := prog_1_method_10_code
def yX0_headOf : MethodName := ⟨RX0, "headOf", "(I)I"⟩
abbrev cX0_weigh : ByteArray := prog_1_method_14_code
def yX0_weigh : MethodName := ⟨RX0, "weigh", "([II)J"⟩
abbrev cX0_best : ByteArray := prog_1_method_12_code
def yX0_best : MethodName := ⟨RX0, "best", "()I"⟩
abbrev cX0_put : ByteArray := prog_1_method_13_code
def yX0_put : MethodName := ⟨RX0, "put", "(II)I"⟩
abbrev cX0_row : ByteArray := prog_1_method_17_code
def yX0_row : MethodName := ⟨RX0, "row", "(I)I"⟩
abbrev cX0_weight : ByteArray := prog_1_method_18_code
def yX0_weight : MethodName := ⟨RX0, "weight", "(I)J"⟩
abbrev cX0_chain : ByteArray := prog_1_method_19_code
def yX0_chain : MethodName := ⟨RX0, "chain", "(I)I"⟩
theorem q19 : (Jvm.Cond.initialized "BlockRows") ∈ lw_all := lw_g (lw_at lw_m1 1 rfl) rfl
theorem q23 : (Jvm.Cond.instantiable "BlockRows" (21 : Nat)) ∈ lw_all := lw_g (lw_at lw_m1 5 rfl) rfl
theorem q25 : (Jvm.Cond.instanceMethod ({ cls := "BlockRows", name := "<init>", desc := "()V" } : Jvm.MethodName)) ∈ lw_all := lw_g (lw_at lw_m1 7 rfl) rfl
theorem q26 : (Jvm.Cond.code ({ cls := "BlockRows", name := "<init>", desc := "()V" } : Jvm.MethodName) prog_1_method_1_code (1 : Nat) (Option.none : Option Jvm.ClassFile.FieldType)) ∈ lw_all := lw_g (lw_at lw_m1 8 rfl) rfl
theorem q27 : (Jvm.Cond.methodLink "BlockRows" (1 : Nat) ({ cls := "java/lang/Object", name := "<init>", desc := "()V" } : Jvm.MethodName)) ∈ lw_all := lw_g (lw_at lw_m1 9 rfl) rfl
theorem q30 : (Jvm.Cond.constant "BlockRows" (31 : Nat) (40000 : Int32)) ∈ lw_all := lw_g (lw_at lw_m1 12 rfl) rfl
theorem q31 : (Jvm.Cond.fieldLink "BlockRows" (7 : Nat) "BlockRows" "blocks" "I") ∈ lw_all := lw_g (lw_at lw_m1 13 rfl) rfl
theorem q32 : (Jvm.Cond.fieldLink "BlockRows" (13 : Nat) "BlockRows" "isHot" "[Z") ∈ lw_all := lw_g (lw_at lw_m1 14 rfl) rfl
theorem q33 : (Jvm.Cond.fieldLink "BlockRows" (17 : Nat) "BlockRows" "from" "[I") ∈ lw_all := lw_g (lw_at lw_m1 15 rfl) rfl
theorem q34 : (Jvm.Cond.fieldLink "BlockRows" (21 : Nat) "BlockRows" "to" "[I") ∈ lw_all := lw_g (lw_at lw_m1 16 rfl) rfl
theorem q35 : (Jvm.Cond.fieldLink "BlockRows" (24 : Nat) "BlockRows" "counts" "[J") ∈ lw_all := lw_g (lw_at lw_m1 17 rfl) rfl
theorem q36 : (Jvm.Cond.fieldLink "BlockRows" (28 : Nat) "BlockRows" "falls" "[Z") ∈ lw_all := lw_g (lw_at lw_m1 18 rfl) rfl
theorem q37 : (Jvm.Cond.fieldLink "BlockRows" (32 : Nat) "BlockRows" "wayOf" "[S") ∈ lw_all := lw_g (lw_at lw_m1 19 rfl) rfl
theorem q38 : (Jvm.Cond.fieldLink "BlockRows" (69 : Nat) "BlockRows" "ways" "I") ∈ lw_all := lw_g (lw_at lw_m1 20 rfl) rfl
theorem q39 : (Jvm.Cond.fieldLink "BlockRows" (72 : Nat) "BlockRows" "isDone" "Z") ∈ lw_all := lw_g (lw_at lw_m1 21 rfl) rfl
theorem q40 : (Jvm.Cond.fieldLink "BlockRows" (36 : Nat) "BlockRows" "sorted" "[I") ∈ lw_all := lw_g (lw_at lw_m1 22 rfl) rfl
theorem q41 : (Jvm.Cond.fieldLink "BlockRows" (39 : Nat) "BlockRows" "next" "[I") ∈ lw_all := lw_g (lw_at lw_m1 23 rfl) rfl
theorem q42 : (Jvm.Cond.fieldLink "BlockRows" (42 : Nat) "BlockRows" "before" "[I") ∈ lw_all := lw_g (lw_at lw_m1 24 rfl) rfl
theorem q43 : (Jvm.Cond.fieldLink "BlockRows" (45 : Nat) "BlockRows" "head" "[I") ∈ lw_all := lw_g (lw_at lw_m1 25 rfl) rfl
theorem q44 : (Jvm.Cond.fieldLink "BlockRows" (48 : Nat) "BlockRows" "isPlaced" "[Z") ∈ lw_all := lw_g (lw_at lw_m1 26 rfl) rfl
theorem q45 : (Jvm.Cond.fieldLink "BlockRows" (51 : Nat) "BlockRows" "score" "[J") ∈ lw_all := lw_g (lw_at lw_m1 27 rfl) rfl
theorem q46 : (Jvm.Cond.fieldLink "BlockRows" (54 : Nat) "BlockRows" "byChains" "[I") ∈ lw_all := lw_g (lw_at lw_m1 28 rfl) rfl
theorem q47 : (Jvm.Cond.fieldLink "BlockRows" (57 : Nat) "BlockRows" "byNumber" "[I") ∈ lw_all := lw_g (lw_at lw_m1 29 rfl) rfl
theorem q48 : (Jvm.Cond.fieldLink "BlockRows" (60 : Nat) "BlockRows" "rowOfBlocks" "[I") ∈ lw_all := lw_g (lw_at lw_m1 30 rfl) rfl
theorem q49 : (Jvm.Cond.fieldLink "BlockRows" (63 : Nat) "BlockRows" "place" "[I") ∈ lw_all := lw_g (lw_at lw_m1 31 rfl) rfl
theorem q50 : (Jvm.Cond.fieldLink "BlockRows" (114 : Nat) "BlockRows" "hot" "I") ∈ lw_all := lw_g (lw_at lw_m1 32 rfl) rfl
theorem q51 : (Jvm.Cond.fieldLink "BlockRows" (66 : Nat) "BlockRows" "weights" "[J") ∈ lw_all := lw_g (lw_at lw_m1 33 rfl) rfl
theorem q52 : (Jvm.Cond.lays "BlockRows" "BlockRows" "blocks" "I") ∈ lw_all := lw_g (lw_at lw_m1 34 rfl) rfl
theorem q53 : (Jvm.Cond.soleField "BlockRows" "blocks") ∈ lw_all := lw_g (lw_at lw_m1 35 rfl) rfl
theorem q54 : (Jvm.Cond.laysFinal "BlockRows" "BlockRows" "isHot" "[Z") ∈ lw_all := lw_g (lw_at lw_m1 36 rfl) rfl
theorem q55 : (Jvm.Cond.soleField "BlockRows" "isHot") ∈ lw_all := lw_g (lw_at lw_m1 37 rfl) rfl
theorem q56 : (Jvm.Cond.laysFinal "BlockRows" "BlockRows" "from" "[I") ∈ lw_all := lw_g (lw_at lw_m1 38 rfl) rfl
theorem q57 : (Jvm.Cond.soleField "BlockRows" "from") ∈ lw_all := lw_g (lw_at lw_m1 39 rfl) rfl
theorem q58 : (Jvm.Cond.laysFinal "BlockRows" "BlockRows" "to" "[I") ∈ lw_all := lw_g (lw_at lw_m1 40 rfl) rfl
theorem q59 : (Jvm.Cond.soleField "BlockRows" "to") ∈ lw_all := lw_g (lw_at lw_m1 41 rfl) rfl
theorem q60 : (Jvm.Cond.laysFinal "BlockRows" "BlockRows" "counts" "[J") ∈ lw_all := lw_g (lw_at lw_m1 42 rfl) rfl
theorem q61 : (Jvm.Cond.soleField "BlockRows" "counts") ∈ lw_all := lw_g (lw_at lw_m1 43 rfl) rfl
theorem q62 : (Jvm.Cond.laysFinal "BlockRows" "BlockRows" "falls" "[Z") ∈ lw_all := lw_g (lw_at lw_m1 44 rfl) rfl
theorem q63 : (Jvm.Cond.soleField "BlockRows" "falls") ∈ lw_all := lw_g (lw_at lw_m1 45 rfl) rfl
theorem q64 : (Jvm.Cond.laysFinal "BlockRows" "BlockRows" "wayOf" "[S") ∈ lw_all := lw_g (lw_at lw_m1 46 rfl) rfl
theorem q65 : (Jvm.Cond.soleField "BlockRows" "wayOf") ∈ lw_all := lw_g (lw_at lw_m1 47 rfl) rfl
theorem q66 : (Jvm.Cond.lays "BlockRows" "BlockRows" "ways" "I") ∈ lw_all := lw_g (lw_at lw_m1 48 rfl) rfl
theorem q67 : (Jvm.Cond.soleField "BlockRows" "ways") ∈ lw_all := lw_g (lw_at lw_m1 49 rfl) rfl
theorem q68 : (Jvm.Cond.lays "BlockRows" "BlockRows" "isDone" "Z") ∈ lw_all := lw_g (lw_at lw_m1 50 rfl) rfl
theorem q69 : (Jvm.Cond.soleField "BlockRows" "isDone") ∈ lw_all := lw_g (lw_at lw_m1 51 rfl) rfl
theorem q70 : (Jvm.Cond.laysFinal "BlockRows" "BlockRows" "sorted" "[I") ∈ lw_all := lw_g (lw_at lw_m1 52 rfl) rfl
theorem q71 : (Jvm.Cond.soleField "BlockRows" "sorted") ∈ lw_all := lw_g (lw_at lw_m1 53 rfl) rfl
theorem q72 : (Jvm.Cond.laysFinal "BlockRows" "BlockRows" "next" "[I") ∈ lw_all := lw_g (lw_at lw_m1 54 rfl) rfl
theorem q73 : (Jvm.Cond.soleField "BlockRows" "next") ∈ lw_all := lw_g (lw_at lw_m1 55 rfl) rfl
theorem q74 : (Jvm.Cond.laysFinal "BlockRows" "BlockRows" "before" "[I") ∈ lw_all := lw_g (lw_at lw_m1 56 rfl) rfl
theorem q75 : (Jvm.Cond.soleField "BlockRows" "before") ∈ lw_all := lw_g (lw_at lw_m1 57 rfl) rfl
theorem q76 : (Jvm.Cond.laysFinal "BlockRows" "BlockRows" "head" "[I") ∈ lw_all := lw_g (lw_at lw_m1 58 rfl) rfl
theorem q77 : (Jvm.Cond.soleField "BlockRows" "head") ∈ lw_all := lw_g (lw_at lw_m1 59 rfl) rfl
theorem q78 : (Jvm.Cond.laysFinal "BlockRows" "BlockRows" "isPlaced" "[Z") ∈ lw_all := lw_g (lw_at lw_m1 60 rfl) rfl
theorem q79 : (Jvm.Cond.soleField "BlockRows" "isPlaced") ∈ lw_all := lw_g (lw_at lw_m1 61 rfl) rfl
theorem q80 : (Jvm.Cond.laysFinal "BlockRows" "BlockRows" "score" "[J") ∈ lw_all := lw_g (lw_at lw_m1 62 rfl) rfl
theorem q81 : (Jvm.Cond.soleField "BlockRows" "score") ∈ lw_all := lw_g (lw_at lw_m1 63 rfl) rfl
theorem q82 : (Jvm.Cond.laysFinal "BlockRows" "BlockRows" "byChains" "[I") ∈ lw_all := lw_g (lw_at lw_m1 64 rfl) rfl
theorem q83 : (Jvm.Cond.soleField "BlockRows" "byChains") ∈ lw_all := lw_g (lw_at lw_m1 65 rfl) rfl
theorem q84 : (Jvm.Cond.laysFinal "BlockRows" "BlockRows" "byNumber" "[I") ∈ lw_all := lw_g (lw_at lw_m1 66 rfl) rfl
theorem q85 : (Jvm.Cond.soleField "BlockRows" "byNumber") ∈ lw_all := lw_g (lw_at lw_m1 67 rfl) rfl
theorem q86 : (Jvm.Cond.laysFinal "BlockRows" "BlockRows" "rowOfBlocks" "[I") ∈ lw_all := lw_g (lw_at lw_m1 68 rfl) rfl
theorem q87 : (Jvm.Cond.soleField "BlockRows" "rowOfBlocks") ∈ lw_all := lw_g (lw_at lw_m1 69 rfl) rfl
theorem q88 : (Jvm.Cond.laysFinal "BlockRows" "BlockRows" "place" "[I") ∈ lw_all := lw_g (lw_at lw_m1 70 rfl) rfl
theorem q89 : (Jvm.Cond.soleField "BlockRows" "place") ∈ lw_all := lw_g (lw_at lw_m1 71 rfl) rfl
theorem q90 : (Jvm.Cond.lays "BlockRows" "BlockRows" "hot" "I") ∈ lw_all := lw_g (lw_at lw_m1 72 rfl) rfl
theorem q91 : (Jvm.Cond.soleField "BlockRows" "hot") ∈ lw_all := lw_g (lw_at lw_m1 73 rfl) rfl
theorem q92 : (Jvm.Cond.laysFinal "BlockRows" "BlockRows" "weights" "[J") ∈ lw_all := lw_g (lw_at lw_m1 74 rfl) rfl
theorem q93 : (Jvm.Cond.soleField "BlockRows" "weights") ∈ lw_all := lw_g (lw_at lw_m1 75 rfl) rfl
theorem q94 : (Jvm.Cond.superclass "BlockRows" "java/lang/Object") ∈ lw_all := lw_g (lw_at lw_m1 76 rfl) rfl
theorem q100 : (Jvm.Cond.instanceMethod ({ cls := "BlockRows", name := "size", desc := "(I)Z" } : Jvm.MethodName)) ∈ lw_all := lw_g (lw_at lw_m1 82 rfl) rfl
theorem q101 : (Jvm.Cond.selects "BlockRows" ({ cls := "BlockRows", name := "size", desc := "(I)Z" } : Jvm.MethodName) ({ cls := "BlockRows", name := "size", desc := "(I)Z" } : Jvm.MethodName)) ∈ lw_all := lw_g (lw_at lw_m1 83 rfl) rfl
theorem q102 : (Jvm.Cond.code ({ cls := "BlockRows", name := "size", desc := "(I)Z" } : Jvm.MethodName) prog_1_method_2_code (3 : Nat) (Option.some Jvm.ClassFile.FieldType.boolean)) ∈ lw_all := lw_g (lw_at lw_m1 84 rfl) rfl
theorem q104 : (Jvm.Cond.instanceMethod ({ cls := "BlockRows", name := "heat", desc := "(IZ)Z" } : Jvm.MethodName)) ∈ lw_all := lw_g (lw_at lw_m1 86 rfl) rfl
theorem q105 : (Jvm.Cond.selects "BlockRows" ({ cls := "BlockRows", name := "heat", desc := "(IZ)Z" } : Jvm.MethodName) ({ cls := "BlockRows", name := "heat", desc := "(IZ)Z" } : Jvm.MethodName)) ∈ lw_all := lw_g (lw_at lw_m1 87 rfl) rfl
theorem q106 : (Jvm.Cond.code ({ cls := "BlockRows", name := "heat", desc := "(IZ)Z" } : Jvm.MethodName) prog_1_method_4_code (3 : Nat) (Option.some Jvm.ClassFile.FieldType.boolean)) ∈ lw_all := lw_g (lw_at lw_m1 88 rfl) rfl
theorem q107 : (Jvm.Cond.methodLink "BlockRows" (76 : Nat) ({ cls := "BlockRows", name := "isBlock", desc := "(I)Z" } : Jvm.MethodName)) ∈ lw_all := lw_g (lw_at lw_m1 89 rfl) rfl
theorem q108 : (Jvm.Cond.privateMethod ({ cls := "BlockRows", name := "isBlock", desc := "(I)Z" } : Jvm.MethodName)) ∈ lw_tbl := lw_at lw_m1 90 rfl
theorem q109 : (Jvm.Cond.instanceMethod ({ cls := "BlockRows", name := "isBlock", desc := "(I)Z" } : Jvm.MethodName)) ∈ lw_all := lw_g (lw_at lw_m1 91 rfl) rfl
theorem q110 : (Jvm.Cond.code ({ cls := "BlockRows", name := "isBlock", desc := "(I)Z" } : Jvm.MethodName) prog_1_method_3_code (2 : Nat) (Option.some Jvm.ClassFile.FieldType.boolean)) ∈ lw_all := lw_g (lw_at lw_m1 92 rfl) rfl
theorem q112 : (Jvm.Cond.instanceMethod ({ cls := "BlockRows", name := "way", desc := "(IIIZ)J" } : Jvm.MethodName)) ∈ lw_all := lw_g (lw_at lw_m1 94 rfl) rfl
theorem q113 : (Jvm.Cond.selects "BlockRows" ({ cls := "BlockRows", name := "way", desc := "(IIIZ)J" } : Jvm.MethodName) ({ cls := "BlockRows", name := "way", desc := "(IIIZ)J" } : Jvm.MethodName)) ∈ lw_all := lw_g (lw_at lw_m1 95 rfl) rfl
theorem q114 : (Jvm.Cond.code ({ cls := "BlockRows", name := "way", desc := "(IIIZ)J" } : Jvm.MethodName) prog_1_method_5_code (6 : Nat) (Option.some Jvm.ClassFile.FieldType.long)) ∈ lw_all := lw_g (lw_at lw_m1 96 rfl) rfl
theorem q115 : (Jvm.Cond.constantLong "BlockRows" (80 : Nat) (-1 : Int64)) ∈ lw_all := lw_g (lw_at lw_m1 97 rfl) rfl
theorem q116 : (Jvm.Cond.constant "BlockRows" (82 : Nat) (1000000000 : Int32)) ∈ lw_all := lw_g (lw_at lw_m1 98 rfl) rfl
theorem q117 : (Jvm.Cond.constantLong "BlockRows" (83 : Nat) (-2 : Int64)) ∈ lw_all := lw_g (lw_at lw_m1 99 rfl) rfl
theorem q118 : (Jvm.Cond.constantLong "BlockRows" (85 : Nat) (-3 : Int64)) ∈ lw_all := lw_g (lw_at lw_m1 100 rfl) rfl
theorem q119 : (Jvm.Cond.constantLong "BlockRows" (87 : Nat) (1000000000000000 : Int64)) ∈ lw_all := lw_g (lw_at lw_m1 101 rfl) rfl
theorem q120 : (Jvm.Cond.methodLink "BlockRows" (89 : Nat) ({ cls := "java/lang/Math", name := "min", desc := "(JJ)J" } : Jvm.MethodName)) ∈ lw_all := lw_g (lw_at lw_m1 102 rfl) rfl
theorem q124 : (Jvm.Cond.instanceMethod ({ cls := "BlockRows", name := "count", desc := "(II)J" } : Jvm.MethodName)) ∈ lw_all := lw_g (lw_at lw_m1 106 rfl) rfl
theorem q125 : (Jvm.Cond.selects "BlockRows" ({ cls := "BlockRows", name := "count", desc := "(II)J" } : Jvm.MethodName) ({ cls := "BlockRows", name := "count", desc := "(II)J" } : Jvm.MethodName)) ∈ lw_all := lw_g (lw_at lw_m1 107 rfl) rfl
theorem q126 : (Jvm.Cond.code ({ cls := "BlockRows", name := "count", desc := "(II)J" } : Jvm.MethodName) prog_1_method_6_code (4 : Nat) (Option.some Jvm.ClassFile.FieldType.long)) ∈ lw_all := lw_g (lw_at lw_m1 108 rfl) rfl
theorem q128 : (Jvm.Cond.instanceMethod ({ cls := "BlockRows", name := "length", desc := "()I" } : Jvm.MethodName)) ∈ lw_all := lw_g (lw_at lw_m1 110 rfl) rfl
theorem q129 : (Jvm.Cond.selects "BlockRows" ({ cls := "BlockRows", name := "length", desc := "()I" } : Jvm.MethodName) ({ cls := "BlockRows", name := "length", desc := "()I" } : Jvm.MethodName)) ∈ lw_all := lw_g (lw_at lw_m1 111 rfl) rfl
theorem q130 : (Jvm.Cond.code ({ cls := "BlockRows", name := "length", desc := "()I" } : Jvm.MethodName) prog_1_method_16_code (1 : Nat) (Option.some Jvm.ClassFile.FieldType.int)) ∈ lw_all := lw_g (lw_at lw_m1 112 rfl) rfl
theorem q131 : (Jvm.Cond.methodLink "BlockRows" (128 : Nat) ({ cls := "BlockRows", name := "work", desc := "()V" } : Jvm.MethodName)) ∈ lw_all := lw_g (lw_at lw_m1 113 rfl) rfl
theorem q132 : (Jvm.Cond.privateMethod ({ cls := "BlockRows", name := "work", desc := "()V" } : Jvm.MethodName)) ∈ lw_tbl := lw_at lw_m1 114 rfl
theorem q133 : (Jvm.Cond.instanceMethod ({ cls := "BlockRows", name := "work", desc := "()V" } : Jvm.MethodName)) ∈ lw_all := lw_g (lw_at lw_m1 115 rfl) rfl
theorem q134 : (Jvm.Cond.code ({ cls := "BlockRows", name := "work", desc := "()V" } : Jvm.MethodName) prog_1_method_15_code (4 : Nat) (Option.none : Option Jvm.ClassFile.FieldType)) ∈ lw_all := lw_g (lw_at lw_m1 116 rfl) rfl
theorem q135 : (Jvm.Cond.methodLink "BlockRows" (111 : Nat) ({ cls := "BlockRows", name := "join", desc := "()V" } : Jvm.MethodName)) ∈ lw_all := lw_g (lw_at lw_m1 117 rfl) rfl
theorem q136 : (Jvm.Cond.privateMethod ({ cls := "BlockRows", name := "join", desc := "()V" } : Jvm.MethodName)) ∈ lw_tbl := lw_at lw_m1 118 rfl
theorem q137 : (Jvm.Cond.instanceMethod ({ cls := "BlockRows", name := "join", desc := "()V" } : Jvm.MethodName)) ∈ lw_all := lw_g (lw_at lw_m1 119 rfl) rfl
theorem q138 : (Jvm.Cond.code ({ cls := "BlockRows", name := "join", desc := "()V" } : Jvm.MethodName) prog_1_method_11_code (5 : Nat) (Option.none : Option Jvm.ClassFile.FieldType)) ∈ lw_all := lw_g (lw_at lw_m1 120 rfl) rfl
theorem q139 : (Jvm.Cond.methodLink "BlockRows" (103 : Nat) ({ cls := "BlockRows", name := "sort", desc := "()I" } : Jvm.MethodName)) ∈ lw_all := lw_g (lw_at lw_m1 121 rfl) rfl
theorem q140 : (Jvm.Cond.privateMethod ({ cls := "BlockRows", name := "sort", desc := "()I" } : Jvm.MethodName)) ∈ lw_tbl := lw_at lw_m1 122 rfl
theorem q141 : (Jvm.Cond.instanceMethod ({ cls := "BlockRows", name := "sort", desc := "()I" } : Jvm.MethodName)) ∈ lw_all := lw_g (lw_at lw_m1 123 rfl) rfl
theorem q142 : (Jvm.Cond.code ({ cls := "BlockRows", name := "sort", desc := "()I" } : Jvm.MethodName) prog_1_method_8_code (4 : Nat) (Option.some Jvm.ClassFile.FieldType.int)) ∈ lw_all := lw_g (lw_at lw_m1 124 rfl) rfl
theorem q143 : (Jvm.Cond.methodLink "BlockRows" (95 : Nat) ({ cls := "BlockRows", name := "sink", desc := "(II)V" } : Jvm.MethodName)) ∈ lw_all := lw_g (lw_at lw_m1 125 rfl) rfl
theorem q144 : (Jvm.Cond.privateMethod ({ cls := "BlockRows", name := "sink", desc := "(II)V" } : Jvm.MethodName)) ∈ lw_tbl := lw_at lw_m1 126 rfl
theorem q145 : (Jvm.Cond.instanceMethod ({ cls := "BlockRows", name := "sink", desc := "(II)V" } : Jvm.MethodName)) ∈ lw_all := lw_g (lw_at lw_m1 127 rfl) rfl
theorem q146 : (Jvm.Cond.code ({ cls := "BlockRows", name := "sink", desc := "(II)V" } : Jvm.MethodName) prog_1_method_9_code (7 : Nat) (Option.none : Option Jvm.ClassFile.FieldType)) ∈ lw_all := lw_g (lw_at lw_m1 128 rfl) rfl
theorem q147 : (Jvm.Cond.methodLink "BlockRows" (99 : Nat) ({ cls := "BlockRows", name := "isSooner", desc := "(II)Z" } : Jvm.MethodName)) ∈ lw_all := lw_g (lw_at lw_m1 129 rfl) rfl
theorem q148 : (Jvm.Cond.privateMethod ({ cls := "BlockRows", name := "isSooner", desc := "(II)Z" } : Jvm.MethodName)) ∈ lw_tbl := lw_at lw_m1 130 rfl
theorem q149 : (Jvm.Cond.instanceMethod ({ cls := "BlockRows", name := "isSooner", desc := "(II)Z" } : Jvm.MethodName)) ∈ lw_all := lw_g (lw_at lw_m1 131 rfl) rfl
theorem q150 : (Jvm.Cond.code ({ cls := "BlockRows", name := "isSooner", desc := "(II)Z" } : Jvm.MethodName) prog_1_method_7_code (3 : Nat) (Option.some Jvm.ClassFile.FieldType.boolean)) ∈ lw_all := lw_g (lw_at lw_m1 132 rfl) rfl
theorem q151 : (Jvm.Cond.methodLink "BlockRows" (107 : Nat) ({ cls := "BlockRows", name := "headOf", desc := "(I)I" } : Jvm.MethodName)) ∈ lw_all := lw_g (lw_at lw_m1 133 rfl) rfl
theorem q152 : (Jvm.Cond.privateMethod ({ cls := "BlockRows", name := "headOf", desc := "(I)I" } : Jvm.MethodName)) ∈ lw_tbl := lw_at lw_m1 134 rfl
theorem q153 : (Jvm.Cond.instanceMethod ({ cls := "BlockRows", name := "headOf", desc := "(I)I" } : Jvm.MethodName)) ∈ lw_all := lw_g (lw_at lw_m1 135 rfl) rfl
theorem q154 : (Jvm.Cond.code ({ cls := "BlockRows", name := "headOf", desc := "(I)I" } : Jvm.MethodName) prog_1_method_10_code (3 : Nat) (Option.some Jvm.ClassFile.FieldType.int)) ∈ lw_all := lw_g (lw_at lw_m1 136 rfl) rfl
theorem q155 : (Jvm.Cond.methodLink "BlockRows" (117 : Nat) ({ cls := "BlockRows", name := "weigh", desc := "([II)J" } : Jvm.MethodName)) ∈ lw_all := lw_g (lw_at lw_m1 137 rfl) rfl
theorem q156 : (Jvm.Cond.privateMethod ({ cls := "BlockRows", name := "weigh", desc := "([II)J" } : Jvm.MethodName)) ∈ lw_tbl := lw_at lw_m1 138 rfl
theorem q157 : (Jvm.Cond.instanceMethod ({ cls := "BlockRows", name := "weigh", desc := "([II)J" } : Jvm.MethodName)) ∈ lw_all := lw_g (lw_at lw_m1 139 rfl) rfl
theorem q158 : (Jvm.Cond.code ({ cls := "BlockRows", name := "weigh", desc := "([II)J" } : Jvm.MethodName) prog_1_method_14_code (6 : Nat) (Option.some Jvm.ClassFile.FieldType.long)) ∈ lw_all := lw_g (lw_at lw_m1 140 rfl) rfl
theorem q159 : (Jvm.Cond.methodLink "BlockRows" (121 : Nat) ({ cls := "BlockRows", name := "best", desc := "()I" } : Jvm.MethodName)) ∈ lw_all := lw_g (lw_at lw_m1 141 rfl) rfl
theorem q160 : (Jvm.Cond.privateMethod ({ cls := "BlockRows", name := "best", desc := "()I" } : Jvm.MethodName)) ∈ lw_tbl := lw_at lw_m1 142 rfl
theorem q161 : (Jvm.Cond.instanceMethod ({ cls := "BlockRows", name := "best", desc := "()I" } : Jvm.MethodName)) ∈ lw_all := lw_g (lw_at lw_m1 143 rfl) rfl
theorem q162 : (Jvm.Cond.code ({ cls := "BlockRows", name := "best", desc := "()I" } : Jvm.MethodName) prog_1_method_12_code (4 : Nat) (Option.some Jvm.ClassFile.FieldType.int)) ∈ lw_all := lw_g (lw_at lw_m1 144 rfl) rfl
theorem q163 : (Jvm.Cond.methodLink "BlockRows" (124 : Nat) ({ cls := "BlockRows", name := "put", desc := "(II)I" } : Jvm.MethodName)) ∈ lw_all := lw_g (lw_at lw_m1 145 rfl) rfl
theorem q164 : (Jvm.Cond.privateMethod ({ cls := "BlockRows", name := "put", desc := "(II)I" } : Jvm.MethodName)) ∈ lw_tbl := lw_at lw_m1 146 rfl
theorem q165 : (Jvm.Cond.instanceMethod ({ cls := "BlockRows", name := "put", desc := "(II)I" } : Jvm.MethodName)) ∈ lw_all := lw_g (lw_at lw_m1 147 rfl) rfl
theorem q166 : (Jvm.Cond.code ({ cls := "BlockRows", name := "put", desc := "(II)I" } : Jvm.MethodName) prog_1_method_13_code (7 : Nat) (Option.some Jvm.ClassFile.FieldType.int)) ∈ lw_all := lw_g (lw_at lw_m1 148 rfl) rfl
theorem q168 : (Jvm.Cond.instanceMethod ({ cls := "BlockRows", name := "row", desc := "(I)I" } : Jvm.MethodName)) ∈ lw_all := lw_g (lw_at lw_m1 150 rfl) rfl
theorem q169 : (Jvm.Cond.selects "BlockRows" ({ cls := "BlockRows", name := "row", desc := "(I)I" } : Jvm.MethodName) ({ cls := "BlockRows", name := "row", desc := "(I)I" } : Jvm.MethodName)) ∈ lw_all := lw_g (lw_at lw_m1 151 rfl) rfl
theorem q170 : (Jvm.Cond.code ({ cls := "BlockRows", name := "row", desc := "(I)I" } : Jvm.MethodName) prog_1_method_17_code (2 : Nat) (Option.some Jvm.ClassFile.FieldType.int)) ∈ lw_all := lw_g (lw_at lw_m1 152 rfl) rfl
theorem q172 : (Jvm.Cond.instanceMethod ({ cls := "BlockRows", name := "weight", desc := "(I)J" } : Jvm.MethodName)) ∈ lw_all := lw_g (lw_at lw_m1 154 rfl) rfl
theorem q173 : (Jvm.Cond.selects "BlockRows" ({ cls := "BlockRows", name := "weight", desc := "(I)J" } : Jvm.MethodName) ({ cls := "BlockRows", name := "weight", desc := "(I)J" } : Jvm.MethodName)) ∈ lw_all := lw_g (lw_at lw_m1 155 rfl) rfl
theorem q174 : (Jvm.Cond.code ({ cls := "BlockRows", name := "weight", desc := "(I)J" } : Jvm.MethodName) prog_1_method_18_code (2 : Nat) (Option.some Jvm.ClassFile.FieldType.long)) ∈ lw_all := lw_g (lw_at lw_m1 156 rfl) rfl
theorem q176 : (Jvm.Cond.instanceMethod ({ cls := "BlockRows", name := "chain", desc := "(I)I" } : Jvm.MethodName)) ∈ lw_all := lw_g (lw_at lw_m1 158 rfl) rfl
theorem q177 : (Jvm.Cond.selects "BlockRows" ({ cls := "BlockRows", name := "chain", desc := "(I)I" } : Jvm.MethodName) ({ cls := "BlockRows", name := "chain", desc := "(I)I" } : Jvm.MethodName)) ∈ lw_all := lw_g (lw_at lw_m1 159 rfl) rfl
theorem q178 : (Jvm.Cond.code ({ cls := "BlockRows", name := "chain", desc := "(I)I" } : Jvm.MethodName) prog_1_method_19_code (2 : Nat) (Option.some Jvm.ClassFile.FieldType.int)) ∈ lw_all := lw_g (lw_at lw_m1 160 rfl) rfl
theorem in_X0 : ∀ w ∈ wsX00, w ∈ lw_all := lw_in wsX00 [52, 54, 56, 58, 60, 62, 64, 66, 68, 70, 72, 74, 76, 78, 80, 82, 84, 86, 88, 90, 92] (by decide +kernel) (by decide +kernel)
end
section
set_option maxRecDepth 100000
theorem dX0_init_0 : decode cX0_init 0 = .ok (.aload_n 0, 1) := by decide +kernel
theorem dX0_init_1 : decode cX0_init 1 = .ok (.invokespecial 1, 3) := by decide +kernel
theorem dX0_init_4 : decode cX0_init 4 = .ok (.aload_n 0, 1) := by decide +kernel
theorem dX0_init_5 : decode cX0_init 5 = .ok (.iconst 1, 1) := by decide +kernel
theorem dX0_init_6 : decode cX0_init 6 = .ok (.putfield 7, 3) := by decide +kernel
theorem dX0_init_9 : decode cX0_init 9 = .ok (.aload_n 0, 1) := by decide +kernel
theorem dX0_init_10 : decode cX0_init 10 = .ok (.sipush 200, 3) := by decide +kernel
theorem dX0_init_13 : decode cX0_init 13 = .ok (.newarray .boolean, 2) := by decide +kernel
theorem dX0_init_15 : decode cX0_init 15 = .ok (.putfield 13, 3) := by decide +kernel
theorem dX0_init_18 : decode cX0_init 18 = .ok (.aload_n 0, 1) := by decide +kernel
theorem dX0_init_19 : decode cX0_init 19 = .ok (.sipush 1000, 3) := by decide +kernel
theorem dX0_init_22 : decode cX0_init 22 = .ok (.newarray .int, 2) := by decide +kernel
theorem dX0_init_24 : decode cX0_init 24 = .ok (.putfield 17, 3) := by decide +kernel
theorem dX0_init_27 : decode cX0_init 27 = .ok (.aload_n 0, 1) := by decide +kernel
theorem dX0_init_28 : decode cX0_init 28 = .ok (.sipush 1000, 3) := by decide +kernel
theorem dX0_init_31 : decode cX0_init 31 = .ok (.newarray .int, 2) := by decide +kernel
theorem dX0_init_33 : decode cX0_init 33 = .ok (.putfield 21, 3) := by decide +kernel
theorem dX0_init_36 : decode cX0_init 36 = .ok (.aload_n 0, 1) := by decide +kernel
theorem dX0_init_37 : decode cX0_init 37 = .ok (.sipush 1000, 3) := by decide +kernel
theorem dX0_init_40 : decode cX0_init 40 = .ok (.newarray .long, 2) := by decide +kernel
theorem dX0_init_42 : decode cX0_init 42 = .ok (.putfield 24, 3) := by decide +kernel
theorem dX0_init_45 : decode cX0_init 45 = .ok (.aload_n 0, 1) := by decide +kernel
theorem dX0_init_46 : decode cX0_init 46 = .ok (.sipush 1000, 3) := by decide +kernel
theorem dX0_init_49 : decode cX0_init 49 = .ok (.newarray .boolean, 2) := by decide +kernel
theorem dX0_init_51 : decode cX0_init 51 = .ok (.putfield 28, 3) := by decide +kernel
theorem dX0_init_54 : decode cX0_init 54 = .ok (.aload_n 0, 1) := by decide +kernel
theorem dX0_init_55 : decode cX0_init 55 = .ok (.ldc 31, 2) := by decide +kernel
theorem dX0_init_57 : decode cX0_init 57 = .ok (.newarray .short, 2) := by decide +kernel
theorem dX0_init_59 : decode cX0_init 59 = .ok (.putfield 32, 3) := by decide +kernel
theorem dX0_init_62 : decode cX0_init 62 = .ok (.aload_n 0, 1) := by decide +kernel
theorem dX0_init_63 : decode cX0_init 63 = .ok (.sipush 1000, 3) := by decide +kernel
theorem dX0_init_66 : decode cX0_init 66 = .ok (.newarray .int, 2) := by decide +kernel
theorem dX0_init_68 : decode cX0_init 68 = .ok (.putfield 36, 3) := by decide +kernel
theorem dX0_init_71 : decode cX0_init 71 = .ok (.aload_n 0, 1) := by decide +kernel
theorem dX0_init_72 : decode cX0_init 72 = .ok (.sipush 200, 3) := by decide +kernel
theorem dX0_init_75 : decode cX0_init 75 = .ok (.newarray .int, 2) := by decide +kernel
theorem dX0_init_77 : decode cX0_init 77 = .ok (.putfield 39, 3) := by decide +kernel
theorem dX0_init_80 : decode cX0_init 80 = .ok (.aload_n 0, 1) := by decide +kernel
theorem dX0_init_81 : decode cX0_init 81 = .ok (.sipush 200, 3) := by decide +kernel
theorem dX0_init_84 : decode cX0_init 84 = .ok (.newarray .int, 2) := by decide +kernel
theorem dX0_init_86 : decode cX0_init 86 = .ok (.putfield 42, 3) := by decide +kernel
theorem dX0_init_89 : decode cX0_init 89 = .ok (.aload_n 0, 1) := by decide +kernel
theorem dX0_init_90 : decode cX0_init 90 = .ok (.sipush 200, 3) := by decide +kernel
theorem dX0_init_93 : decode cX0_init 93 = .ok (.newarray .int, 2) := by decide +kernel
theorem dX0_init_95 : decode cX0_init 95 = .ok (.putfield 45, 3) := by decide +kernel
theorem dX0_init_98 : decode cX0_init 98 = .ok (.aload_n 0, 1) := by decide +kernel
theorem dX0_init_99 : decode cX0_init 99 = .ok (.sipush 200, 3) := by decide +kernel
theorem dX0_init_102 : decode cX0_init 102 = .ok (.newarray .boolean, 2) := by decide +kernel
theorem dX0_init_104 : decode cX0_init 104 = .ok (.putfield 48, 3) := by decide +kernel
theorem dX0_init_107 : decode cX0_init 107 = .ok (.aload_n 0, 1) := by decide +kernel
theorem dX0_init_108 : decode cX0_init 108 = .ok (.sipush 200, 3) := by decide +kernel
theorem dX0_init_111 : decode cX0_init 111 = .ok (.newarray .long, 2) := by decide +kernel
theorem dX0_init_113 : decode cX0_init 113 = .ok (.putfield 51, 3) := by decide +kernel
theorem dX0_init_116 : decode cX0_init 116 = .ok (.aload_n 0, 1) := by decide +kernel
theorem dX0_init_117 : decode cX0_init 117 = .ok (.sipush 200, 3) := by decide +kernel
theorem dX0_init_120 : decode cX0_init 120 = .ok (.newarray .int, 2) := by decide +kernel
theorem dX0_init_122 : decode cX0_init 122 = .ok (.putfield 54, 3) := by decide +kernel
theorem dX0_init_125 : decode cX0_init 125 = .ok (.aload_n 0, 1) := by decide +kernel
theorem dX0_init_126 : decode cX0_init 126 = .ok (.sipush 200, 3) := by decide +kernel
theorem dX0_init_129 : decode cX0_init 129 = .ok (.newarray .int, 2) := by decide +kernel
theorem dX0_init_131 : decode cX0_init 131 = .ok (.putfield 57, 3) := by decide +kernel
theorem dX0_init_134 : decode cX0_init 134 = .ok (.aload_n 0, 1) := by decide +kernel
theorem dX0_init_135 : decode cX0_init 135 = .ok (.sipush 200, 3) := by decide +kernel
theorem dX0_init_138 : decode cX0_init 138 = .ok (.newarray .int, 2) := by decide +kernel
theorem dX0_init_140 : decode cX0_init 140 = .ok (.putfield 60, 3) := by decide +kernel
theorem dX0_init_143 : decode cX0_init 143 = .ok (.aload_n 0, 1) := by decide +kernel
theorem dX0_init_144 : decode cX0_init 144 = .ok (.sipush 200, 3) := by decide +kernel
theorem dX0_init_147 : decode cX0_init 147 = .ok (.newarray .int, 2) := by decide +kernel
theorem dX0_init_149 : decode cX0_init 149 = .ok (.putfield 63, 3) := by decide +kernel
theorem dX0_init_152 : decode cX0_init 152 = .ok (.aload_n 0, 1) := by decide +kernel
theorem dX0_init_153 : decode cX0_init 153 = .ok (.iconst 4, 1) := by decide +kernel
theorem dX0_init_154 : decode cX0_init 154 = .ok (.newarray .long, 2) := by decide +kernel
theorem dX0_init_156 : decode cX0_init 156 = .ok (.putfield 66, 3) := by decide +kernel
theorem dX0_init_159 : decode cX0_init 159 = .ok (.return_, 1) := by decide +kernel
theorem dX0_size_0 : decode cX0_size 0 = .ok (.iload_n 1, 1) := by decide +kernel
theorem dX0_size_1 : decode cX0_size 1 = .ok (.iconst 1, 1) := by decide +kernel
theorem dX0_size_2 : decode cX0_size 2 = .ok (.if_icmp .lt 10, 3) := by decide +kernel
theorem dX0_size_5 : decode cX0_size 5 = .ok (.iload_n 1, 1) := by decide +kernel
theorem dX0_size_6 : decode cX0_size 6 = .ok (.sipush 200, 3) := by decide +kernel
theorem dX0_size_9 : decode cX0_size 9 = .ok (.if_icmp .le 5, 3) := by decide +kernel
theorem dX0_size_12 : decode cX0_size 12 = .ok (.iconst 0, 1) := by decide +kernel
theorem dX0_size_13 : decode cX0_size 13 = .ok (.ireturn, 1) := by decide +kernel
theorem dX0_size_14 : decode cX0_size 14 = .ok (.aload_n 0, 1) := by decide +kernel
theorem dX0_size_15 : decode cX0_size 15 = .ok (.iload_n 1, 1) := by decide +kernel
theorem dX0_size_16 : decode cX0_size 16 = .ok (.putfield 7, 3) := by decide +kernel
theorem dX0_size_19 : decode cX0_size 19 = .ok (.aload_n 0, 1) := by decide +kernel
theorem dX0_size_20 : decode cX0_size 20 = .ok (.iconst 0, 1) := by decide +kernel
theorem dX0_size_21 : decode cX0_size 21 = .ok (.putfield 69, 3) := by decide +kernel
theorem dX0_size_24 : decode cX0_size 24 = .ok (.iconst 0, 1) := by decide +kernel
theorem dX0_size_25 : decode cX0_size 25 = .ok (.istore_n 2, 1) := by decide +kernel
theorem dX0_size_26 : decode cX0_size 26 = .ok (.iload_n 2, 1) := by decide +kernel
theorem dX0_size_27 : decode cX0_size 27 = .ok (.iload_n 1, 1) := by decide +kernel
theorem dX0_size_28 : decode cX0_size 28 = .ok (.if_icmp .ge 16, 3) := by decide +kernel
theorem dX0_size_31 : decode cX0_size 31 = .ok (.aload_n 0, 1) := by decide +kernel
theorem dX0_size_32 : decode cX0_size 32 = .ok (.getfield 13, 3) := by decide +kernel
theorem dX0_size_35 : decode cX0_size 35 = .ok (.iload_n 2, 1) := by decide +kernel
theorem dX0_size_36 : decode cX0_size 36 = .ok (.iconst 0, 1) := by decide +kernel
theorem dX0_size_37 : decode cX0_size 37 = .ok (.bastore, 1) := by decide +kernel
theorem dX0_size_38 : decode cX0_size 38 = .ok (.iinc 2 1, 3) := by decide +kernel
theorem dX0_size_41 : decode cX0_size 41 = .ok (.goto (-15), 3) := by decide +kernel
theorem dX0_size_44 : decode cX0_size 44 = .ok (.iconst 0, 1) := by decide +kernel
theorem dX0_size_45 : decode cX0_size 45 = .ok (.istore_n 2, 1) := by decide +kernel
theorem dX0_size_46 : decode cX0_size 46 = .ok (.iload_n 2, 1) := by decide +kernel
theorem dX0_size_47 : decode cX0_size 47 = .ok (.aload_n 0, 1) := by decide +kernel
theorem dX0_size_48 : decode cX0_size 48 = .ok (.getfield 32, 3) := by decide +kernel
theorem dX0_size_51 : decode cX0_size 51 = .ok (.arraylength, 1) := by decide +kernel
theorem dX0_size_52 : decode cX0_size 52 = .ok (.if_icmp .ge 16, 3) := by decide +kernel
theorem dX0_size_55 : decode cX0_size 55 = .ok (.aload_n 0, 1) := by decide +kernel
theorem dX0_size_56 : decode cX0_size 56 = .ok (.getfield 32, 3) := by decide +kernel
theorem dX0_size_59 : decode cX0_size 59 = .ok (.iload_n 2, 1) := by decide +kernel
theorem dX0_size_60 : decode cX0_size 60 = .ok (.iconst 0, 1) := by decide +kernel
theorem dX0_size_61 : decode cX0_size 61 = .ok (.sastore, 1) := by decide +kernel
theorem dX0_size_62 : decode cX0_size 62 = .ok (.iinc 2 1, 3) := by decide +kernel
theorem dX0_size_65 : decode cX0_size 65 = .ok (.goto (-19), 3) := by decide +kernel
theorem dX0_size_68 : decode cX0_size 68 = .ok (.aload_n 0, 1) := by decide +kernel
theorem dX0_size_69 : decode cX0_size 69 = .ok (.iconst 0, 1) := by decide +kernel
theorem dX0_size_70 : decode cX0_size 70 = .ok (.putfield 72, 3) := by decide +kernel
theorem dX0_size_73 : decode cX0_size 73 = .ok (.iconst 1, 1) := by decide +kernel
theorem dX0_size_74 : decode cX0_size 74 = .ok (.ireturn, 1) := by decide +kernel
theorem dX0_heat_0 : decode cX0_heat 0 = .ok (.aload_n 0, 1) := by decide +kernel
theorem dX0_heat_1 : decode cX0_heat 1 = .ok (.iload_n 1, 1) := by decide +kernel
theorem dX0_heat_2 : decode cX0_heat 2 = .ok (.invokevirtual 76, 3) := by decide +kernel
theorem dX0_heat_5 : decode cX0_heat 5 = .ok (.ifCond .ne 5, 3) := by decide +kernel
theorem dX0_heat_8 : decode cX0_heat 8 = .ok (.iconst 0, 1) := by decide +kernel
theorem dX0_heat_9 : decode cX0_heat 9 = .ok (.ireturn, 1) := by decide +kernel
theorem dX0_heat_10 : decode cX0_heat 10 = .ok (.aload_n 0, 1) := by decide +kernel
theorem dX0_heat_11 : decode cX0_heat 11 = .ok (.getfield 13, 3) := by decide +kernel
theorem dX0_heat_14 : decode cX0_heat 14 = .ok (.iload_n 1, 1) := by decide +kernel
theorem dX0_heat_15 : decode cX0_heat 15 = .ok (.iload_n 2, 1) := by decide +kernel
theorem dX0_heat_16 : decode cX0_heat 16 = .ok (.bastore, 1) := by decide +kernel
theorem dX0_heat_17 : decode cX0_heat 17 = .ok (.aload_n 0, 1) := by decide +kernel
theorem dX0_heat_18 : decode cX0_heat 18 = .ok (.iconst 0, 1) := by decide +kernel
theorem dX0_heat_19 : decode cX0_heat 19 = .ok (.putfield 72, 3) := by decide +kernel
theorem dX0_heat_22 : decode cX0_heat 22 = .ok (.iconst 1, 1) := by decide +kernel
theorem dX0_heat_23 : decode cX0_heat 23 = .ok (.ireturn, 1) := by decide +kernel
theorem dX0_isBlock_0 : decode cX0_isBlock 0 = .ok (.iload_n 1, 1) := by decide +kernel
theorem dX0_isBlock_1 : decode cX0_isBlock 1 = .ok (.ifCond .lt 15, 3) := by decide +kernel
theorem dX0_isBlock_4 : decode cX0_isBlock 4 = .ok (.iload_n 1, 1) := by decide +kernel
theorem dX0_isBlock_5 : decode cX0_isBlock 5 = .ok (.aload_n 0, 1) := by decide +kernel
theorem dX0_isBlock_6 : decode cX0_isBlock 6 = .ok (.getfield 7, 3) := by decide +kernel
theorem dX0_isBlock_9 : decode cX0_isBlock 9 = .ok (.if_icmp .ge 7, 3) := by decide +kernel
theorem dX0_isBlock_12 : decode cX0_isBlock 12 = .ok (.iconst 1, 1) := by decide +kernel
theorem dX0_isBlock_13 : decode cX0_isBlock 13 = .ok (.goto 4, 3) := by decide +kernel
theorem dX0_isBlock_16 : decode cX0_isBlock 16 = .ok (.iconst 0, 1) := by decide +kernel
theorem dX0_isBlock_17 : decode cX0_isBlock 17 = .ok (.ireturn, 1) := by decide +kernel
theorem dX0_way_0 : decode cX0_way 0 = .ok (.aload_n 0, 1) := by decide +kernel
theorem dX0_way_1 : decode cX0_way 1 = .ok (.iload_n 1, 1) := by decide +kernel
theorem dX0_way_2 : decode cX0_way 2 = .ok (.invokevirtual 76, 3) := by decide +kernel
theorem dX0_way_5 : decode cX0_way 5 = .ok (.ifCond .eq 11, 3) := by decide +kernel
theorem dX0_way_8 : decode cX0_way 8 = .ok (.aload_n 0, 1) := by decide +kernel
theorem dX0_way_9 : decode cX0_way 9 = .ok (.iload_n 2, 1) := by decide +kernel
theorem dX0_way_10 : decode cX0_way 10 = .ok (.invokevirtual 76, 3) := by decide +kernel
theorem dX0_way_13 : decode cX0_way 13 = .ok (.ifCond .ne 7, 3) := by decide +kernel
theorem dX0_way_16 : decode cX0_way 16 = .ok (.ldc2_w 80, 3) := by decide +kernel
theorem dX0_way_19 : decode cX0_way 19 = .ok (.lreturn, 1) := by decide +kernel
theorem dX0_way_20 : decode cX0_way 20 = .ok (.iload_n 3, 1) := by decide +kernel
theorem dX0_way_21 : decode cX0_way 21 = .ok (.ifCond .lt 9, 3) := by decide +kernel
theorem dX0_way_24 : decode cX0_way 24 = .ok (.iload_n 3, 1) := by decide +kernel
theorem dX0_way_25 : decode cX0_way 25 = .ok (.ldc 82, 2) := by decide +kernel
theorem dX0_way_27 : decode cX0_way 27 = .ok (.if_icmp .le 7, 3) := by decide +kernel
theorem dX0_way_30 : decode cX0_way 30 = .ok (.ldc2_w 83, 3) := by decide +kernel
theorem dX0_way_33 : decode cX0_way 33 = .ok (.lreturn, 1) := by decide +kernel
theorem dX0_way_34 : decode cX0_way 34 = .ok (.aload_n 0, 1) := by decide +kernel
theorem dX0_way_35 : decode cX0_way 35 = .ok (.getfield 32, 3) := by decide +kernel
theorem dX0_way_38 : decode cX0_way 38 = .ok (.iload_n 1, 1) := by decide +kernel
theorem dX0_way_39 : decode cX0_way 39 = .ok (.sipush 200, 3) := by decide +kernel
theorem dX0_way_42 : decode cX0_way 42 = .ok (.imul, 1) := by decide +kernel
theorem dX0_way_43 : decode cX0_way 43 = .ok (.iload_n 2, 1) := by decide +kernel
theorem dX0_way_44 : decode cX0_way 44 = .ok (.iadd, 1) := by decide +kernel
theorem dX0_way_45 : decode cX0_way 45 = .ok (.saload, 1) := by decide +kernel
theorem dX0_way_46 : decode cX0_way 46 = .ok (.iconst 1, 1) := by decide +kernel
theorem dX0_way_47 : decode cX0_way 47 = .ok (.isub, 1) := by decide +kernel
theorem dX0_way_48 : decode cX0_way 48 = .ok (.istore 5, 2) := by decide +kernel
theorem dX0_way_50 : decode cX0_way 50 = .ok (.iload 5, 2) := by decide +kernel
theorem dX0_way_52 : decode cX0_way 52 = .ok (.ifCond .ge 74, 3) := by decide +kernel
theorem dX0_way_55 : decode cX0_way 55 = .ok (.aload_n 0, 1) := by decide +kernel
theorem dX0_way_56 : decode cX0_way 56 = .ok (.getfield 69, 3) := by decide +kernel
theorem dX0_way_59 : decode cX0_way 59 = .ok (.sipush 1000, 3) := by decide +kernel
theorem dX0_way_62 : decode cX0_way 62 = .ok (.if_icmp .ne 7, 3) := by decide +kernel
theorem dX0_way_65 : decode cX0_way 65 = .ok (.ldc2_w 85, 3) := by decide +kernel
theorem dX0_way_68 : decode cX0_way 68 = .ok (.lreturn, 1) := by decide +kernel
theorem dX0_way_69 : decode cX0_way 69 = .ok (.aload_n 0, 1) := by decide +kernel
theorem dX0_way_70 : decode cX0_way 70 = .ok (.getfield 69, 3) := by decide +kernel
theorem dX0_way_73 : decode cX0_way 73 = .ok (.istore 5, 2) := by decide +kernel
theorem dX0_way_75 : decode cX0_way 75 = .ok (.aload_n 0, 1) := by decide +kernel
theorem dX0_way_76 : decode cX0_way 76 = .ok (.dup, 1) := by decide +kernel
theorem dX0_way_77 : decode cX0_way 77 = .ok (.getfield 69, 3) := by decide +kernel
theorem dX0_way_80 : decode cX0_way 80 = .ok (.iconst 1, 1) := by decide +kernel
theorem dX0_way_81 : decode cX0_way 81 = .ok (.iadd, 1) := by decide +kernel
theorem dX0_way_82 : decode cX0_way 82 = .ok (.putfield 69, 3) := by decide +kernel
theorem dX0_way_85 : decode cX0_way 85 = .ok (.aload_n 0, 1) := by decide +kernel
theorem dX0_way_86 : decode cX0_way 86 = .ok (.getfield 32, 3) := by decide +kernel
theorem dX0_way_89 : decode cX0_way 89 = .ok (.iload_n 1, 1) := by decide +kernel
theorem dX0_way_90 : decode cX0_way 90 = .ok (.sipush 200, 3) := by decide +kernel
theorem dX0_way_93 : decode cX0_way 93 = .ok (.imul, 1) := by decide +kernel
theorem dX0_way_94 : decode cX0_way 94 = .ok (.iload_n 2, 1) := by decide +kernel
theorem dX0_way_95 : decode cX0_way 95 = .ok (.iadd, 1) := by decide +kernel
theorem dX0_way_96 : decode cX0_way 96 = .ok (.aload_n 0, 1) := by decide +kernel
theorem dX0_way_97 : decode cX0_way 97 = .ok (.getfield 69, 3) := by decide +kernel
theorem dX0_way_100 : decode cX0_way 100 = .ok (.i2s, 1) := by decide +kernel
theorem dX0_way_101 : decode cX0_way 101 = .ok (.sastore, 1) := by decide +kernel
theorem dX0_way_102 : decode cX0_way 102 = .ok (.aload_n 0, 1) := by decide +kernel
theorem dX0_way_103 : decode cX0_way 103 = .ok (.getfield 17, 3) := by decide +kernel
theorem dX0_way_106 : decode cX0_way 106 = .ok (.iload 5, 2) := by decide +kernel
theorem dX0_way_108 : decode cX0_way 108 = .ok (.iload_n 1, 1) := by decide +kernel
theorem dX0_way_109 : decode cX0_way 109 = .ok (.iastore, 1) := by decide +kernel
theorem dX0_way_110 : decode cX0_way 110 = .ok (.aload_n 0, 1) := by decide +kernel
theorem dX0_way_111 : decode cX0_way 111 = .ok (.getfield 21, 3) := by decide +kernel
theorem dX0_way_114 : decode cX0_way 114 = .ok (.iload 5, 2) := by decide +kernel
theorem dX0_way_116 : decode cX0_way 116 = .ok (.iload_n 2, 1) := by decide +kernel
theorem dX0_way_117 : decode cX0_way 117 = .ok (.iastore, 1) := by decide +kernel
theorem dX0_way_118 : decode cX0_way 118 = .ok (.aload_n 0, 1) := by decide +kernel
theorem dX0_way_119 : decode cX0_way 119 = .ok (.getfield 24, 3) := by decide +kernel
theorem dX0_way_122 : decode cX0_way 122 = .ok (.iload 5, 2) := by decide +kernel
theorem dX0_way_124 : decode cX0_way 124 = .ok (.lconst 0, 1) := by decide +kernel
theorem dX0_way_125 : decode cX0_way 125 = .ok (.lastore, 1) := by decide +kernel
theorem dX0_way_126 : decode cX0_way 126 = .ok (.aload_n 0, 1) := by decide +kernel
theorem dX0_way_127 : decode cX0_way 127 = .ok (.getfield 24, 3) := by decide +kernel
theorem dX0_way_130 : decode cX0_way 130 = .ok (.iload 5, 2) := by decide +kernel
theorem dX0_way_132 : decode cX0_way 132 = .ok (.ldc2_w 87, 3) := by decide +kernel
theorem dX0_way_135 : decode cX0_way 135 = .ok (.aload_n 0, 1) := by decide +kernel
theorem dX0_way_136 : decode cX0_way 136 = .ok (.getfield 24, 3) := by decide +kernel
theorem dX0_way_139 : decode cX0_way 139 = .ok (.iload 5, 2) := by decide +kernel
theorem dX0_way_141 : decode cX0_way 141 = .ok (.laload, 1) := by decide +kernel
theorem dX0_way_142 : decode cX0_way 142 = .ok (.iload_n 3, 1) := by decide +kernel
theorem dX0_way_143 : decode cX0_way 143 = .ok (.i2l, 1) := by decide +kernel
theorem dX0_way_144 : decode cX0_way 144 = .ok (.ladd, 1) := by decide +kernel
theorem dX0_way_145 : decode cX0_way 145 = .ok (.invokestatic 89, 3) := by decide +kernel
theorem dX0_way_148 : decode cX0_way 148 = .ok (.lastore, 1) := by decide +kernel
theorem dX0_way_149 : decode cX0_way 149 = .ok (.aload_n 0, 1) := by decide +kernel
theorem dX0_way_150 : decode cX0_way 150 = .ok (.getfield 28, 3) := by decide +kernel
theorem dX0_way_153 : decode cX0_way 153 = .ok (.iload 5, 2) := by decide +kernel
theorem dX0_way_155 : decode cX0_way 155 = .ok (.iload 4, 2) := by decide +kernel
theorem dX0_way_157 : decode cX0_way 157 = .ok (.bastore, 1) := by decide +kernel
theorem dX0_way_158 : decode cX0_way 158 = .ok (.aload_n 0, 1) := by decide +kernel
theorem dX0_way_159 : decode cX0_way 159 = .ok (.iconst 0, 1) := by decide +kernel
theorem dX0_way_160 : decode cX0_way 160 = .ok (.putfield 72, 3) := by decide +kernel
theorem dX0_way_163 : decode cX0_way 163 = .ok (.aload_n 0, 1) := by decide +kernel
theorem dX0_way_164 : decode cX0_way 164 = .ok (.getfield 24, 3) := by decide +kernel
theorem dX0_way_167 : decode cX0_way 167 = .ok (.iload 5, 2) := by decide +kernel
theorem dX0_way_169 : decode cX0_way 169 = .ok (.laload, 1) := by decide +kernel
theorem dX0_way_170 : decode cX0_way 170 = .ok (.lreturn, 1) := by decide +kernel
theorem dX0_count_0 : decode cX0_count 0 = .ok (.aload_n 0, 1) := by decide +kernel
theorem dX0_count_1 : decode cX0_count 1 = .ok (.iload_n 1, 1) := by decide +kernel
theorem dX0_count_2 : decode cX0_count 2 = .ok (.invokevirtual 76, 3) := by decide +kernel
theorem dX0_count_5 : decode cX0_count 5 = .ok (.ifCond .eq 28, 3) := by decide +kernel
theorem dX0_count_8 : decode cX0_count 8 = .ok (.aload_n 0, 1) := by decide +kernel
theorem dX0_count_9 : decode cX0_count 9 = .ok (.iload_n 2, 1) := by decide +kernel
theorem dX0_count_10 : decode cX0_count 10 = .ok (.invokevirtual 76, 3) := by decide +kernel
theorem dX0_count_13 : decode cX0_count 13 = .ok (.ifCond .eq 20, 3) := by decide +kernel
theorem dX0_count_16 : decode cX0_count 16 = .ok (.aload_n 0, 1) := by decide +kernel
theorem dX0_count_17 : decode cX0_count 17 = .ok (.getfield 32, 3) := by decide +kernel
theorem dX0_count_20 : decode cX0_count 20 = .ok (.iload_n 1, 1) := by decide +kernel
theorem dX0_count_21 : decode cX0_count 21 = .ok (.sipush 200, 3) := by decide +kernel
theorem dX0_count_24 : decode cX0_count 24 = .ok (.imul, 1) := by decide +kernel
theorem dX0_count_25 : decode cX0_count 25 = .ok (.iload_n 2, 1) := by decide +kernel
theorem dX0_count_26 : decode cX0_count 26 = .ok (.iadd, 1) := by decide +kernel
theorem dX0_count_27 : decode cX0_count 27 = .ok (.saload, 1) := by decide +kernel
theorem dX0_count_28 : decode cX0_count 28 = .ok (.iconst 1, 1) := by decide +kernel
theorem dX0_count_29 : decode cX0_count 29 = .ok (.isub, 1) := by decide +kernel
theorem dX0_count_30 : decode cX0_count 30 = .ok (.goto 4, 3) := by decide +kernel
theorem dX0_count_33 : decode cX0_count 33 = .ok (.iconst (-1), 1) := by decide +kernel
theorem dX0_count_34 : decode cX0_count 34 = .ok (.istore_n 3, 1) := by decide +kernel
theorem dX0_count_35 : decode cX0_count 35 = .ok (.iload_n 3, 1) := by decide +kernel
theorem dX0_count_36 : decode cX0_count 36 = .ok (.ifCond .ge 7, 3) := by decide +kernel
theorem dX0_count_39 : decode cX0_count 39 = .ok (.lconst 0, 1) := by decide +kernel
theorem dX0_count_40 : decode cX0_count 40 = .ok (.goto 9, 3) := by decide +kernel
theorem dX0_count_43 : decode cX0_count 43 = .ok (.aload_n 0, 1) := by decide +kernel
theorem dX0_count_44 : decode cX0_count 44 = .ok (.getfield 24, 3) := by decide +kernel
theorem dX0_count_47 : decode cX0_count 47 = .ok (.iload_n 3, 1) := by decide +kernel
theorem dX0_count_48 : decode cX0_count 48 = .ok (.laload, 1) := by decide +kernel
theorem dX0_count_49 : decode cX0_count 49 = .ok (.lreturn, 1) := by decide +kernel
theorem dX0_length_0 : decode cX0_length 0 = .ok (.aload_n 0, 1) := by decide +kernel
theorem dX0_length_1 : decode cX0_length 1 = .ok (.invokevirtual 128, 3) := by decide +kernel
theorem dX0_length_4 : decode cX0_length 4 = .ok (.aload_n 0, 1) := by decide +kernel
theorem dX0_length_5 : decode cX0_length 5 = .ok (.getfield 114, 3) := by decide +kernel
theorem dX0_length_8 : decode cX0_length 8 = .ok (.ireturn, 1) := by decide +kernel
theorem dX0_work_0 : decode cX0_work 0 = .ok (.aload_n 0, 1) := by decide +kernel
theorem dX0_work_1 : decode cX0_work 1 = .ok (.getfield 72, 3) := by decide +kernel
theorem dX0_work_4 : decode cX0_work 4 = .ok (.ifCond .eq 4, 3) := by decide +kernel
theorem dX0_work_7 : decode cX0_work 7 = .ok (.return_, 1) := by decide +kernel
theorem dX0_work_8 : decode cX0_work 8 = .ok (.aload_n 0, 1) := by decide +kernel
theorem dX0_work_9 : decode cX0_work 9 = .ok (.iconst 1, 1) := by decide +kernel
theorem dX0_work_10 : decode cX0_work 10 = .ok (.putfield 72, 3) := by decide +kernel
theorem dX0_work_13 : decode cX0_work 13 = .ok (.aload_n 0, 1) := by decide +kernel
theorem dX0_work_14 : decode cX0_work 14 = .ok (.invokevirtual 111, 3) := by decide +kernel
theorem dX0_work_17 : decode cX0_work 17 = .ok (.aload_n 0, 1) := by decide +kernel
theorem dX0_work_18 : decode cX0_work 18 = .ok (.iconst 0, 1) := by decide +kernel
theorem dX0_work_19 : decode cX0_work 19 = .ok (.putfield 114, 3) := by decide +kernel
theorem dX0_work_22 : decode cX0_work 22 = .ok (.iconst 0, 1) := by decide +kernel
theorem dX0_work_23 : decode cX0_work 23 = .ok (.istore_n 1, 1) := by decide +kernel
theorem dX0_work_24 : decode cX0_work 24 = .ok (.iload_n 1, 1) := by decide +kernel
theorem dX0_work_25 : decode cX0_work 25 = .ok (.aload_n 0, 1) := by decide +kernel
theorem dX0_work_26 : decode cX0_work 26 = .ok (.getfield 7, 3) := by decide +kernel
theorem dX0_work_29 : decode cX0_work 29 = .ok (.if_icmp .ge 48, 3) := by decide +kernel
theorem dX0_work_32 : decode cX0_work 32 = .ok (.aload_n 0, 1) := by decide +kernel
theorem dX0_work_33 : decode cX0_work 33 = .ok (.getfield 60, 3) := by decide +kernel
theorem dX0_work_36 : decode cX0_work 36 = .ok (.iload_n 1, 1) := by decide +kernel
theorem dX0_work_37 : decode cX0_work 37 = .ok (.iload_n 1, 1) := by decide +kernel
theorem dX0_work_38 : decode cX0_work 38 = .ok (.iastore, 1) := by decide +kernel
theorem dX0_work_39 : decode cX0_work 39 = .ok (.aload_n 0, 1) := by decide +kernel
theorem dX0_work_40 : decode cX0_work 40 = .ok (.getfield 13, 3) := by decide +kernel
theorem dX0_work_43 : decode cX0_work 43 = .ok (.iload_n 1, 1) := by decide +kernel
theorem dX0_work_44 : decode cX0_work 44 = .ok (.baload, 1) := by decide +kernel
theorem dX0_work_45 : decode cX0_work 45 = .ok (.ifCond .ne 6, 3) := by decide +kernel
theorem dX0_work_48 : decode cX0_work 48 = .ok (.goto 23, 3) := by decide +kernel
theorem dX0_work_51 : decode cX0_work 51 = .ok (.aload_n 0, 1) := by decide +kernel
theorem dX0_work_52 : decode cX0_work 52 = .ok (.getfield 57, 3) := by decide +kernel
theorem dX0_work_55 : decode cX0_work 55 = .ok (.aload_n 0, 1) := by decide +kernel
theorem dX0_work_56 : decode cX0_work 56 = .ok (.getfield 114, 3) := by decide +kernel
theorem dX0_work_59 : decode cX0_work 59 = .ok (.iload_n 1, 1) := by decide +kernel
theorem dX0_work_60 : decode cX0_work 60 = .ok (.iastore, 1) := by decide +kernel
theorem dX0_work_61 : decode cX0_work 61 = .ok (.aload_n 0, 1) := by decide +kernel
theorem dX0_work_62 : decode cX0_work 62 = .ok (.dup, 1) := by decide +kernel
theorem dX0_work_63 : decode cX0_work 63 = .ok (.getfield 114, 3) := by decide +kernel
theorem dX0_work_66 : decode cX0_work 66 = .ok (.iconst 1, 1) := by decide +kernel
theorem dX0_work_67 : decode cX0_work 67 = .ok (.iadd, 1) := by decide +kernel
theorem dX0_work_68 : decode cX0_work 68 = .ok (.putfield 114, 3) := by decide +kernel
theorem dX0_work_71 : decode cX0_work 71 = .ok (.iinc 1 1, 3) := by decide +kernel
theorem dX0_work_74 : decode cX0_work 74 = .ok (.goto (-50), 3) := by decide +kernel
theorem dX0_work_77 : decode cX0_work 77 = .ok (.aload_n 0, 1) := by decide +kernel
theorem dX0_work_78 : decode cX0_work 78 = .ok (.getfield 66, 3) := by decide +kernel
theorem dX0_work_81 : decode cX0_work 81 = .ok (.iconst 2, 1) := by decide +kernel
theorem dX0_work_82 : decode cX0_work 82 = .ok (.aload_n 0, 1) := by decide +kernel
theorem dX0_work_83 : decode cX0_work 83 = .ok (.aload_n 0, 1) := by decide +kernel
theorem dX0_work_84 : decode cX0_work 84 = .ok (.getfield 60, 3) := by decide +kernel
theorem dX0_work_87 : decode cX0_work 87 = .ok (.aload_n 0, 1) := by decide +kernel
theorem dX0_work_88 : decode cX0_work 88 = .ok (.getfield 7, 3) := by decide +kernel
theorem dX0_work_91 : decode cX0_work 91 = .ok (.invokevirtual 117, 3) := by decide +kernel
theorem dX0_work_94 : decode cX0_work 94 = .ok (.lastore, 1) := by decide +kernel
theorem dX0_work_95 : decode cX0_work 95 = .ok (.iconst 0, 1) := by decide +kernel
theorem dX0_work_96 : decode cX0_work 96 = .ok (.istore_n 1, 1) := by decide +kernel
theorem dX0_work_97 : decode cX0_work 97 = .ok (.iload_n 1, 1) := by decide +kernel
theorem dX0_work_98 : decode cX0_work 98 = .ok (.aload_n 0, 1) := by decide +kernel
theorem dX0_work_99 : decode cX0_work 99 = .ok (.getfield 114, 3) := by decide +kernel
theorem dX0_work_102 : decode cX0_work 102 = .ok (.if_icmp .ge 33, 3) := by decide +kernel
theorem dX0_work_105 : decode cX0_work 105 = .ok (.aload_n 0, 1) := by decide +kernel
theorem dX0_work_106 : decode cX0_work 106 = .ok (.iload_n 1, 1) := by decide +kernel
theorem dX0_work_107 : decode cX0_work 107 = .ok (.ifCond .ne 16, 3) := by decide +kernel
theorem dX0_work_110 : decode cX0_work 110 = .ok (.aload_n 0, 1) := by decide +kernel
theorem dX0_work_111 : decode cX0_work 111 = .ok (.aload_n 0, 1) := by decide +kernel
theorem dX0_work_112 : decode cX0_work 112 = .ok (.getfield 57, 3) := by decide +kernel
theorem dX0_work_115 : decode cX0_work 115 = .ok (.iconst 0, 1) := by decide +kernel
theorem dX0_work_116 : decode cX0_work 116 = .ok (.iaload, 1) := by decide +kernel
theorem dX0_work_117 : decode cX0_work 117 = .ok (.invokevirtual 107, 3) := by decide +kernel
theorem dX0_work_120 : decode cX0_work 120 = .ok (.goto 7, 3) := by decide +kernel
theorem dX0_work_123 : decode cX0_work 123 = .ok (.aload_n 0, 1) := by decide +kernel
theorem dX0_work_124 : decode cX0_work 124 = .ok (.invokevirtual 121, 3) := by decide +kernel
theorem dX0_work_127 : decode cX0_work 127 = .ok (.iload_n 1, 1) := by decide +kernel
theorem dX0_work_128 : decode cX0_work 128 = .ok (.invokevirtual 124, 3) := by decide +kernel
theorem dX0_work_131 : decode cX0_work 131 = .ok (.istore_n 1, 1) := by decide +kernel
theorem dX0_work_132 : decode cX0_work 132 = .ok (.goto (-35), 3) := by decide +kernel
theorem dX0_work_135 : decode cX0_work 135 = .ok (.aload_n 0, 1) := by decide +kernel
theorem dX0_work_136 : decode cX0_work 136 = .ok (.getfield 66, 3) := by decide +kernel
theorem dX0_work_139 : decode cX0_work 139 = .ok (.iconst 3, 1) := by decide +kernel
theorem dX0_work_140 : decode cX0_work 140 = .ok (.aload_n 0, 1) := by decide +kernel
theorem dX0_work_141 : decode cX0_work 141 = .ok (.aload_n 0, 1) := by decide +kernel
theorem dX0_work_142 : decode cX0_work 142 = .ok (.getfield 54, 3) := by decide +kernel
theorem dX0_work_145 : decode cX0_work 145 = .ok (.aload_n 0, 1) := by decide +kernel
theorem dX0_work_146 : decode cX0_work 146 = .ok (.getfield 114, 3) := by decide +kernel
theorem dX0_work_149 : decode cX0_work 149 = .ok (.invokevirtual 117, 3) := by decide +kernel
theorem dX0_work_152 : decode cX0_work 152 = .ok (.lastore, 1) := by decide +kernel
theorem dX0_work_153 : decode cX0_work 153 = .ok (.aload_n 0, 1) := by decide +kernel
theorem dX0_work_154 : decode cX0_work 154 = .ok (.getfield 66, 3) := by decide +kernel
theorem dX0_work_157 : decode cX0_work 157 = .ok (.iconst 1, 1) := by decide +kernel
theorem dX0_work_158 : decode cX0_work 158 = .ok (.aload_n 0, 1) := by decide +kernel
theorem dX0_work_159 : decode cX0_work 159 = .ok (.aload_n 0, 1) := by decide +kernel
theorem dX0_work_160 : decode cX0_work 160 = .ok (.getfield 57, 3) := by decide +kernel
theorem dX0_work_163 : decode cX0_work 163 = .ok (.aload_n 0, 1) := by decide +kernel
theorem dX0_work_164 : decode cX0_work 164 = .ok (.getfield 114, 3) := by decide +kernel
theorem dX0_work_167 : decode cX0_work 167 = .ok (.invokevirtual 117, 3) := by decide +kernel
theorem dX0_work_170 : decode cX0_work 170 = .ok (.lastore, 1) := by decide +kernel
theorem dX0_work_171 : decode cX0_work 171 = .ok (.aload_n 0, 1) := by decide +kernel
theorem dX0_work_172 : decode cX0_work 172 = .ok (.getfield 66, 3) := by decide +kernel
theorem dX0_work_175 : decode cX0_work 175 = .ok (.iconst 3, 1) := by decide +kernel
theorem dX0_work_176 : decode cX0_work 176 = .ok (.laload, 1) := by decide +kernel
theorem dX0_work_177 : decode cX0_work 177 = .ok (.aload_n 0, 1) := by decide +kernel
theorem dX0_work_178 : decode cX0_work 178 = .ok (.getfield 66, 3) := by decide +kernel
theorem dX0_work_181 : decode cX0_work 181 = .ok (.iconst 1, 1) := by decide +kernel
theorem dX0_work_182 : decode cX0_work 182 = .ok (.laload, 1) := by decide +kernel
theorem dX0_work_183 : decode cX0_work 183 = .ok (.lcmp, 1) := by decide +kernel
theorem dX0_work_184 : decode cX0_work 184 = .ok (.ifCond .le 7, 3) := by decide +kernel
theorem dX0_work_187 : decode cX0_work 187 = .ok (.iconst 1, 1) := by decide +kernel
theorem dX0_work_188 : decode cX0_work 188 = .ok (.goto 4, 3) := by decide +kernel
theorem dX0_work_191 : decode cX0_work 191 = .ok (.iconst 0, 1) := by decide +kernel
theorem dX0_work_192 : decode cX0_work 192 = .ok (.istore_n 2, 1) := by decide +kernel
theorem dX0_work_193 : decode cX0_work 193 = .ok (.iconst 0, 1) := by decide +kernel
theorem dX0_work_194 : decode cX0_work 194 = .ok (.istore_n 3, 1) := by decide +kernel
theorem dX0_work_195 : decode cX0_work 195 = .ok (.iload_n 3, 1) := by decide +kernel
theorem dX0_work_196 : decode cX0_work 196 = .ok (.aload_n 0, 1) := by decide +kernel
theorem dX0_work_197 : decode cX0_work 197 = .ok (.getfield 114, 3) := by decide +kernel
theorem dX0_work_200 : decode cX0_work 200 = .ok (.if_icmp .ge 34, 3) := by decide +kernel
theorem dX0_work_203 : decode cX0_work 203 = .ok (.aload_n 0, 1) := by decide +kernel
theorem dX0_work_204 : decode cX0_work 204 = .ok (.getfield 60, 3) := by decide +kernel
theorem dX0_work_207 : decode cX0_work 207 = .ok (.iload_n 3, 1) := by decide +kernel
theorem dX0_work_208 : decode cX0_work 208 = .ok (.iload_n 2, 1) := by decide +kernel
theorem dX0_work_209 : decode cX0_work 209 = .ok (.ifCond .eq 12, 3) := by decide +kernel
theorem dX0_work_212 : decode cX0_work 212 = .ok (.aload_n 0, 1) := by decide +kernel
theorem dX0_work_213 : decode cX0_work 213 = .ok (.getfield 54, 3) := by decide +kernel
theorem dX0_work_216 : decode cX0_work 216 = .ok (.iload_n 3, 1) := by decide +kernel
theorem dX0_work_217 : decode cX0_work 217 = .ok (.iaload, 1) := by decide +kernel
theorem dX0_work_218 : decode cX0_work 218 = .ok (.goto 9, 3) := by decide +kernel
theorem dX0_work_221 : decode cX0_work 221 = .ok (.aload_n 0, 1) := by decide +kernel
theorem dX0_work_222 : decode cX0_work 222 = .ok (.getfield 57, 3) := by decide +kernel
theorem dX0_work_225 : decode cX0_work 225 = .ok (.iload_n 3, 1) := by decide +kernel
theorem dX0_work_226 : decode cX0_work 226 = .ok (.iaload, 1) := by decide +kernel
theorem dX0_work_227 : decode cX0_work 227 = .ok (.iastore, 1) := by decide +kernel
theorem dX0_work_228 : decode cX0_work 228 = .ok (.iinc 3 1, 3) := by decide +kernel
theorem dX0_work_231 : decode cX0_work 231 = .ok (.goto (-36), 3) := by decide +kernel
theorem dX0_work_234 : decode cX0_work 234 = .ok (.aload_n 0, 1) := by decide +kernel
theorem dX0_work_235 : decode cX0_work 235 = .ok (.getfield 66, 3) := by decide +kernel
theorem dX0_work_238 : decode cX0_work 238 = .ok (.iconst 0, 1) := by decide +kernel
theorem dX0_work_239 : decode cX0_work 239 = .ok (.iload_n 2, 1) := by decide +kernel
theorem dX0_work_240 : decode cX0_work 240 = .ok (.ifCond .eq 12, 3) := by decide +kernel
theorem dX0_work_243 : decode cX0_work 243 = .ok (.aload_n 0, 1) := by decide +kernel
theorem dX0_work_244 : decode cX0_work 244 = .ok (.getfield 66, 3) := by decide +kernel
theorem dX0_work_247 : decode cX0_work 247 = .ok (.iconst 3, 1) := by decide +kernel
theorem dX0_work_248 : decode cX0_work 248 = .ok (.laload, 1) := by decide +kernel
theorem dX0_work_249 : decode cX0_work 249 = .ok (.goto 9, 3) := by decide +kernel
theorem dX0_work_252 : decode cX0_work 252 = .ok (.aload_n 0, 1) := by decide +kernel
theorem dX0_work_253 : decode cX0_work 253 = .ok (.getfield 66, 3) := by decide +kernel
theorem dX0_work_256 : decode cX0_work 256 = .ok (.iconst 1, 1) := by decide +kernel
theorem dX0_work_257 : decode cX0_work 257 = .ok (.laload, 1) := by decide +kernel
theorem dX0_work_258 : decode cX0_work 258 = .ok (.lastore, 1) := by decide +kernel
theorem dX0_work_259 : decode cX0_work 259 = .ok (.return_, 1) := by decide +kernel
theorem dX0_join_0 : decode cX0_join 0 = .ok (.iconst 0, 1) := by decide +kernel
theorem dX0_join_1 : decode cX0_join 1 = .ok (.istore_n 1, 1) := by decide +kernel
theorem dX0_join_2 : decode cX0_join 2 = .ok (.iload_n 1, 1) := by decide +kernel
theorem dX0_join_3 : decode cX0_join 3 = .ok (.aload_n 0, 1) := by decide +kernel
theorem dX0_join_4 : decode cX0_join 4 = .ok (.getfield 7, 3) := by decide +kernel
theorem dX0_join_7 : decode cX0_join 7 = .ok (.if_icmp .ge 44, 3) := by decide +kernel
theorem dX0_join_10 : decode cX0_join 10 = .ok (.aload_n 0, 1) := by decide +kernel
theorem dX0_join_11 : decode cX0_join 11 = .ok (.getfield 39, 3) := by decide +kernel
theorem dX0_join_14 : decode cX0_join 14 = .ok (.iload_n 1, 1) := by decide +kernel
theorem dX0_join_15 : decode cX0_join 15 = .ok (.iconst (-1), 1) := by decide +kernel
theorem dX0_join_16 : decode cX0_join 16 = .ok (.iastore, 1) := by decide +kernel
theorem dX0_join_17 : decode cX0_join 17 = .ok (.aload_n 0, 1) := by decide +kernel
theorem dX0_join_18 : decode cX0_join 18 = .ok (.getfield 42, 3) := by decide +kernel
theorem dX0_join_21 : decode cX0_join 21 = .ok (.iload_n 1, 1) := by decide +kernel
theorem dX0_join_22 : decode cX0_join 22 = .ok (.iconst (-1), 1) := by decide +kernel
theorem dX0_join_23 : decode cX0_join 23 = .ok (.iastore, 1) := by decide +kernel
theorem dX0_join_24 : decode cX0_join 24 = .ok (.aload_n 0, 1) := by decide +kernel
theorem dX0_join_25 : decode cX0_join 25 = .ok (.getfield 45, 3) := by decide +kernel
theorem dX0_join_28 : decode cX0_join 28 = .ok (.iload_n 1, 1) := by decide +kernel
theorem dX0_join_29 : decode cX0_join 29 = .ok (.iload_n 1, 1) := by decide +kernel
theorem dX0_join_30 : decode cX0_join 30 = .ok (.iastore, 1) := by decide +kernel
theorem dX0_join_31 : decode cX0_join 31 = .ok (.aload_n 0, 1) := by decide +kernel
theorem dX0_join_32 : decode cX0_join 32 = .ok (.getfield 48, 3) := by decide +kernel
theorem dX0_join_35 : decode cX0_join 35 = .ok (.iload_n 1, 1) := by decide +kernel
theorem dX0_join_36 : decode cX0_join 36 = .ok (.iconst 0, 1) := by decide +kernel
theorem dX0_join_37 : decode cX0_join 37 = .ok (.bastore, 1) := by decide +kernel
theorem dX0_join_38 : decode cX0_join 38 = .ok (.aload_n 0, 1) := by decide +kernel
theorem dX0_join_39 : decode cX0_join 39 = .ok (.getfield 51, 3) := by decide +kernel
theorem dX0_join_42 : decode cX0_join 42 = .ok (.iload_n 1, 1) := by decide +kernel
theorem dX0_join_43 : decode cX0_join 43 = .ok (.lconst 0, 1) := by decide +kernel
theorem dX0_join_44 : decode cX0_join 44 = .ok (.lastore, 1) := by decide +kernel
theorem dX0_join_45 : decode cX0_join 45 = .ok (.iinc 1 1, 3) := by decide +kernel
theorem dX0_join_48 : decode cX0_join 48 = .ok (.goto (-46), 3) := by decide +kernel
theorem dX0_join_51 : decode cX0_join 51 = .ok (.aload_n 0, 1) := by decide +kernel
theorem dX0_join_52 : decode cX0_join 52 = .ok (.invokevirtual 103, 3) := by decide +kernel
theorem dX0_join_55 : decode cX0_join 55 = .ok (.istore_n 1, 1) := by decide +kernel
theorem dX0_join_56 : decode cX0_join 56 = .ok (.iconst 0, 1) := by decide +kernel
theorem dX0_join_57 : decode cX0_join 57 = .ok (.istore_n 2, 1) := by decide +kernel
theorem dX0_join_58 : decode cX0_join 58 = .ok (.iload_n 2, 1) := by decide +kernel
theorem dX0_join_59 : decode cX0_join 59 = .ok (.iload_n 1, 1) := by decide +kernel
theorem dX0_join_60 : decode cX0_join 60 = .ok (.if_icmp .ge 103, 3) := by decide +kernel
theorem dX0_join_63 : decode cX0_join 63 = .ok (.aload_n 0, 1) := by decide +kernel
theorem dX0_join_64 : decode cX0_join 64 = .ok (.getfield 17, 3) := by decide +kernel
theorem dX0_join_67 : decode cX0_join 67 = .ok (.aload_n 0, 1) := by decide +kernel
theorem dX0_join_68 : decode cX0_join 68 = .ok (.getfield 36, 3) := by decide +kernel
theorem dX0_join_71 : decode cX0_join 71 = .ok (.iload_n 2, 1) := by decide +kernel
theorem dX0_join_72 : decode cX0_join 72 = .ok (.iaload, 1) := by decide +kernel
theorem dX0_join_73 : decode cX0_join 73 = .ok (.iaload, 1) := by decide +kernel
theorem dX0_join_74 : decode cX0_join 74 = .ok (.istore_n 3, 1) := by decide +kernel
theorem dX0_join_75 : decode cX0_join 75 = .ok (.aload_n 0, 1) := by decide +kernel
theorem dX0_join_76 : decode cX0_join 76 = .ok (.getfield 21, 3) := by decide +kernel
theorem dX0_join_79 : decode cX0_join 79 = .ok (.aload_n 0, 1) := by decide +kernel
theorem dX0_join_80 : decode cX0_join 80 = .ok (.getfield 36, 3) := by decide +kernel
theorem dX0_join_83 : decode cX0_join 83 = .ok (.iload_n 2, 1) := by decide +kernel
theorem dX0_join_84 : decode cX0_join 84 = .ok (.iaload, 1) := by decide +kernel
theorem dX0_join_85 : decode cX0_join 85 = .ok (.iaload, 1) := by decide +kernel
theorem dX0_join_86 : decode cX0_join 86 = .ok (.istore 4, 2) := by decide +kernel
theorem dX0_join_88 : decode cX0_join 88 = .ok (.iload 4, 2) := by decide +kernel
theorem dX0_join_90 : decode cX0_join 90 = .ok (.ifCond .eq 67, 3) := by decide +kernel
theorem dX0_join_93 : decode cX0_join 93 = .ok (.aload_n 0, 1) := by decide +kernel
theorem dX0_join_94 : decode cX0_join 94 = .ok (.getfield 39, 3) := by decide +kernel
theorem dX0_join_97 : decode cX0_join 97 = .ok (.iload_n 3, 1) := by decide +kernel
theorem dX0_join_98 : decode cX0_join 98 = .ok (.iaload, 1) := by decide +kernel
theorem dX0_join_99 : decode cX0_join 99 = .ok (.ifCond .ge 58, 3) := by decide +kernel
theorem dX0_join_102 : decode cX0_join 102 = .ok (.aload_n 0, 1) := by decide +kernel
theorem dX0_join_103 : decode cX0_join 103 = .ok (.getfield 42, 3) := by decide +kernel
theorem dX0_join_106 : decode cX0_join 106 = .ok (.iload 4, 2) := by decide +kernel
theorem dX0_join_108 : decode cX0_join 108 = .ok (.iaload, 1) := by decide +kernel
theorem dX0_join_109 : decode cX0_join 109 = .ok (.ifCond .ge 48, 3) := by decide +kernel
theorem dX0_join_112 : decode cX0_join 112 = .ok (.aload_n 0, 1) := by decide +kernel
theorem dX0_join_113 : decode cX0_join 113 = .ok (.iload_n 3, 1) := by decide +kernel
theorem dX0_join_114 : decode cX0_join 114 = .ok (.invokevirtual 107, 3) := by decide +kernel
theorem dX0_join_117 : decode cX0_join 117 = .ok (.aload_n 0, 1) := by decide +kernel
theorem dX0_join_118 : decode cX0_join 118 = .ok (.iload 4, 2) := by decide +kernel
theorem dX0_join_120 : decode cX0_join 120 = .ok (.invokevirtual 107, 3) := by decide +kernel
theorem dX0_join_123 : decode cX0_join 123 = .ok (.if_icmp .ne 6, 3) := by decide +kernel
theorem dX0_join_126 : decode cX0_join 126 = .ok (.goto 31, 3) := by decide +kernel
theorem dX0_join_129 : decode cX0_join 129 = .ok (.aload_n 0, 1) := by decide +kernel
theorem dX0_join_130 : decode cX0_join 130 = .ok (.getfield 39, 3) := by decide +kernel
theorem dX0_join_133 : decode cX0_join 133 = .ok (.iload_n 3, 1) := by decide +kernel
theorem dX0_join_134 : decode cX0_join 134 = .ok (.iload 4, 2) := by decide +kernel
theorem dX0_join_136 : decode cX0_join 136 = .ok (.iastore, 1) := by decide +kernel
theorem dX0_join_137 : decode cX0_join 137 = .ok (.aload_n 0, 1) := by decide +kernel
theorem dX0_join_138 : decode cX0_join 138 = .ok (.getfield 42, 3) := by decide +kernel
theorem dX0_join_141 : decode cX0_join 141 = .ok (.iload 4, 2) := by decide +kernel
theorem dX0_join_143 : decode cX0_join 143 = .ok (.iload_n 3, 1) := by decide +kernel
theorem dX0_join_144 : decode cX0_join 144 = .ok (.iastore, 1) := by decide +kernel
theorem dX0_join_145 : decode cX0_join 145 = .ok (.aload_n 0, 1) := by decide +kernel
theorem dX0_join_146 : decode cX0_join 146 = .ok (.getfield 45, 3) := by decide +kernel
theorem dX0_join_149 : decode cX0_join 149 = .ok (.iload 4, 2) := by decide +kernel
theorem dX0_join_151 : decode cX0_join 151 = .ok (.aload_n 0, 1) := by decide +kernel
theorem dX0_join_152 : decode cX0_join 152 = .ok (.iload_n 3, 1) := by decide +kernel
theorem dX0_join_153 : decode cX0_join 153 = .ok (.invokevirtual 107, 3) := by decide +kernel
theorem dX0_join_156 : decode cX0_join 156 = .ok (.iastore, 1) := by decide +kernel
theorem dX0_join_157 : decode cX0_join 157 = .ok (.iinc 2 1, 3) := by decide +kernel
theorem dX0_join_160 : decode cX0_join 160 = .ok (.goto (-102), 3) := by decide +kernel
theorem dX0_join_163 : decode cX0_join 163 = .ok (.return_, 1) := by decide +kernel
theorem dX0_sort_0 : decode cX0_sort 0 = .ok (.iconst 0, 1) := by decide +kernel
theorem dX0_sort_1 : decode cX0_sort 1 = .ok (.istore_n 1, 1) := by decide +kernel
theorem dX0_sort_2 : decode cX0_sort 2 = .ok (.iconst 0, 1) := by decide +kernel
theorem dX0_sort_3 : decode cX0_sort 3 = .ok (.istore_n 2, 1) := by decide +kernel
theorem dX0_sort_4 : decode cX0_sort 4 = .ok (.iload_n 2, 1) := by decide +kernel
theorem dX0_sort_5 : decode cX0_sort 5 = .ok (.aload_n 0, 1) := by decide +kernel
theorem dX0_sort_6 : decode cX0_sort 6 = .ok (.getfield 69, 3) := by decide +kernel
theorem dX0_sort_9 : decode cX0_sort 9 = .ok (.if_icmp .ge 70, 3) := by decide +kernel
theorem dX0_sort_12 : decode cX0_sort 12 = .ok (.aload_n 0, 1) := by decide +kernel
theorem dX0_sort_13 : decode cX0_sort 13 = .ok (.getfield 28, 3) := by decide +kernel
theorem dX0_sort_16 : decode cX0_sort 16 = .ok (.iload_n 2, 1) := by decide +kernel
theorem dX0_sort_17 : decode cX0_sort 17 = .ok (.baload, 1) := by decide +kernel
theorem dX0_sort_18 : decode cX0_sort 18 = .ok (.ifCond .eq 55, 3) := by decide +kernel
theorem dX0_sort_21 : decode cX0_sort 21 = .ok (.aload_n 0, 1) := by decide +kernel
theorem dX0_sort_22 : decode cX0_sort 22 = .ok (.getfield 24, 3) := by decide +kernel
theorem dX0_sort_25 : decode cX0_sort 25 = .ok (.iload_n 2, 1) := by decide +kernel
theorem dX0_sort_26 : decode cX0_sort 26 = .ok (.laload, 1) := by decide +kernel
theorem dX0_sort_27 : decode cX0_sort 27 = .ok (.lconst 0, 1) := by decide +kernel
end
section
set_option maxRecDepth 100000
theorem dX0_sort_28 : decode cX0_sort 28 = .ok (.lcmp, 1) := by decide +kernel
theorem dX0_sort_29 : decode cX0_sort 29 = .ok (.ifCond .eq 44, 3) := by decide +kernel
theorem dX0_sort_32 : decode cX0_sort 32 = .ok (.aload_n 0, 1) := by decide +kernel
theorem dX0_sort_33 : decode cX0_sort 33 = .ok (.getfield 13, 3) := by decide +kernel
theorem dX0_sort_36 : decode cX0_sort 36 = .ok (.aload_n 0, 1) := by decide +kernel
theorem dX0_sort_37 : decode cX0_sort 37 = .ok (.getfield 17, 3) := by decide +kernel
theorem dX0_sort_40 : decode cX0_sort 40 = .ok (.iload_n 2, 1) := by decide +kernel
theorem dX0_sort_41 : decode cX0_sort 41 = .ok (.iaload, 1) := by decide +kernel
theorem dX0_sort_42 : decode cX0_sort 42 = .ok (.baload, 1) := by decide +kernel
theorem dX0_sort_43 : decode cX0_sort 43 = .ok (.ifCond .eq 30, 3) := by decide +kernel
theorem dX0_sort_46 : decode cX0_sort 46 = .ok (.aload_n 0, 1) := by decide +kernel
theorem dX0_sort_47 : decode cX0_sort 47 = .ok (.getfield 13, 3) := by decide +kernel
theorem dX0_sort_50 : decode cX0_sort 50 = .ok (.aload_n 0, 1) := by decide +kernel
theorem dX0_sort_51 : decode cX0_sort 51 = .ok (.getfield 21, 3) := by decide +kernel
theorem dX0_sort_54 : decode cX0_sort 54 = .ok (.iload_n 2, 1) := by decide +kernel
theorem dX0_sort_55 : decode cX0_sort 55 = .ok (.iaload, 1) := by decide +kernel
theorem dX0_sort_56 : decode cX0_sort 56 = .ok (.baload, 1) := by decide +kernel
theorem dX0_sort_57 : decode cX0_sort 57 = .ok (.ifCond .ne 6, 3) := by decide +kernel
theorem dX0_sort_60 : decode cX0_sort 60 = .ok (.goto 13, 3) := by decide +kernel
theorem dX0_sort_63 : decode cX0_sort 63 = .ok (.aload_n 0, 1) := by decide +kernel
theorem dX0_sort_64 : decode cX0_sort 64 = .ok (.getfield 36, 3) := by decide +kernel
theorem dX0_sort_67 : decode cX0_sort 67 = .ok (.iload_n 1, 1) := by decide +kernel
theorem dX0_sort_68 : decode cX0_sort 68 = .ok (.iload_n 2, 1) := by decide +kernel
theorem dX0_sort_69 : decode cX0_sort 69 = .ok (.iastore, 1) := by decide +kernel
theorem dX0_sort_70 : decode cX0_sort 70 = .ok (.iinc 1 1, 3) := by decide +kernel
theorem dX0_sort_73 : decode cX0_sort 73 = .ok (.iinc 2 1, 3) := by decide +kernel
theorem dX0_sort_76 : decode cX0_sort 76 = .ok (.goto (-72), 3) := by decide +kernel
theorem dX0_sort_79 : decode cX0_sort 79 = .ok (.iload_n 1, 1) := by decide +kernel
theorem dX0_sort_80 : decode cX0_sort 80 = .ok (.iconst 2, 1) := by decide +kernel
theorem dX0_sort_81 : decode cX0_sort 81 = .ok (.idiv, 1) := by decide +kernel
theorem dX0_sort_82 : decode cX0_sort 82 = .ok (.iconst 1, 1) := by decide +kernel
theorem dX0_sort_83 : decode cX0_sort 83 = .ok (.isub, 1) := by decide +kernel
theorem dX0_sort_84 : decode cX0_sort 84 = .ok (.istore_n 2, 1) := by decide +kernel
theorem dX0_sort_85 : decode cX0_sort 85 = .ok (.iload_n 2, 1) := by decide +kernel
theorem dX0_sort_86 : decode cX0_sort 86 = .ok (.ifCond .lt 15, 3) := by decide +kernel
theorem dX0_sort_89 : decode cX0_sort 89 = .ok (.aload_n 0, 1) := by decide +kernel
theorem dX0_sort_90 : decode cX0_sort 90 = .ok (.iload_n 2, 1) := by decide +kernel
theorem dX0_sort_91 : decode cX0_sort 91 = .ok (.iload_n 1, 1) := by decide +kernel
theorem dX0_sort_92 : decode cX0_sort 92 = .ok (.invokevirtual 95, 3) := by decide +kernel
theorem dX0_sort_95 : decode cX0_sort 95 = .ok (.iinc 2 (-1), 3) := by decide +kernel
theorem dX0_sort_98 : decode cX0_sort 98 = .ok (.goto (-13), 3) := by decide +kernel
theorem dX0_sort_101 : decode cX0_sort 101 = .ok (.iload_n 1, 1) := by decide +kernel
theorem dX0_sort_102 : decode cX0_sort 102 = .ok (.iconst 1, 1) := by decide +kernel
theorem dX0_sort_103 : decode cX0_sort 103 = .ok (.isub, 1) := by decide +kernel
theorem dX0_sort_104 : decode cX0_sort 104 = .ok (.istore_n 2, 1) := by decide +kernel
theorem dX0_sort_105 : decode cX0_sort 105 = .ok (.iload_n 2, 1) := by decide +kernel
theorem dX0_sort_106 : decode cX0_sort 106 = .ok (.ifCond .le 41, 3) := by decide +kernel
theorem dX0_sort_109 : decode cX0_sort 109 = .ok (.aload_n 0, 1) := by decide +kernel
theorem dX0_sort_110 : decode cX0_sort 110 = .ok (.getfield 36, 3) := by decide +kernel
theorem dX0_sort_113 : decode cX0_sort 113 = .ok (.iconst 0, 1) := by decide +kernel
theorem dX0_sort_114 : decode cX0_sort 114 = .ok (.iaload, 1) := by decide +kernel
theorem dX0_sort_115 : decode cX0_sort 115 = .ok (.istore_n 3, 1) := by decide +kernel
theorem dX0_sort_116 : decode cX0_sort 116 = .ok (.aload_n 0, 1) := by decide +kernel
theorem dX0_sort_117 : decode cX0_sort 117 = .ok (.getfield 36, 3) := by decide +kernel
theorem dX0_sort_120 : decode cX0_sort 120 = .ok (.iconst 0, 1) := by decide +kernel
theorem dX0_sort_121 : decode cX0_sort 121 = .ok (.aload_n 0, 1) := by decide +kernel
theorem dX0_sort_122 : decode cX0_sort 122 = .ok (.getfield 36, 3) := by decide +kernel
theorem dX0_sort_125 : decode cX0_sort 125 = .ok (.iload_n 2, 1) := by decide +kernel
theorem dX0_sort_126 : decode cX0_sort 126 = .ok (.iaload, 1) := by decide +kernel
theorem dX0_sort_127 : decode cX0_sort 127 = .ok (.iastore, 1) := by decide +kernel
theorem dX0_sort_128 : decode cX0_sort 128 = .ok (.aload_n 0, 1) := by decide +kernel
theorem dX0_sort_129 : decode cX0_sort 129 = .ok (.getfield 36, 3) := by decide +kernel
theorem dX0_sort_132 : decode cX0_sort 132 = .ok (.iload_n 2, 1) := by decide +kernel
theorem dX0_sort_133 : decode cX0_sort 133 = .ok (.iload_n 3, 1) := by decide +kernel
theorem dX0_sort_134 : decode cX0_sort 134 = .ok (.iastore, 1) := by decide +kernel
theorem dX0_sort_135 : decode cX0_sort 135 = .ok (.aload_n 0, 1) := by decide +kernel
theorem dX0_sort_136 : decode cX0_sort 136 = .ok (.iconst 0, 1) := by decide +kernel
theorem dX0_sort_137 : decode cX0_sort 137 = .ok (.iload_n 2, 1) := by decide +kernel
theorem dX0_sort_138 : decode cX0_sort 138 = .ok (.invokevirtual 95, 3) := by decide +kernel
theorem dX0_sort_141 : decode cX0_sort 141 = .ok (.iinc 2 (-1), 3) := by decide +kernel
theorem dX0_sort_144 : decode cX0_sort 144 = .ok (.goto (-39), 3) := by decide +kernel
theorem dX0_sort_147 : decode cX0_sort 147 = .ok (.iload_n 1, 1) := by decide +kernel
theorem dX0_sort_148 : decode cX0_sort 148 = .ok (.ireturn, 1) := by decide +kernel
theorem dX0_sink_0 : decode cX0_sink 0 = .ok (.iload_n 1, 1) := by decide +kernel
theorem dX0_sink_1 : decode cX0_sink 1 = .ok (.istore_n 3, 1) := by decide +kernel
theorem dX0_sink_2 : decode cX0_sink 2 = .ok (.iconst 2, 1) := by decide +kernel
theorem dX0_sink_3 : decode cX0_sink 3 = .ok (.iload_n 3, 1) := by decide +kernel
theorem dX0_sink_4 : decode cX0_sink 4 = .ok (.imul, 1) := by decide +kernel
theorem dX0_sink_5 : decode cX0_sink 5 = .ok (.iconst 1, 1) := by decide +kernel
theorem dX0_sink_6 : decode cX0_sink 6 = .ok (.iadd, 1) := by decide +kernel
theorem dX0_sink_7 : decode cX0_sink 7 = .ok (.iload_n 2, 1) := by decide +kernel
theorem dX0_sink_8 : decode cX0_sink 8 = .ok (.if_icmp .ge 7, 3) := by decide +kernel
theorem dX0_sink_11 : decode cX0_sink 11 = .ok (.iconst 1, 1) := by decide +kernel
theorem dX0_sink_12 : decode cX0_sink 12 = .ok (.goto 4, 3) := by decide +kernel
theorem dX0_sink_15 : decode cX0_sink 15 = .ok (.iconst 0, 1) := by decide +kernel
theorem dX0_sink_16 : decode cX0_sink 16 = .ok (.istore 4, 2) := by decide +kernel
theorem dX0_sink_18 : decode cX0_sink 18 = .ok (.iload 4, 2) := by decide +kernel
theorem dX0_sink_20 : decode cX0_sink 20 = .ok (.ifCond .eq 123, 3) := by decide +kernel
theorem dX0_sink_23 : decode cX0_sink 23 = .ok (.iconst 2, 1) := by decide +kernel
theorem dX0_sink_24 : decode cX0_sink 24 = .ok (.iload_n 3, 1) := by decide +kernel
theorem dX0_sink_25 : decode cX0_sink 25 = .ok (.imul, 1) := by decide +kernel
theorem dX0_sink_26 : decode cX0_sink 26 = .ok (.iconst 1, 1) := by decide +kernel
theorem dX0_sink_27 : decode cX0_sink 27 = .ok (.iadd, 1) := by decide +kernel
theorem dX0_sink_28 : decode cX0_sink 28 = .ok (.istore 5, 2) := by decide +kernel
theorem dX0_sink_30 : decode cX0_sink 30 = .ok (.iload 5, 2) := by decide +kernel
theorem dX0_sink_32 : decode cX0_sink 32 = .ok (.iconst 1, 1) := by decide +kernel
theorem dX0_sink_33 : decode cX0_sink 33 = .ok (.iadd, 1) := by decide +kernel
theorem dX0_sink_34 : decode cX0_sink 34 = .ok (.iload_n 2, 1) := by decide +kernel
theorem dX0_sink_35 : decode cX0_sink 35 = .ok (.if_icmp .ge 29, 3) := by decide +kernel
theorem dX0_sink_38 : decode cX0_sink 38 = .ok (.aload_n 0, 1) := by decide +kernel
theorem dX0_sink_39 : decode cX0_sink 39 = .ok (.aload_n 0, 1) := by decide +kernel
theorem dX0_sink_40 : decode cX0_sink 40 = .ok (.getfield 36, 3) := by decide +kernel
theorem dX0_sink_43 : decode cX0_sink 43 = .ok (.iload 5, 2) := by decide +kernel
theorem dX0_sink_45 : decode cX0_sink 45 = .ok (.iaload, 1) := by decide +kernel
theorem dX0_sink_46 : decode cX0_sink 46 = .ok (.aload_n 0, 1) := by decide +kernel
theorem dX0_sink_47 : decode cX0_sink 47 = .ok (.getfield 36, 3) := by decide +kernel
theorem dX0_sink_50 : decode cX0_sink 50 = .ok (.iload 5, 2) := by decide +kernel
theorem dX0_sink_52 : decode cX0_sink 52 = .ok (.iconst 1, 1) := by decide +kernel
theorem dX0_sink_53 : decode cX0_sink 53 = .ok (.iadd, 1) := by decide +kernel
theorem dX0_sink_54 : decode cX0_sink 54 = .ok (.iaload, 1) := by decide +kernel
theorem dX0_sink_55 : decode cX0_sink 55 = .ok (.invokevirtual 99, 3) := by decide +kernel
theorem dX0_sink_58 : decode cX0_sink 58 = .ok (.ifCond .eq 6, 3) := by decide +kernel
theorem dX0_sink_61 : decode cX0_sink 61 = .ok (.iinc 5 1, 3) := by decide +kernel
theorem dX0_sink_64 : decode cX0_sink 64 = .ok (.aload_n 0, 1) := by decide +kernel
theorem dX0_sink_65 : decode cX0_sink 65 = .ok (.aload_n 0, 1) := by decide +kernel
theorem dX0_sink_66 : decode cX0_sink 66 = .ok (.getfield 36, 3) := by decide +kernel
theorem dX0_sink_69 : decode cX0_sink 69 = .ok (.iload_n 3, 1) := by decide +kernel
theorem dX0_sink_70 : decode cX0_sink 70 = .ok (.iaload, 1) := by decide +kernel
theorem dX0_sink_71 : decode cX0_sink 71 = .ok (.aload_n 0, 1) := by decide +kernel
theorem dX0_sink_72 : decode cX0_sink 72 = .ok (.getfield 36, 3) := by decide +kernel
theorem dX0_sink_75 : decode cX0_sink 75 = .ok (.iload 5, 2) := by decide +kernel
theorem dX0_sink_77 : decode cX0_sink 77 = .ok (.iaload, 1) := by decide +kernel
theorem dX0_sink_78 : decode cX0_sink 78 = .ok (.invokevirtual 99, 3) := by decide +kernel
theorem dX0_sink_81 : decode cX0_sink 81 = .ok (.istore 4, 2) := by decide +kernel
theorem dX0_sink_83 : decode cX0_sink 83 = .ok (.iload 4, 2) := by decide +kernel
theorem dX0_sink_85 : decode cX0_sink 85 = .ok (.ifCond .ne 6, 3) := by decide +kernel
theorem dX0_sink_88 : decode cX0_sink 88 = .ok (.goto (-70), 3) := by decide +kernel
theorem dX0_sink_91 : decode cX0_sink 91 = .ok (.aload_n 0, 1) := by decide +kernel
theorem dX0_sink_92 : decode cX0_sink 92 = .ok (.getfield 36, 3) := by decide +kernel
theorem dX0_sink_95 : decode cX0_sink 95 = .ok (.iload_n 3, 1) := by decide +kernel
theorem dX0_sink_96 : decode cX0_sink 96 = .ok (.iaload, 1) := by decide +kernel
theorem dX0_sink_97 : decode cX0_sink 97 = .ok (.istore 6, 2) := by decide +kernel
theorem dX0_sink_99 : decode cX0_sink 99 = .ok (.aload_n 0, 1) := by decide +kernel
theorem dX0_sink_100 : decode cX0_sink 100 = .ok (.getfield 36, 3) := by decide +kernel
theorem dX0_sink_103 : decode cX0_sink 103 = .ok (.iload_n 3, 1) := by decide +kernel
theorem dX0_sink_104 : decode cX0_sink 104 = .ok (.aload_n 0, 1) := by decide +kernel
theorem dX0_sink_105 : decode cX0_sink 105 = .ok (.getfield 36, 3) := by decide +kernel
theorem dX0_sink_108 : decode cX0_sink 108 = .ok (.iload 5, 2) := by decide +kernel
theorem dX0_sink_110 : decode cX0_sink 110 = .ok (.iaload, 1) := by decide +kernel
theorem dX0_sink_111 : decode cX0_sink 111 = .ok (.iastore, 1) := by decide +kernel
theorem dX0_sink_112 : decode cX0_sink 112 = .ok (.aload_n 0, 1) := by decide +kernel
theorem dX0_sink_113 : decode cX0_sink 113 = .ok (.getfield 36, 3) := by decide +kernel
theorem dX0_sink_116 : decode cX0_sink 116 = .ok (.iload 5, 2) := by decide +kernel
theorem dX0_sink_118 : decode cX0_sink 118 = .ok (.iload 6, 2) := by decide +kernel
theorem dX0_sink_120 : decode cX0_sink 120 = .ok (.iastore, 1) := by decide +kernel
theorem dX0_sink_121 : decode cX0_sink 121 = .ok (.iload 5, 2) := by decide +kernel
theorem dX0_sink_123 : decode cX0_sink 123 = .ok (.istore_n 3, 1) := by decide +kernel
theorem dX0_sink_124 : decode cX0_sink 124 = .ok (.iconst 2, 1) := by decide +kernel
theorem dX0_sink_125 : decode cX0_sink 125 = .ok (.iload_n 3, 1) := by decide +kernel
theorem dX0_sink_126 : decode cX0_sink 126 = .ok (.imul, 1) := by decide +kernel
theorem dX0_sink_127 : decode cX0_sink 127 = .ok (.iconst 1, 1) := by decide +kernel
theorem dX0_sink_128 : decode cX0_sink 128 = .ok (.iadd, 1) := by decide +kernel
theorem dX0_sink_129 : decode cX0_sink 129 = .ok (.iload_n 2, 1) := by decide +kernel
theorem dX0_sink_130 : decode cX0_sink 130 = .ok (.if_icmp .ge 7, 3) := by decide +kernel
theorem dX0_sink_133 : decode cX0_sink 133 = .ok (.iconst 1, 1) := by decide +kernel
theorem dX0_sink_134 : decode cX0_sink 134 = .ok (.goto 4, 3) := by decide +kernel
theorem dX0_sink_137 : decode cX0_sink 137 = .ok (.iconst 0, 1) := by decide +kernel
theorem dX0_sink_138 : decode cX0_sink 138 = .ok (.istore 4, 2) := by decide +kernel
theorem dX0_sink_140 : decode cX0_sink 140 = .ok (.goto (-122), 3) := by decide +kernel
theorem dX0_sink_143 : decode cX0_sink 143 = .ok (.return_, 1) := by decide +kernel
theorem dX0_isSooner_0 : decode cX0_isSooner 0 = .ok (.aload_n 0, 1) := by decide +kernel
theorem dX0_isSooner_1 : decode cX0_isSooner 1 = .ok (.getfield 24, 3) := by decide +kernel
theorem dX0_isSooner_4 : decode cX0_isSooner 4 = .ok (.iload_n 1, 1) := by decide +kernel
theorem dX0_isSooner_5 : decode cX0_isSooner 5 = .ok (.laload, 1) := by decide +kernel
theorem dX0_isSooner_6 : decode cX0_isSooner 6 = .ok (.aload_n 0, 1) := by decide +kernel
theorem dX0_isSooner_7 : decode cX0_isSooner 7 = .ok (.getfield 24, 3) := by decide +kernel
theorem dX0_isSooner_10 : decode cX0_isSooner 10 = .ok (.iload_n 2, 1) := by decide +kernel
theorem dX0_isSooner_11 : decode cX0_isSooner 11 = .ok (.laload, 1) := by decide +kernel
theorem dX0_isSooner_12 : decode cX0_isSooner 12 = .ok (.lcmp, 1) := by decide +kernel
theorem dX0_isSooner_13 : decode cX0_isSooner 13 = .ok (.ifCond .eq 25, 3) := by decide +kernel
theorem dX0_isSooner_16 : decode cX0_isSooner 16 = .ok (.aload_n 0, 1) := by decide +kernel
theorem dX0_isSooner_17 : decode cX0_isSooner 17 = .ok (.getfield 24, 3) := by decide +kernel
theorem dX0_isSooner_20 : decode cX0_isSooner 20 = .ok (.iload_n 1, 1) := by decide +kernel
theorem dX0_isSooner_21 : decode cX0_isSooner 21 = .ok (.laload, 1) := by decide +kernel
theorem dX0_isSooner_22 : decode cX0_isSooner 22 = .ok (.aload_n 0, 1) := by decide +kernel
theorem dX0_isSooner_23 : decode cX0_isSooner 23 = .ok (.getfield 24, 3) := by decide +kernel
theorem dX0_isSooner_26 : decode cX0_isSooner 26 = .ok (.iload_n 2, 1) := by decide +kernel
theorem dX0_isSooner_27 : decode cX0_isSooner 27 = .ok (.laload, 1) := by decide +kernel
theorem dX0_isSooner_28 : decode cX0_isSooner 28 = .ok (.lcmp, 1) := by decide +kernel
theorem dX0_isSooner_29 : decode cX0_isSooner 29 = .ok (.ifCond .le 7, 3) := by decide +kernel
theorem dX0_isSooner_32 : decode cX0_isSooner 32 = .ok (.iconst 1, 1) := by decide +kernel
theorem dX0_isSooner_33 : decode cX0_isSooner 33 = .ok (.goto 4, 3) := by decide +kernel
theorem dX0_isSooner_36 : decode cX0_isSooner 36 = .ok (.iconst 0, 1) := by decide +kernel
theorem dX0_isSooner_37 : decode cX0_isSooner 37 = .ok (.ireturn, 1) := by decide +kernel
theorem dX0_isSooner_38 : decode cX0_isSooner 38 = .ok (.aload_n 0, 1) := by decide +kernel
theorem dX0_isSooner_39 : decode cX0_isSooner 39 = .ok (.getfield 17, 3) := by decide +kernel
theorem dX0_isSooner_42 : decode cX0_isSooner 42 = .ok (.iload_n 1, 1) := by decide +kernel
theorem dX0_isSooner_43 : decode cX0_isSooner 43 = .ok (.iaload, 1) := by decide +kernel
theorem dX0_isSooner_44 : decode cX0_isSooner 44 = .ok (.aload_n 0, 1) := by decide +kernel
theorem dX0_isSooner_45 : decode cX0_isSooner 45 = .ok (.getfield 17, 3) := by decide +kernel
theorem dX0_isSooner_48 : decode cX0_isSooner 48 = .ok (.iload_n 2, 1) := by decide +kernel
theorem dX0_isSooner_49 : decode cX0_isSooner 49 = .ok (.iaload, 1) := by decide +kernel
theorem dX0_isSooner_50 : decode cX0_isSooner 50 = .ok (.if_icmp .eq 26, 3) := by decide +kernel
theorem dX0_isSooner_53 : decode cX0_isSooner 53 = .ok (.aload_n 0, 1) := by decide +kernel
theorem dX0_isSooner_54 : decode cX0_isSooner 54 = .ok (.getfield 17, 3) := by decide +kernel
theorem dX0_isSooner_57 : decode cX0_isSooner 57 = .ok (.iload_n 1, 1) := by decide +kernel
theorem dX0_isSooner_58 : decode cX0_isSooner 58 = .ok (.iaload, 1) := by decide +kernel
theorem dX0_isSooner_59 : decode cX0_isSooner 59 = .ok (.aload_n 0, 1) := by decide +kernel
theorem dX0_isSooner_60 : decode cX0_isSooner 60 = .ok (.getfield 17, 3) := by decide +kernel
theorem dX0_isSooner_63 : decode cX0_isSooner 63 = .ok (.iload_n 2, 1) := by decide +kernel
theorem dX0_isSooner_64 : decode cX0_isSooner 64 = .ok (.iaload, 1) := by decide +kernel
theorem dX0_isSooner_65 : decode cX0_isSooner 65 = .ok (.if_icmp .ge 7, 3) := by decide +kernel
theorem dX0_isSooner_68 : decode cX0_isSooner 68 = .ok (.iconst 1, 1) := by decide +kernel
theorem dX0_isSooner_69 : decode cX0_isSooner 69 = .ok (.goto 27, 3) := by decide +kernel
theorem dX0_isSooner_72 : decode cX0_isSooner 72 = .ok (.iconst 0, 1) := by decide +kernel
theorem dX0_isSooner_73 : decode cX0_isSooner 73 = .ok (.goto 23, 3) := by decide +kernel
theorem dX0_isSooner_76 : decode cX0_isSooner 76 = .ok (.aload_n 0, 1) := by decide +kernel
theorem dX0_isSooner_77 : decode cX0_isSooner 77 = .ok (.getfield 21, 3) := by decide +kernel
theorem dX0_isSooner_80 : decode cX0_isSooner 80 = .ok (.iload_n 1, 1) := by decide +kernel
theorem dX0_isSooner_81 : decode cX0_isSooner 81 = .ok (.iaload, 1) := by decide +kernel
theorem dX0_isSooner_82 : decode cX0_isSooner 82 = .ok (.aload_n 0, 1) := by decide +kernel
theorem dX0_isSooner_83 : decode cX0_isSooner 83 = .ok (.getfield 21, 3) := by decide +kernel
theorem dX0_isSooner_86 : decode cX0_isSooner 86 = .ok (.iload_n 2, 1) := by decide +kernel
theorem dX0_isSooner_87 : decode cX0_isSooner 87 = .ok (.iaload, 1) := by decide +kernel
theorem dX0_isSooner_88 : decode cX0_isSooner 88 = .ok (.if_icmp .ge 7, 3) := by decide +kernel
theorem dX0_isSooner_91 : decode cX0_isSooner 91 = .ok (.iconst 1, 1) := by decide +kernel
theorem dX0_isSooner_92 : decode cX0_isSooner 92 = .ok (.goto 4, 3) := by decide +kernel
theorem dX0_isSooner_95 : decode cX0_isSooner 95 = .ok (.iconst 0, 1) := by decide +kernel
theorem dX0_isSooner_96 : decode cX0_isSooner 96 = .ok (.ireturn, 1) := by decide +kernel
theorem dX0_headOf_0 : decode cX0_headOf 0 = .ok (.iload_n 1, 1) := by decide +kernel
theorem dX0_headOf_1 : decode cX0_headOf 1 = .ok (.istore_n 2, 1) := by decide +kernel
theorem dX0_headOf_2 : decode cX0_headOf 2 = .ok (.aload_n 0, 1) := by decide +kernel
theorem dX0_headOf_3 : decode cX0_headOf 3 = .ok (.getfield 45, 3) := by decide +kernel
theorem dX0_headOf_6 : decode cX0_headOf 6 = .ok (.iload_n 2, 1) := by decide +kernel
theorem dX0_headOf_7 : decode cX0_headOf 7 = .ok (.iaload, 1) := by decide +kernel
theorem dX0_headOf_8 : decode cX0_headOf 8 = .ok (.iload_n 2, 1) := by decide +kernel
theorem dX0_headOf_9 : decode cX0_headOf 9 = .ok (.if_icmp .eq 30, 3) := by decide +kernel
theorem dX0_headOf_12 : decode cX0_headOf 12 = .ok (.aload_n 0, 1) := by decide +kernel
theorem dX0_headOf_13 : decode cX0_headOf 13 = .ok (.getfield 45, 3) := by decide +kernel
theorem dX0_headOf_16 : decode cX0_headOf 16 = .ok (.iload_n 2, 1) := by decide +kernel
theorem dX0_headOf_17 : decode cX0_headOf 17 = .ok (.aload_n 0, 1) := by decide +kernel
theorem dX0_headOf_18 : decode cX0_headOf 18 = .ok (.getfield 45, 3) := by decide +kernel
theorem dX0_headOf_21 : decode cX0_headOf 21 = .ok (.aload_n 0, 1) := by decide +kernel
theorem dX0_headOf_22 : decode cX0_headOf 22 = .ok (.getfield 45, 3) := by decide +kernel
theorem dX0_headOf_25 : decode cX0_headOf 25 = .ok (.iload_n 2, 1) := by decide +kernel
theorem dX0_headOf_26 : decode cX0_headOf 26 = .ok (.iaload, 1) := by decide +kernel
theorem dX0_headOf_27 : decode cX0_headOf 27 = .ok (.iaload, 1) := by decide +kernel
theorem dX0_headOf_28 : decode cX0_headOf 28 = .ok (.iastore, 1) := by decide +kernel
theorem dX0_headOf_29 : decode cX0_headOf 29 = .ok (.aload_n 0, 1) := by decide +kernel
theorem dX0_headOf_30 : decode cX0_headOf 30 = .ok (.getfield 45, 3) := by decide +kernel
theorem dX0_headOf_33 : decode cX0_headOf 33 = .ok (.iload_n 2, 1) := by decide +kernel
theorem dX0_headOf_34 : decode cX0_headOf 34 = .ok (.iaload, 1) := by decide +kernel
theorem dX0_headOf_35 : decode cX0_headOf 35 = .ok (.istore_n 2, 1) := by decide +kernel
theorem dX0_headOf_36 : decode cX0_headOf 36 = .ok (.goto (-34), 3) := by decide +kernel
theorem dX0_headOf_39 : decode cX0_headOf 39 = .ok (.iload_n 2, 1) := by decide +kernel
theorem dX0_headOf_40 : decode cX0_headOf 40 = .ok (.ireturn, 1) := by decide +kernel
theorem dX0_weigh_0 : decode cX0_weigh 0 = .ok (.iconst 0, 1) := by decide +kernel
theorem dX0_weigh_1 : decode cX0_weigh 1 = .ok (.istore_n 3, 1) := by decide +kernel
theorem dX0_weigh_2 : decode cX0_weigh 2 = .ok (.iload_n 3, 1) := by decide +kernel
theorem dX0_weigh_3 : decode cX0_weigh 3 = .ok (.aload_n 0, 1) := by decide +kernel
theorem dX0_weigh_4 : decode cX0_weigh 4 = .ok (.getfield 7, 3) := by decide +kernel
theorem dX0_weigh_7 : decode cX0_weigh 7 = .ok (.if_icmp .ge 17, 3) := by decide +kernel
theorem dX0_weigh_10 : decode cX0_weigh 10 = .ok (.aload_n 0, 1) := by decide +kernel
theorem dX0_weigh_11 : decode cX0_weigh 11 = .ok (.getfield 63, 3) := by decide +kernel
theorem dX0_weigh_14 : decode cX0_weigh 14 = .ok (.iload_n 3, 1) := by decide +kernel
theorem dX0_weigh_15 : decode cX0_weigh 15 = .ok (.bipush (-2), 2) := by decide +kernel
theorem dX0_weigh_17 : decode cX0_weigh 17 = .ok (.iastore, 1) := by decide +kernel
theorem dX0_weigh_18 : decode cX0_weigh 18 = .ok (.iinc 3 1, 3) := by decide +kernel
theorem dX0_weigh_21 : decode cX0_weigh 21 = .ok (.goto (-19), 3) := by decide +kernel
theorem dX0_weigh_24 : decode cX0_weigh 24 = .ok (.iconst 0, 1) := by decide +kernel
theorem dX0_weigh_25 : decode cX0_weigh 25 = .ok (.istore_n 3, 1) := by decide +kernel
theorem dX0_weigh_26 : decode cX0_weigh 26 = .ok (.iload_n 3, 1) := by decide +kernel
theorem dX0_weigh_27 : decode cX0_weigh 27 = .ok (.iload_n 2, 1) := by decide +kernel
theorem dX0_weigh_28 : decode cX0_weigh 28 = .ok (.if_icmp .ge 18, 3) := by decide +kernel
theorem dX0_weigh_31 : decode cX0_weigh 31 = .ok (.aload_n 0, 1) := by decide +kernel
theorem dX0_weigh_32 : decode cX0_weigh 32 = .ok (.getfield 63, 3) := by decide +kernel
theorem dX0_weigh_35 : decode cX0_weigh 35 = .ok (.aload_n 1, 1) := by decide +kernel
theorem dX0_weigh_36 : decode cX0_weigh 36 = .ok (.iload_n 3, 1) := by decide +kernel
theorem dX0_weigh_37 : decode cX0_weigh 37 = .ok (.iaload, 1) := by decide +kernel
theorem dX0_weigh_38 : decode cX0_weigh 38 = .ok (.iload_n 3, 1) := by decide +kernel
theorem dX0_weigh_39 : decode cX0_weigh 39 = .ok (.iastore, 1) := by decide +kernel
theorem dX0_weigh_40 : decode cX0_weigh 40 = .ok (.iinc 3 1, 3) := by decide +kernel
theorem dX0_weigh_43 : decode cX0_weigh 43 = .ok (.goto (-17), 3) := by decide +kernel
theorem dX0_weigh_46 : decode cX0_weigh 46 = .ok (.lconst 0, 1) := by decide +kernel
theorem dX0_weigh_47 : decode cX0_weigh 47 = .ok (.lstore_n 3, 1) := by decide +kernel
theorem dX0_weigh_48 : decode cX0_weigh 48 = .ok (.iconst 0, 1) := by decide +kernel
theorem dX0_weigh_49 : decode cX0_weigh 49 = .ok (.istore 5, 2) := by decide +kernel
theorem dX0_weigh_51 : decode cX0_weigh 51 = .ok (.iload 5, 2) := by decide +kernel
theorem dX0_weigh_53 : decode cX0_weigh 53 = .ok (.aload_n 0, 1) := by decide +kernel
theorem dX0_weigh_54 : decode cX0_weigh 54 = .ok (.getfield 69, 3) := by decide +kernel
theorem dX0_weigh_57 : decode cX0_weigh 57 = .ok (.if_icmp .ge 73, 3) := by decide +kernel
theorem dX0_weigh_60 : decode cX0_weigh 60 = .ok (.aload_n 0, 1) := by decide +kernel
theorem dX0_weigh_61 : decode cX0_weigh 61 = .ok (.getfield 28, 3) := by decide +kernel
theorem dX0_weigh_64 : decode cX0_weigh 64 = .ok (.iload 5, 2) := by decide +kernel
theorem dX0_weigh_66 : decode cX0_weigh 66 = .ok (.baload, 1) := by decide +kernel
theorem dX0_weigh_67 : decode cX0_weigh 67 = .ok (.ifCond .eq 57, 3) := by decide +kernel
theorem dX0_weigh_70 : decode cX0_weigh 70 = .ok (.aload_n 0, 1) := by decide +kernel
theorem dX0_weigh_71 : decode cX0_weigh 71 = .ok (.getfield 63, 3) := by decide +kernel
theorem dX0_weigh_74 : decode cX0_weigh 74 = .ok (.aload_n 0, 1) := by decide +kernel
theorem dX0_weigh_75 : decode cX0_weigh 75 = .ok (.getfield 17, 3) := by decide +kernel
theorem dX0_weigh_78 : decode cX0_weigh 78 = .ok (.iload 5, 2) := by decide +kernel
theorem dX0_weigh_80 : decode cX0_weigh 80 = .ok (.iaload, 1) := by decide +kernel
theorem dX0_weigh_81 : decode cX0_weigh 81 = .ok (.iaload, 1) := by decide +kernel
theorem dX0_weigh_82 : decode cX0_weigh 82 = .ok (.ifCond .lt 42, 3) := by decide +kernel
theorem dX0_weigh_85 : decode cX0_weigh 85 = .ok (.aload_n 0, 1) := by decide +kernel
theorem dX0_weigh_86 : decode cX0_weigh 86 = .ok (.getfield 63, 3) := by decide +kernel
theorem dX0_weigh_89 : decode cX0_weigh 89 = .ok (.aload_n 0, 1) := by decide +kernel
theorem dX0_weigh_90 : decode cX0_weigh 90 = .ok (.getfield 21, 3) := by decide +kernel
theorem dX0_weigh_93 : decode cX0_weigh 93 = .ok (.iload 5, 2) := by decide +kernel
theorem dX0_weigh_95 : decode cX0_weigh 95 = .ok (.iaload, 1) := by decide +kernel
theorem dX0_weigh_96 : decode cX0_weigh 96 = .ok (.iaload, 1) := by decide +kernel
theorem dX0_weigh_97 : decode cX0_weigh 97 = .ok (.aload_n 0, 1) := by decide +kernel
theorem dX0_weigh_98 : decode cX0_weigh 98 = .ok (.getfield 63, 3) := by decide +kernel
theorem dX0_weigh_101 : decode cX0_weigh 101 = .ok (.aload_n 0, 1) := by decide +kernel
theorem dX0_weigh_102 : decode cX0_weigh 102 = .ok (.getfield 17, 3) := by decide +kernel
theorem dX0_weigh_105 : decode cX0_weigh 105 = .ok (.iload 5, 2) := by decide +kernel
theorem dX0_weigh_107 : decode cX0_weigh 107 = .ok (.iaload, 1) := by decide +kernel
theorem dX0_weigh_108 : decode cX0_weigh 108 = .ok (.iaload, 1) := by decide +kernel
theorem dX0_weigh_109 : decode cX0_weigh 109 = .ok (.iconst 1, 1) := by decide +kernel
theorem dX0_weigh_110 : decode cX0_weigh 110 = .ok (.iadd, 1) := by decide +kernel
theorem dX0_weigh_111 : decode cX0_weigh 111 = .ok (.if_icmp .ne 13, 3) := by decide +kernel
theorem dX0_weigh_114 : decode cX0_weigh 114 = .ok (.lload_n 3, 1) := by decide +kernel
theorem dX0_weigh_115 : decode cX0_weigh 115 = .ok (.aload_n 0, 1) := by decide +kernel
theorem dX0_weigh_116 : decode cX0_weigh 116 = .ok (.getfield 24, 3) := by decide +kernel
theorem dX0_weigh_119 : decode cX0_weigh 119 = .ok (.iload 5, 2) := by decide +kernel
theorem dX0_weigh_121 : decode cX0_weigh 121 = .ok (.laload, 1) := by decide +kernel
theorem dX0_weigh_122 : decode cX0_weigh 122 = .ok (.ladd, 1) := by decide +kernel
theorem dX0_weigh_123 : decode cX0_weigh 123 = .ok (.lstore_n 3, 1) := by decide +kernel
theorem dX0_weigh_124 : decode cX0_weigh 124 = .ok (.iinc 5 1, 3) := by decide +kernel
theorem dX0_weigh_127 : decode cX0_weigh 127 = .ok (.goto (-76), 3) := by decide +kernel
theorem dX0_weigh_130 : decode cX0_weigh 130 = .ok (.lload_n 3, 1) := by decide +kernel
theorem dX0_weigh_131 : decode cX0_weigh 131 = .ok (.lreturn, 1) := by decide +kernel
theorem dX0_best_0 : decode cX0_best 0 = .ok (.iconst (-1), 1) := by decide +kernel
theorem dX0_best_1 : decode cX0_best 1 = .ok (.istore_n 1, 1) := by decide +kernel
theorem dX0_best_2 : decode cX0_best 2 = .ok (.iconst 0, 1) := by decide +kernel
theorem dX0_best_3 : decode cX0_best 3 = .ok (.istore_n 2, 1) := by decide +kernel
theorem dX0_best_4 : decode cX0_best 4 = .ok (.iload_n 2, 1) := by decide +kernel
theorem dX0_best_5 : decode cX0_best 5 = .ok (.aload_n 0, 1) := by decide +kernel
theorem dX0_best_6 : decode cX0_best 6 = .ok (.getfield 7, 3) := by decide +kernel
theorem dX0_best_9 : decode cX0_best 9 = .ok (.if_icmp .ge 58, 3) := by decide +kernel
theorem dX0_best_12 : decode cX0_best 12 = .ok (.aload_n 0, 1) := by decide +kernel
theorem dX0_best_13 : decode cX0_best 13 = .ok (.getfield 13, 3) := by decide +kernel
theorem dX0_best_16 : decode cX0_best 16 = .ok (.iload_n 2, 1) := by decide +kernel
theorem dX0_best_17 : decode cX0_best 17 = .ok (.baload, 1) := by decide +kernel
theorem dX0_best_18 : decode cX0_best 18 = .ok (.ifCond .eq 43, 3) := by decide +kernel
theorem dX0_best_21 : decode cX0_best 21 = .ok (.aload_n 0, 1) := by decide +kernel
theorem dX0_best_22 : decode cX0_best 22 = .ok (.getfield 48, 3) := by decide +kernel
theorem dX0_best_25 : decode cX0_best 25 = .ok (.iload_n 2, 1) := by decide +kernel
theorem dX0_best_26 : decode cX0_best 26 = .ok (.baload, 1) := by decide +kernel
theorem dX0_best_27 : decode cX0_best 27 = .ok (.ifCond .eq 6, 3) := by decide +kernel
theorem dX0_best_30 : decode cX0_best 30 = .ok (.goto 31, 3) := by decide +kernel
theorem dX0_best_33 : decode cX0_best 33 = .ok (.aload_n 0, 1) := by decide +kernel
theorem dX0_best_34 : decode cX0_best 34 = .ok (.iload_n 2, 1) := by decide +kernel
theorem dX0_best_35 : decode cX0_best 35 = .ok (.invokevirtual 107, 3) := by decide +kernel
theorem dX0_best_38 : decode cX0_best 38 = .ok (.istore_n 3, 1) := by decide +kernel
theorem dX0_best_39 : decode cX0_best 39 = .ok (.iload_n 1, 1) := by decide +kernel
theorem dX0_best_40 : decode cX0_best 40 = .ok (.ifCond .lt 19, 3) := by decide +kernel
theorem dX0_best_43 : decode cX0_best 43 = .ok (.aload_n 0, 1) := by decide +kernel
theorem dX0_best_44 : decode cX0_best 44 = .ok (.getfield 51, 3) := by decide +kernel
theorem dX0_best_47 : decode cX0_best 47 = .ok (.iload_n 3, 1) := by decide +kernel
theorem dX0_best_48 : decode cX0_best 48 = .ok (.laload, 1) := by decide +kernel
theorem dX0_best_49 : decode cX0_best 49 = .ok (.aload_n 0, 1) := by decide +kernel
theorem dX0_best_50 : decode cX0_best 50 = .ok (.getfield 51, 3) := by decide +kernel
theorem dX0_best_53 : decode cX0_best 53 = .ok (.iload_n 1, 1) := by decide +kernel
theorem dX0_best_54 : decode cX0_best 54 = .ok (.laload, 1) := by decide +kernel
theorem dX0_best_55 : decode cX0_best 55 = .ok (.lcmp, 1) := by decide +kernel
theorem dX0_best_56 : decode cX0_best 56 = .ok (.ifCond .le 5, 3) := by decide +kernel
theorem dX0_best_59 : decode cX0_best 59 = .ok (.iload_n 3, 1) := by decide +kernel
theorem dX0_best_60 : decode cX0_best 60 = .ok (.istore_n 1, 1) := by decide +kernel
theorem dX0_best_61 : decode cX0_best 61 = .ok (.iinc 2 1, 3) := by decide +kernel
theorem dX0_best_64 : decode cX0_best 64 = .ok (.goto (-60), 3) := by decide +kernel
theorem dX0_best_67 : decode cX0_best 67 = .ok (.iload_n 1, 1) := by decide +kernel
theorem dX0_best_68 : decode cX0_best 68 = .ok (.ireturn, 1) := by decide +kernel
theorem dX0_put_0 : decode cX0_put 0 = .ok (.iload_n 2, 1) := by decide +kernel
theorem dX0_put_1 : decode cX0_put 1 = .ok (.istore_n 3, 1) := by decide +kernel
theorem dX0_put_2 : decode cX0_put 2 = .ok (.iload_n 1, 1) := by decide +kernel
theorem dX0_put_3 : decode cX0_put 3 = .ok (.istore 4, 2) := by decide +kernel
theorem dX0_put_5 : decode cX0_put 5 = .ok (.iload 4, 2) := by decide +kernel
theorem dX0_put_7 : decode cX0_put 7 = .ok (.ifCond .lt 34, 3) := by decide +kernel
theorem dX0_put_10 : decode cX0_put 10 = .ok (.aload_n 0, 1) := by decide +kernel
theorem dX0_put_11 : decode cX0_put 11 = .ok (.getfield 54, 3) := by decide +kernel
theorem dX0_put_14 : decode cX0_put 14 = .ok (.iload_n 3, 1) := by decide +kernel
theorem dX0_put_15 : decode cX0_put 15 = .ok (.iload 4, 2) := by decide +kernel
theorem dX0_put_17 : decode cX0_put 17 = .ok (.iastore, 1) := by decide +kernel
theorem dX0_put_18 : decode cX0_put 18 = .ok (.aload_n 0, 1) := by decide +kernel
theorem dX0_put_19 : decode cX0_put 19 = .ok (.getfield 48, 3) := by decide +kernel
theorem dX0_put_22 : decode cX0_put 22 = .ok (.iload 4, 2) := by decide +kernel
theorem dX0_put_24 : decode cX0_put 24 = .ok (.iconst 1, 1) := by decide +kernel
theorem dX0_put_25 : decode cX0_put 25 = .ok (.bastore, 1) := by decide +kernel
theorem dX0_put_26 : decode cX0_put 26 = .ok (.iinc 3 1, 3) := by decide +kernel
theorem dX0_put_29 : decode cX0_put 29 = .ok (.aload_n 0, 1) := by decide +kernel
theorem dX0_put_30 : decode cX0_put 30 = .ok (.getfield 39, 3) := by decide +kernel
theorem dX0_put_33 : decode cX0_put 33 = .ok (.iload 4, 2) := by decide +kernel
theorem dX0_put_35 : decode cX0_put 35 = .ok (.iaload, 1) := by decide +kernel
theorem dX0_put_36 : decode cX0_put 36 = .ok (.istore 4, 2) := by decide +kernel
theorem dX0_put_38 : decode cX0_put 38 = .ok (.goto (-33), 3) := by decide +kernel
theorem dX0_put_41 : decode cX0_put 41 = .ok (.iconst 0, 1) := by decide +kernel
theorem dX0_put_42 : decode cX0_put 42 = .ok (.istore 4, 2) := by decide +kernel
theorem dX0_put_44 : decode cX0_put 44 = .ok (.iload 4, 2) := by decide +kernel
theorem dX0_put_46 : decode cX0_put 46 = .ok (.aload_n 0, 1) := by decide +kernel
theorem dX0_put_47 : decode cX0_put 47 = .ok (.getfield 69, 3) := by decide +kernel
theorem dX0_put_50 : decode cX0_put 50 = .ok (.if_icmp .ge 132, 3) := by decide +kernel
theorem dX0_put_53 : decode cX0_put 53 = .ok (.aload_n 0, 1) := by decide +kernel
theorem dX0_put_54 : decode cX0_put 54 = .ok (.getfield 17, 3) := by decide +kernel
theorem dX0_put_57 : decode cX0_put 57 = .ok (.iload 4, 2) := by decide +kernel
theorem dX0_put_59 : decode cX0_put 59 = .ok (.iaload, 1) := by decide +kernel
theorem dX0_put_60 : decode cX0_put 60 = .ok (.istore 5, 2) := by decide +kernel
theorem dX0_put_62 : decode cX0_put 62 = .ok (.aload_n 0, 1) := by decide +kernel
theorem dX0_put_63 : decode cX0_put 63 = .ok (.getfield 21, 3) := by decide +kernel
theorem dX0_put_66 : decode cX0_put 66 = .ok (.iload 4, 2) := by decide +kernel
theorem dX0_put_68 : decode cX0_put 68 = .ok (.iaload, 1) := by decide +kernel
theorem dX0_put_69 : decode cX0_put 69 = .ok (.istore 6, 2) := by decide +kernel
theorem dX0_put_71 : decode cX0_put 71 = .ok (.aload_n 0, 1) := by decide +kernel
theorem dX0_put_72 : decode cX0_put 72 = .ok (.getfield 13, 3) := by decide +kernel
theorem dX0_put_75 : decode cX0_put 75 = .ok (.iload 5, 2) := by decide +kernel
theorem dX0_put_77 : decode cX0_put 77 = .ok (.baload, 1) := by decide +kernel
theorem dX0_put_78 : decode cX0_put 78 = .ok (.ifCond .eq 98, 3) := by decide +kernel
theorem dX0_put_81 : decode cX0_put 81 = .ok (.aload_n 0, 1) := by decide +kernel
theorem dX0_put_82 : decode cX0_put 82 = .ok (.getfield 13, 3) := by decide +kernel
theorem dX0_put_85 : decode cX0_put 85 = .ok (.iload 6, 2) := by decide +kernel
theorem dX0_put_87 : decode cX0_put 87 = .ok (.baload, 1) := by decide +kernel
theorem dX0_put_88 : decode cX0_put 88 = .ok (.ifCond .ne 6, 3) := by decide +kernel
theorem dX0_put_91 : decode cX0_put 91 = .ok (.goto 85, 3) := by decide +kernel
theorem dX0_put_94 : decode cX0_put 94 = .ok (.aload_n 0, 1) := by decide +kernel
theorem dX0_put_95 : decode cX0_put 95 = .ok (.iload 5, 2) := by decide +kernel
theorem dX0_put_97 : decode cX0_put 97 = .ok (.invokevirtual 107, 3) := by decide +kernel
theorem dX0_put_100 : decode cX0_put 100 = .ok (.iload_n 1, 1) := by decide +kernel
theorem dX0_put_101 : decode cX0_put 101 = .ok (.if_icmp .ne 34, 3) := by decide +kernel
theorem dX0_put_104 : decode cX0_put 104 = .ok (.aload_n 0, 1) := by decide +kernel
theorem dX0_put_105 : decode cX0_put 105 = .ok (.getfield 48, 3) := by decide +kernel
theorem dX0_put_108 : decode cX0_put 108 = .ok (.iload 6, 2) := by decide +kernel
theorem dX0_put_110 : decode cX0_put 110 = .ok (.baload, 1) := by decide +kernel
theorem dX0_put_111 : decode cX0_put 111 = .ok (.ifCond .ne 24, 3) := by decide +kernel
theorem dX0_put_114 : decode cX0_put 114 = .ok (.aload_n 0, 1) := by decide +kernel
theorem dX0_put_115 : decode cX0_put 115 = .ok (.getfield 51, 3) := by decide +kernel
theorem dX0_put_118 : decode cX0_put 118 = .ok (.aload_n 0, 1) := by decide +kernel
theorem dX0_put_119 : decode cX0_put 119 = .ok (.iload 6, 2) := by decide +kernel
theorem dX0_put_121 : decode cX0_put 121 = .ok (.invokevirtual 107, 3) := by decide +kernel
theorem dX0_put_124 : decode cX0_put 124 = .ok (.dup2, 1) := by decide +kernel
theorem dX0_put_125 : decode cX0_put 125 = .ok (.laload, 1) := by decide +kernel
theorem dX0_put_126 : decode cX0_put 126 = .ok (.aload_n 0, 1) := by decide +kernel
theorem dX0_put_127 : decode cX0_put 127 = .ok (.getfield 24, 3) := by decide +kernel
theorem dX0_put_130 : decode cX0_put 130 = .ok (.iload 4, 2) := by decide +kernel
theorem dX0_put_132 : decode cX0_put 132 = .ok (.laload, 1) := by decide +kernel
theorem dX0_put_133 : decode cX0_put 133 = .ok (.ladd, 1) := by decide +kernel
theorem dX0_put_134 : decode cX0_put 134 = .ok (.lastore, 1) := by decide +kernel
theorem dX0_put_135 : decode cX0_put 135 = .ok (.aload_n 0, 1) := by decide +kernel
theorem dX0_put_136 : decode cX0_put 136 = .ok (.iload 6, 2) := by decide +kernel
theorem dX0_put_138 : decode cX0_put 138 = .ok (.invokevirtual 107, 3) := by decide +kernel
theorem dX0_put_141 : decode cX0_put 141 = .ok (.iload_n 1, 1) := by decide +kernel
theorem dX0_put_142 : decode cX0_put 142 = .ok (.if_icmp .ne 34, 3) := by decide +kernel
theorem dX0_put_145 : decode cX0_put 145 = .ok (.aload_n 0, 1) := by decide +kernel
theorem dX0_put_146 : decode cX0_put 146 = .ok (.getfield 48, 3) := by decide +kernel
theorem dX0_put_149 : decode cX0_put 149 = .ok (.iload 5, 2) := by decide +kernel
theorem dX0_put_151 : decode cX0_put 151 = .ok (.baload, 1) := by decide +kernel
theorem dX0_put_152 : decode cX0_put 152 = .ok (.ifCond .ne 24, 3) := by decide +kernel
theorem dX0_put_155 : decode cX0_put 155 = .ok (.aload_n 0, 1) := by decide +kernel
theorem dX0_put_156 : decode cX0_put 156 = .ok (.getfield 51, 3) := by decide +kernel
theorem dX0_put_159 : decode cX0_put 159 = .ok (.aload_n 0, 1) := by decide +kernel
theorem dX0_put_160 : decode cX0_put 160 = .ok (.iload 5, 2) := by decide +kernel
theorem dX0_put_162 : decode cX0_put 162 = .ok (.invokevirtual 107, 3) := by decide +kernel
theorem dX0_put_165 : decode cX0_put 165 = .ok (.dup2, 1) := by decide +kernel
theorem dX0_put_166 : decode cX0_put 166 = .ok (.laload, 1) := by decide +kernel
theorem dX0_put_167 : decode cX0_put 167 = .ok (.aload_n 0, 1) := by decide +kernel
theorem dX0_put_168 : decode cX0_put 168 = .ok (.getfield 24, 3) := by decide +kernel
theorem dX0_put_171 : decode cX0_put 171 = .ok (.iload 4, 2) := by decide +kernel
theorem dX0_put_173 : decode cX0_put 173 = .ok (.laload, 1) := by decide +kernel
theorem dX0_put_174 : decode cX0_put 174 = .ok (.ladd, 1) := by decide +kernel
theorem dX0_put_175 : decode cX0_put 175 = .ok (.lastore, 1) := by decide +kernel
theorem dX0_put_176 : decode cX0_put 176 = .ok (.iinc 4 1, 3) := by decide +kernel
theorem dX0_put_179 : decode cX0_put 179 = .ok (.goto (-135), 3) := by decide +kernel
theorem dX0_put_182 : decode cX0_put 182 = .ok (.iload_n 3, 1) := by decide +kernel
theorem dX0_put_183 : decode cX0_put 183 = .ok (.ireturn, 1) := by decide +kernel
theorem dX0_row_0 : decode cX0_row 0 = .ok (.aload_n 0, 1) := by decide +kernel
theorem dX0_row_1 : decode cX0_row 1 = .ok (.invokevirtual 128, 3) := by decide +kernel
theorem dX0_row_4 : decode cX0_row 4 = .ok (.iload_n 1, 1) := by decide +kernel
theorem dX0_row_5 : decode cX0_row 5 = .ok (.ifCond .lt 20, 3) := by decide +kernel
theorem dX0_row_8 : decode cX0_row 8 = .ok (.iload_n 1, 1) := by decide +kernel
theorem dX0_row_9 : decode cX0_row 9 = .ok (.aload_n 0, 1) := by decide +kernel
theorem dX0_row_10 : decode cX0_row 10 = .ok (.getfield 114, 3) := by decide +kernel
theorem dX0_row_13 : decode cX0_row 13 = .ok (.if_icmp .ge 12, 3) := by decide +kernel
theorem dX0_row_16 : decode cX0_row 16 = .ok (.aload_n 0, 1) := by decide +kernel
theorem dX0_row_17 : decode cX0_row 17 = .ok (.getfield 60, 3) := by decide +kernel
theorem dX0_row_20 : decode cX0_row 20 = .ok (.iload_n 1, 1) := by decide +kernel
theorem dX0_row_21 : decode cX0_row 21 = .ok (.iaload, 1) := by decide +kernel
theorem dX0_row_22 : decode cX0_row 22 = .ok (.goto 4, 3) := by decide +kernel
theorem dX0_row_25 : decode cX0_row 25 = .ok (.iconst (-1), 1) := by decide +kernel
theorem dX0_row_26 : decode cX0_row 26 = .ok (.ireturn, 1) := by decide +kernel
theorem dX0_weight_0 : decode cX0_weight 0 = .ok (.aload_n 0, 1) := by decide +kernel
theorem dX0_weight_1 : decode cX0_weight 1 = .ok (.invokevirtual 128, 3) := by decide +kernel
theorem dX0_weight_4 : decode cX0_weight 4 = .ok (.iload_n 1, 1) := by decide +kernel
theorem dX0_weight_5 : decode cX0_weight 5 = .ok (.ifCond .lt 17, 3) := by decide +kernel
theorem dX0_weight_8 : decode cX0_weight 8 = .ok (.iload_n 1, 1) := by decide +kernel
theorem dX0_weight_9 : decode cX0_weight 9 = .ok (.iconst 3, 1) := by decide +kernel
theorem dX0_weight_10 : decode cX0_weight 10 = .ok (.if_icmp .gt 12, 3) := by decide +kernel
theorem dX0_weight_13 : decode cX0_weight 13 = .ok (.aload_n 0, 1) := by decide +kernel
theorem dX0_weight_14 : decode cX0_weight 14 = .ok (.getfield 66, 3) := by decide +kernel
theorem dX0_weight_17 : decode cX0_weight 17 = .ok (.iload_n 1, 1) := by decide +kernel
theorem dX0_weight_18 : decode cX0_weight 18 = .ok (.laload, 1) := by decide +kernel
theorem dX0_weight_19 : decode cX0_weight 19 = .ok (.goto 6, 3) := by decide +kernel
theorem dX0_weight_22 : decode cX0_weight 22 = .ok (.ldc2_w 80, 3) := by decide +kernel
theorem dX0_weight_25 : decode cX0_weight 25 = .ok (.lreturn, 1) := by decide +kernel
theorem dX0_chain_0 : decode cX0_chain 0 = .ok (.aload_n 0, 1) := by decide +kernel
theorem dX0_chain_1 : decode cX0_chain 1 = .ok (.invokevirtual 128, 3) := by decide +kernel
theorem dX0_chain_4 : decode cX0_chain 4 = .ok (.aload_n 0, 1) := by decide +kernel
theorem dX0_chain_5 : decode cX0_chain 5 = .ok (.iload_n 1, 1) := by decide +kernel
theorem dX0_chain_6 : decode cX0_chain 6 = .ok (.invokevirtual 76, 3) := by decide +kernel
theorem dX0_chain_9 : decode cX0_chain 9 = .ok (.ifCond .eq 20, 3) := by decide +kernel
theorem dX0_chain_12 : decode cX0_chain 12 = .ok (.aload_n 0, 1) := by decide +kernel
theorem dX0_chain_13 : decode cX0_chain 13 = .ok (.getfield 13, 3) := by decide +kernel
theorem dX0_chain_16 : decode cX0_chain 16 = .ok (.iload_n 1, 1) := by decide +kernel
theorem dX0_chain_17 : decode cX0_chain 17 = .ok (.baload, 1) := by decide +kernel
theorem dX0_chain_18 : decode cX0_chain 18 = .ok (.ifCond .eq 11, 3) := by decide +kernel
theorem dX0_chain_21 : decode cX0_chain 21 = .ok (.aload_n 0, 1) := by decide +kernel
theorem dX0_chain_22 : decode cX0_chain 22 = .ok (.iload_n 1, 1) := by decide +kernel
theorem dX0_chain_23 : decode cX0_chain 23 = .ok (.invokevirtual 107, 3) := by decide +kernel
theorem dX0_chain_26 : decode cX0_chain 26 = .ok (.goto 4, 3) := by decide +kernel
theorem dX0_chain_29 : decode cX0_chain 29 = .ok (.iconst (-1), 1) := by decide +kernel
theorem dX0_chain_30 : decode cX0_chain 30 = .ok (.ireturn, 1) := by decide +kernel
end
section
set_option maxRecDepth 100000
/-! BlockRowsModel -/
def RX1 : String := "BlockRowsModel"
def TX1 : u_T := fun k => match k with
  | 0 => ("BlockRowsModel", "blocks", "I", false)
  | 1 => ("BlockRowsModel", "hot", "[Z", true)
  | 2 => ("BlockRowsModel", "ways", "I", false)
  | 3 => ("BlockRowsModel", "from", "[I", true)
  | 4 => ("BlockRowsModel", "to", "[I", true)
  | 5 => ("BlockRowsModel", "counts", "[J", true)
  | 6 => ("BlockRowsModel", "fall", "[Z", true)
  | 7 => ("BlockRowsModel", "isKnown", "Z", false)
  | 8 => ("BlockRowsModel", "table", "[I", true)
  | 9 => ("BlockRowsModel", "many", "[I", true)
  | 10 => ("BlockRowsModel", "chainOf", "[I", true)
  | 11 => ("BlockRowsModel", "byChains", "[I", true)
  | 12 => ("BlockRowsModel", "byNumber", "[I", true)
  | 13 => ("BlockRowsModel", "hots", "I", false)
  | 14 => ("BlockRowsModel", "isBetter", "Z", false)
  | 15 => ("BlockRowsModel", "looked", "[Z", true)
  | 16 => ("BlockRowsModel", "isPlaced", "[Z", true)
  | _ => ("BlockRowsModel", "all", "[I", true)
def tyX1 : Nat → FieldType := fun k => match k with
  | 0 => .int
  | 1 => .array .boolean
  | 2 => .int
  | 3 => .array .int
  | 4 => .array .int
  | 5 => .array .long
  | 6 => .array .boolean
  | 7 => .boolean
  | 8 => .array .int
  | 9 => .array .int
  | 10 => .array .int
  | 11 => .array .int
  | 12 => .array .int
  | 13 => .int
  | 14 => .boolean
  | 15 => .array .boolean
  | 16 => .array .boolean
  | _ => .array .int
abbrev wsX10 : List Cond := u_ws RX1 TX1 18
set_option maxRecDepth 100000 in
theorem nmX1 : ∀ a, a < 18 → ∀ b, b < 18 → a ≠ b → (TX1 a).2.1 ≠ (TX1 b).2.1 := by decide +kernel
set_option maxRecDepth 100000 in
theorem tyX1_ok : ∀ k, k < 18 → parseFieldDescriptor (TX1 k).2.2.1 = some (tyX1 k) := by decide +kernel
abbrev cX1_init : ByteArray := prog_3_method_1_code
def yX1_init : MethodName := ⟨RX1, "<init>", "()V"⟩
abbrev cX1_size : ByteArray := prog_3_method_4_code
def yX1_size : MethodName := ⟨RX1, "size", "(I)Z"⟩
abbrev cX1_heat : ByteArray := prog_3_method_5_code
def yX1_heat : MethodName := ⟨RX1, "heat", "(IZ)Z"⟩
abbrev cX1_isBlock : ByteArray := prog_3_method_3_code
def yX1_isBlock : MethodName := ⟨RX1, "isBlock", "(I)Z"⟩
abbrev cX1_way : ByteArray := prog_3_method_7_code
def yX1_way : MethodName := ⟨RX1, "way", "(IIIZ)J"⟩
abbrev cX1_find : ByteArray := prog_3_method_6_code
def yX1_find : MethodName := ⟨RX1, "find", "(II)I"⟩
abbrev cX1_count : ByteArray := prog_3_method_8_code
def yX1_count : MethodName := ⟨RX1, "count", "(II)J"⟩
abbrev cX1_length : ByteArray := prog_3_method_15_code
def yX1_length : MethodName := ⟨RX1, "length", "()I"⟩
abbrev cX1_know : ByteArray := prog_3_method_9_code
def yX1_know : MethodName := ⟨RX1, "know", "()V"⟩
abbrev cX1_chains : ByteArray := prog_3_method_11_code
def yX1_chains : MethodName := ⟨RX1, "chains", "()V"⟩
abbrev cX1_comesBefore : ByteArray := prog_3_method_10_code
def yX1_comesBefore : MethodName := ⟨RX1, "comesBefore", "(II)Z"⟩
abbrev cX1_place : ByteArray := prog_3_method_12_code
def yX1_place : MethodName := ⟨RX1, "place", "()V"⟩
abbrev cX1_sum : ByteArray := prog_3_method_13_code
def yX1_sum : MethodName := ⟨RX1, "sum", "(I)J"⟩
abbrev cX1_weightOf : ByteArray := prog_3_method_14_code
def yX1_weightOf : MethodName := ⟨RX1, "weightOf", "([II)J"⟩
abbrev cX1_row : ByteArray := prog_3_method_16_code
def yX1_row : MethodName := ⟨RX1, "row", "(I)I"⟩
abbrev cX1_weight : ByteArray := prog_3_method_17_code
def yX1_weight : MethodName := ⟨RX1, "weight", "(I)J"⟩
abbrev cX1_chain : ByteArray := prog_3_method_18_code
def yX1_chain : MethodName := ⟨RX1, "chain", "(I)I"⟩
theorem q20 : (Jvm.Cond.initialized "BlockRowsModel") ∈ lw_all := lw_g (lw_at lw_m1 2 rfl) rfl
theorem q180 : (Jvm.Cond.instantiable "BlockRowsModel" (18 : Nat)) ∈ lw_all := lw_g (lw_at lw_m1 162 rfl) rfl
theorem q182 : (Jvm.Cond.instanceMethod ({ cls := "BlockRowsModel", name := "<init>", desc := "()V" } : Jvm.MethodName)) ∈ lw_all := lw_g (lw_at lw_m1 164 rfl) rfl
theorem q183 : (Jvm.Cond.code ({ cls := "BlockRowsModel", name := "<init>", desc := "()V" } : Jvm.MethodName) prog_3_method_1_code (1 : Nat) (Option.none : Option Jvm.ClassFile.FieldType)) ∈ lw_all := lw_g (lw_at lw_m1 165 rfl) rfl
theorem q184 : (Jvm.Cond.methodLink "BlockRowsModel" (1 : Nat) ({ cls := "java/lang/Object", name := "<init>", desc := "()V" } : Jvm.MethodName)) ∈ lw_all := lw_g (lw_at lw_m1 166 rfl) rfl
theorem q185 : (Jvm.Cond.constant "BlockRowsModel" (31 : Nat) (40000 : Int32)) ∈ lw_all := lw_g (lw_at lw_m1 167 rfl) rfl
theorem q186 : (Jvm.Cond.fieldLink "BlockRowsModel" (7 : Nat) "BlockRowsModel" "blocks" "I") ∈ lw_all := lw_g (lw_at lw_m1 168 rfl) rfl
theorem q187 : (Jvm.Cond.fieldLink "BlockRowsModel" (13 : Nat) "BlockRowsModel" "hot" "[Z") ∈ lw_all := lw_g (lw_at lw_m1 169 rfl) rfl
theorem q188 : (Jvm.Cond.fieldLink "BlockRowsModel" (56 : Nat) "BlockRowsModel" "ways" "I") ∈ lw_all := lw_g (lw_at lw_m1 170 rfl) rfl
theorem q189 : (Jvm.Cond.fieldLink "BlockRowsModel" (17 : Nat) "BlockRowsModel" "from" "[I") ∈ lw_all := lw_g (lw_at lw_m1 171 rfl) rfl
theorem q190 : (Jvm.Cond.fieldLink "BlockRowsModel" (21 : Nat) "BlockRowsModel" "to" "[I") ∈ lw_all := lw_g (lw_at lw_m1 172 rfl) rfl
theorem q191 : (Jvm.Cond.fieldLink "BlockRowsModel" (24 : Nat) "BlockRowsModel" "counts" "[J") ∈ lw_all := lw_g (lw_at lw_m1 173 rfl) rfl
theorem q192 : (Jvm.Cond.fieldLink "BlockRowsModel" (28 : Nat) "BlockRowsModel" "fall" "[Z") ∈ lw_all := lw_g (lw_at lw_m1 174 rfl) rfl
theorem q193 : (Jvm.Cond.fieldLink "BlockRowsModel" (59 : Nat) "BlockRowsModel" "isKnown" "Z") ∈ lw_all := lw_g (lw_at lw_m1 175 rfl) rfl
theorem q194 : (Jvm.Cond.fieldLink "BlockRowsModel" (32 : Nat) "BlockRowsModel" "table" "[I") ∈ lw_all := lw_g (lw_at lw_m1 176 rfl) rfl
theorem q195 : (Jvm.Cond.fieldLink "BlockRowsModel" (35 : Nat) "BlockRowsModel" "many" "[I") ∈ lw_all := lw_g (lw_at lw_m1 177 rfl) rfl
theorem q196 : (Jvm.Cond.fieldLink "BlockRowsModel" (38 : Nat) "BlockRowsModel" "chainOf" "[I") ∈ lw_all := lw_g (lw_at lw_m1 178 rfl) rfl
theorem q197 : (Jvm.Cond.fieldLink "BlockRowsModel" (41 : Nat) "BlockRowsModel" "byChains" "[I") ∈ lw_all := lw_g (lw_at lw_m1 179 rfl) rfl
theorem q198 : (Jvm.Cond.fieldLink "BlockRowsModel" (44 : Nat) "BlockRowsModel" "byNumber" "[I") ∈ lw_all := lw_g (lw_at lw_m1 180 rfl) rfl
theorem q199 : (Jvm.Cond.fieldLink "BlockRowsModel" (86 : Nat) "BlockRowsModel" "hots" "I") ∈ lw_all := lw_g (lw_at lw_m1 181 rfl) rfl
theorem q200 : (Jvm.Cond.fieldLink "BlockRowsModel" (99 : Nat) "BlockRowsModel" "isBetter" "Z") ∈ lw_all := lw_g (lw_at lw_m1 182 rfl) rfl
theorem q201 : (Jvm.Cond.fieldLink "BlockRowsModel" (47 : Nat) "BlockRowsModel" "looked" "[Z") ∈ lw_all := lw_g (lw_at lw_m1 183 rfl) rfl
theorem q202 : (Jvm.Cond.fieldLink "BlockRowsModel" (50 : Nat) "BlockRowsModel" "isPlaced" "[Z") ∈ lw_all := lw_g (lw_at lw_m1 184 rfl) rfl
theorem q203 : (Jvm.Cond.fieldLink "BlockRowsModel" (53 : Nat) "BlockRowsModel" "all" "[I") ∈ lw_all := lw_g (lw_at lw_m1 185 rfl) rfl
theorem q204 : (Jvm.Cond.lays "BlockRowsModel" "BlockRowsModel" "blocks" "I") ∈ lw_all := lw_g (lw_at lw_m1 186 rfl) rfl
theorem q205 : (Jvm.Cond.soleField "BlockRowsModel" "blocks") ∈ lw_all := lw_g (lw_at lw_m1 187 rfl) rfl
theorem q206 : (Jvm.Cond.laysFinal "BlockRowsModel" "BlockRowsModel" "hot" "[Z") ∈ lw_all := lw_g (lw_at lw_m1 188 rfl) rfl
theorem q207 : (Jvm.Cond.soleField "BlockRowsModel" "hot") ∈ lw_all := lw_g (lw_at lw_m1 189 rfl) rfl
theorem q208 : (Jvm.Cond.lays "BlockRowsModel" "BlockRowsModel" "ways" "I") ∈ lw_all := lw_g (lw_at lw_m1 190 rfl) rfl
theorem q209 : (Jvm.Cond.soleField "BlockRowsModel" "ways") ∈ lw_all := lw_g (lw_at lw_m1 191 rfl) rfl
theorem q210 : (Jvm.Cond.laysFinal "BlockRowsModel" "BlockRowsModel" "from" "[I") ∈ lw_all := lw_g (lw_at lw_m1 192 rfl) rfl
theorem q211 : (Jvm.Cond.soleField "BlockRowsModel" "from") ∈ lw_all := lw_g (lw_at lw_m1 193 rfl) rfl
theorem q212 : (Jvm.Cond.laysFinal "BlockRowsModel" "BlockRowsModel" "to" "[I") ∈ lw_all := lw_g (lw_at lw_m1 194 rfl) rfl
theorem q213 : (Jvm.Cond.soleField "BlockRowsModel" "to") ∈ lw_all := lw_g (lw_at lw_m1 195 rfl) rfl
theorem q214 : (Jvm.Cond.laysFinal "BlockRowsModel" "BlockRowsModel" "counts" "[J") ∈ lw_all := lw_g (lw_at lw_m1 196 rfl) rfl
theorem q215 : (Jvm.Cond.soleField "BlockRowsModel" "counts") ∈ lw_all := lw_g (lw_at lw_m1 197 rfl) rfl
theorem q216 : (Jvm.Cond.laysFinal "BlockRowsModel" "BlockRowsModel" "fall" "[Z") ∈ lw_all := lw_g (lw_at lw_m1 198 rfl) rfl
theorem q217 : (Jvm.Cond.soleField "BlockRowsModel" "fall") ∈ lw_all := lw_g (lw_at lw_m1 199 rfl) rfl
theorem q218 : (Jvm.Cond.lays "BlockRowsModel" "BlockRowsModel" "isKnown" "Z") ∈ lw_all := lw_g (lw_at lw_m1 200 rfl) rfl
theorem q219 : (Jvm.Cond.soleField "BlockRowsModel" "isKnown") ∈ lw_all := lw_g (lw_at lw_m1 201 rfl) rfl
theorem q220 : (Jvm.Cond.laysFinal "BlockRowsModel" "BlockRowsModel" "table" "[I") ∈ lw_all := lw_g (lw_at lw_m1 202 rfl) rfl
theorem q221 : (Jvm.Cond.soleField "BlockRowsModel" "table") ∈ lw_all := lw_g (lw_at lw_m1 203 rfl) rfl
theorem q222 : (Jvm.Cond.laysFinal "BlockRowsModel" "BlockRowsModel" "many" "[I") ∈ lw_all := lw_g (lw_at lw_m1 204 rfl) rfl
theorem q223 : (Jvm.Cond.soleField "BlockRowsModel" "many") ∈ lw_all := lw_g (lw_at lw_m1 205 rfl) rfl
theorem q224 : (Jvm.Cond.laysFinal "BlockRowsModel" "BlockRowsModel" "chainOf" "[I") ∈ lw_all := lw_g (lw_at lw_m1 206 rfl) rfl
theorem q225 : (Jvm.Cond.soleField "BlockRowsModel" "chainOf") ∈ lw_all := lw_g (lw_at lw_m1 207 rfl) rfl
theorem q226 : (Jvm.Cond.laysFinal "BlockRowsModel" "BlockRowsModel" "byChains" "[I") ∈ lw_all := lw_g (lw_at lw_m1 208 rfl) rfl
theorem q227 : (Jvm.Cond.soleField "BlockRowsModel" "byChains") ∈ lw_all := lw_g (lw_at lw_m1 209 rfl) rfl
theorem q228 : (Jvm.Cond.laysFinal "BlockRowsModel" "BlockRowsModel" "byNumber" "[I") ∈ lw_all := lw_g (lw_at lw_m1 210 rfl) rfl
theorem q229 : (Jvm.Cond.soleField "BlockRowsModel" "byNumber") ∈ lw_all := lw_g (lw_at lw_m1 211 rfl) rfl
theorem q230 : (Jvm.Cond.lays "BlockRowsModel" "BlockRowsModel" "hots" "I") ∈ lw_all := lw_g (lw_at lw_m1 212 rfl) rfl
theorem q231 : (Jvm.Cond.soleField "BlockRowsModel" "hots") ∈ lw_all := lw_g (lw_at lw_m1 213 rfl) rfl
theorem q232 : (Jvm.Cond.lays "BlockRowsModel" "BlockRowsModel" "isBetter" "Z") ∈ lw_all := lw_g (lw_at lw_m1 214 rfl) rfl
theorem q233 : (Jvm.Cond.soleField "BlockRowsModel" "isBetter") ∈ lw_all := lw_g (lw_at lw_m1 215 rfl) rfl
theorem q234 : (Jvm.Cond.laysFinal "BlockRowsModel" "BlockRowsModel" "looked" "[Z") ∈ lw_all := lw_g (lw_at lw_m1 216 rfl) rfl
theorem q235 : (Jvm.Cond.soleField "BlockRowsModel" "looked") ∈ lw_all := lw_g (lw_at lw_m1 217 rfl) rfl
theorem q236 : (Jvm.Cond.laysFinal "BlockRowsModel" "BlockRowsModel" "isPlaced" "[Z") ∈ lw_all := lw_g (lw_at lw_m1 218 rfl) rfl
theorem q237 : (Jvm.Cond.soleField "BlockRowsModel" "isPlaced") ∈ lw_all := lw_g (lw_at lw_m1 219 rfl) rfl
theorem q238 : (Jvm.Cond.laysFinal "BlockRowsModel" "BlockRowsModel" "all" "[I") ∈ lw_all := lw_g (lw_at lw_m1 220 rfl) rfl
theorem q239 : (Jvm.Cond.soleField "BlockRowsModel" "all") ∈ lw_all := lw_g (lw_at lw_m1 221 rfl) rfl
theorem q240 : (Jvm.Cond.superclass "BlockRowsModel" "java/lang/Object") ∈ lw_all := lw_g (lw_at lw_m1 222 rfl) rfl
theorem q242 : (Jvm.Cond.instanceMethod ({ cls := "BlockRowsModel", name := "size", desc := "(I)Z" } : Jvm.MethodName)) ∈ lw_all := lw_g (lw_at lw_m1 224 rfl) rfl
theorem q243 : (Jvm.Cond.selects "BlockRowsModel" ({ cls := "BlockRowsModel", name := "size", desc := "(I)Z" } : Jvm.MethodName) ({ cls := "BlockRowsModel", name := "size", desc := "(I)Z" } : Jvm.MethodName)) ∈ lw_all := lw_g (lw_at lw_m1 225 rfl) rfl
theorem q244 : (Jvm.Cond.code ({ cls := "BlockRowsModel", name := "size", desc := "(I)Z" } : Jvm.MethodName) prog_3_method_4_code (3 : Nat) (Option.some Jvm.ClassFile.FieldType.boolean)) ∈ lw_all := lw_g (lw_at lw_m1 226 rfl) rfl
theorem q246 : (Jvm.Cond.instanceMethod ({ cls := "BlockRowsModel", name := "heat", desc := "(IZ)Z" } : Jvm.MethodName)) ∈ lw_all := lw_g (lw_at lw_m1 228 rfl) rfl
theorem q247 : (Jvm.Cond.selects "BlockRowsModel" ({ cls := "BlockRowsModel", name := "heat", desc := "(IZ)Z" } : Jvm.MethodName) ({ cls := "BlockRowsModel", name := "heat", desc := "(IZ)Z" } : Jvm.MethodName)) ∈ lw_all := lw_g (lw_at lw_m1 229 rfl) rfl
theorem q248 : (Jvm.Cond.code ({ cls := "BlockRowsModel", name := "heat", desc := "(IZ)Z" } : Jvm.MethodName) prog_3_method_5_code (3 : Nat) (Option.some Jvm.ClassFile.FieldType.boolean)) ∈ lw_all := lw_g (lw_at lw_m1 230 rfl) rfl
theorem q249 : (Jvm.Cond.methodLink "BlockRowsModel" (63 : Nat) ({ cls := "BlockRowsModel", name := "isBlock", desc := "(I)Z" } : Jvm.MethodName)) ∈ lw_all := lw_g (lw_at lw_m1 231 rfl) rfl
theorem q250 : (Jvm.Cond.privateMethod ({ cls := "BlockRowsModel", name := "isBlock", desc := "(I)Z" } : Jvm.MethodName)) ∈ lw_tbl := lw_at lw_m1 232 rfl
theorem q251 : (Jvm.Cond.instanceMethod ({ cls := "BlockRowsModel", name := "isBlock", desc := "(I)Z" } : Jvm.MethodName)) ∈ lw_all := lw_g (lw_at lw_m1 233 rfl) rfl
theorem q252 : (Jvm.Cond.code ({ cls := "BlockRowsModel", name := "isBlock", desc := "(I)Z" } : Jvm.MethodName) prog_3_method_3_code (2 : Nat) (Option.some Jvm.ClassFile.FieldType.boolean)) ∈ lw_all := lw_g (lw_at lw_m1 234 rfl) rfl
theorem q254 : (Jvm.Cond.instanceMethod ({ cls := "BlockRowsModel", name := "way", desc := "(IIIZ)J" } : Jvm.MethodName)) ∈ lw_all := lw_g (lw_at lw_m1 236 rfl) rfl
theorem q255 : (Jvm.Cond.selects "BlockRowsModel" ({ cls := "BlockRowsModel", name := "way", desc := "(IIIZ)J" } : Jvm.MethodName) ({ cls := "BlockRowsModel", name := "way", desc := "(IIIZ)J" } : Jvm.MethodName)) ∈ lw_all := lw_g (lw_at lw_m1 237 rfl) rfl
theorem q256 : (Jvm.Cond.code ({ cls := "BlockRowsModel", name := "way", desc := "(IIIZ)J" } : Jvm.MethodName) prog_3_method_7_code (6 : Nat) (Option.some Jvm.ClassFile.FieldType.long)) ∈ lw_all := lw_g (lw_at lw_m1 238 rfl) rfl
theorem q257 : (Jvm.Cond.constantLong "BlockRowsModel" (67 : Nat) (-1 : Int64)) ∈ lw_all := lw_g (lw_at lw_m1 239 rfl) rfl
theorem q258 : (Jvm.Cond.constant "BlockRowsModel" (69 : Nat) (1000000000 : Int32)) ∈ lw_all := lw_g (lw_at lw_m2 0 rfl) rfl
theorem q259 : (Jvm.Cond.constantLong "BlockRowsModel" (70 : Nat) (-2 : Int64)) ∈ lw_all := lw_g (lw_at lw_m2 1 rfl) rfl
theorem q260 : (Jvm.Cond.methodLink "BlockRowsModel" (72 : Nat) ({ cls := "BlockRowsModel", name := "find", desc := "(II)I" } : Jvm.MethodName)) ∈ lw_all := lw_g (lw_at lw_m2 2 rfl) rfl
theorem q261 : (Jvm.Cond.privateMethod ({ cls := "BlockRowsModel", name := "find", desc := "(II)I" } : Jvm.MethodName)) ∈ lw_tbl := lw_at lw_m2 3 rfl
theorem q262 : (Jvm.Cond.instanceMethod ({ cls := "BlockRowsModel", name := "find", desc := "(II)I" } : Jvm.MethodName)) ∈ lw_all := lw_g (lw_at lw_m2 4 rfl) rfl
theorem q263 : (Jvm.Cond.code ({ cls := "BlockRowsModel", name := "find", desc := "(II)I" } : Jvm.MethodName) prog_3_method_6_code (4 : Nat) (Option.some Jvm.ClassFile.FieldType.int)) ∈ lw_all := lw_g (lw_at lw_m2 5 rfl) rfl
theorem q264 : (Jvm.Cond.constantLong "BlockRowsModel" (76 : Nat) (-3 : Int64)) ∈ lw_all := lw_g (lw_at lw_m2 6 rfl) rfl
theorem q265 : (Jvm.Cond.constantLong "BlockRowsModel" (78 : Nat) (1000000000000000 : Int64)) ∈ lw_all := lw_g (lw_at lw_m2 7 rfl) rfl
theorem q266 : (Jvm.Cond.methodLink "BlockRowsModel" (80 : Nat) ({ cls := "java/lang/Math", name := "min", desc := "(JJ)J" } : Jvm.MethodName)) ∈ lw_all := lw_g (lw_at lw_m2 8 rfl) rfl
theorem q268 : (Jvm.Cond.instanceMethod ({ cls := "BlockRowsModel", name := "count", desc := "(II)J" } : Jvm.MethodName)) ∈ lw_all := lw_g (lw_at lw_m2 10 rfl) rfl
theorem q269 : (Jvm.Cond.selects "BlockRowsModel" ({ cls := "BlockRowsModel", name := "count", desc := "(II)J" } : Jvm.MethodName) ({ cls := "BlockRowsModel", name := "count", desc := "(II)J" } : Jvm.MethodName)) ∈ lw_all := lw_g (lw_at lw_m2 11 rfl) rfl
theorem q270 : (Jvm.Cond.code ({ cls := "BlockRowsModel", name := "count", desc := "(II)J" } : Jvm.MethodName) prog_3_method_8_code (4 : Nat) (Option.some Jvm.ClassFile.FieldType.long)) ∈ lw_all := lw_g (lw_at lw_m2 12 rfl) rfl
theorem q272 : (Jvm.Cond.instanceMethod ({ cls := "BlockRowsModel", name := "length", desc := "()I" } : Jvm.MethodName)) ∈ lw_all := lw_g (lw_at lw_m2 14 rfl) rfl
theorem q273 : (Jvm.Cond.selects "BlockRowsModel" ({ cls := "BlockRowsModel", name := "length", desc := "()I" } : Jvm.MethodName) ({ cls := "BlockRowsModel", name := "length", desc := "()I" } : Jvm.MethodName)) ∈ lw_all := lw_g (lw_at lw_m2 15 rfl) rfl
theorem q274 : (Jvm.Cond.code ({ cls := "BlockRowsModel", name := "length", desc := "()I" } : Jvm.MethodName) prog_3_method_15_code (1 : Nat) (Option.some Jvm.ClassFile.FieldType.int)) ∈ lw_all := lw_g (lw_at lw_m2 16 rfl) rfl
theorem q275 : (Jvm.Cond.methodLink "BlockRowsModel" (110 : Nat) ({ cls := "BlockRowsModel", name := "know", desc := "()V" } : Jvm.MethodName)) ∈ lw_all := lw_g (lw_at lw_m2 17 rfl) rfl
theorem q276 : (Jvm.Cond.privateMethod ({ cls := "BlockRowsModel", name := "know", desc := "()V" } : Jvm.MethodName)) ∈ lw_tbl := lw_at lw_m2 18 rfl
theorem q277 : (Jvm.Cond.instanceMethod ({ cls := "BlockRowsModel", name := "know", desc := "()V" } : Jvm.MethodName)) ∈ lw_all := lw_g (lw_at lw_m2 19 rfl) rfl
theorem q278 : (Jvm.Cond.code ({ cls := "BlockRowsModel", name := "know", desc := "()V" } : Jvm.MethodName) prog_3_method_9_code (2 : Nat) (Option.none : Option Jvm.ClassFile.FieldType)) ∈ lw_all := lw_g (lw_at lw_m2 20 rfl) rfl
theorem q279 : (Jvm.Cond.methodLink "BlockRowsModel" (89 : Nat) ({ cls := "BlockRowsModel", name := "chains", desc := "()V" } : Jvm.MethodName)) ∈ lw_all := lw_g (lw_at lw_m2 21 rfl) rfl
theorem q280 : (Jvm.Cond.privateMethod ({ cls := "BlockRowsModel", name := "chains", desc := "()V" } : Jvm.MethodName)) ∈ lw_tbl := lw_at lw_m2 22 rfl
theorem q281 : (Jvm.Cond.instanceMethod ({ cls := "BlockRowsModel", name := "chains", desc := "()V" } : Jvm.MethodName)) ∈ lw_all := lw_g (lw_at lw_m2 23 rfl) rfl
theorem q282 : (Jvm.Cond.code ({ cls := "BlockRowsModel", name := "chains", desc := "()V" } : Jvm.MethodName) prog_3_method_11_code (7 : Nat) (Option.none : Option Jvm.ClassFile.FieldType)) ∈ lw_all := lw_g (lw_at lw_m2 24 rfl) rfl
theorem q283 : (Jvm.Cond.methodLink "BlockRowsModel" (102 : Nat) ({ cls := "BlockRowsModel", name := "comesBefore", desc := "(II)Z" } : Jvm.MethodName)) ∈ lw_all := lw_g (lw_at lw_m2 25 rfl) rfl
theorem q284 : (Jvm.Cond.privateMethod ({ cls := "BlockRowsModel", name := "comesBefore", desc := "(II)Z" } : Jvm.MethodName)) ∈ lw_tbl := lw_at lw_m2 26 rfl
theorem q285 : (Jvm.Cond.instanceMethod ({ cls := "BlockRowsModel", name := "comesBefore", desc := "(II)Z" } : Jvm.MethodName)) ∈ lw_all := lw_g (lw_at lw_m2 27 rfl) rfl
theorem q286 : (Jvm.Cond.code ({ cls := "BlockRowsModel", name := "comesBefore", desc := "(II)Z" } : Jvm.MethodName) prog_3_method_10_code (3 : Nat) (Option.some Jvm.ClassFile.FieldType.boolean)) ∈ lw_all := lw_g (lw_at lw_m2 28 rfl) rfl
theorem q287 : (Jvm.Cond.methodLink "BlockRowsModel" (92 : Nat) ({ cls := "BlockRowsModel", name := "place", desc := "()V" } : Jvm.MethodName)) ∈ lw_all := lw_g (lw_at lw_m2 29 rfl) rfl
theorem q288 : (Jvm.Cond.privateMethod ({ cls := "BlockRowsModel", name := "place", desc := "()V" } : Jvm.MethodName)) ∈ lw_tbl := lw_at lw_m2 30 rfl
theorem q289 : (Jvm.Cond.instanceMethod ({ cls := "BlockRowsModel", name := "place", desc := "()V" } : Jvm.MethodName)) ∈ lw_all := lw_g (lw_at lw_m2 31 rfl) rfl
theorem q290 : (Jvm.Cond.code ({ cls := "BlockRowsModel", name := "place", desc := "()V" } : Jvm.MethodName) prog_3_method_12_code (8 : Nat) (Option.none : Option Jvm.ClassFile.FieldType)) ∈ lw_all := lw_g (lw_at lw_m2 32 rfl) rfl
theorem q291 : (Jvm.Cond.methodLink "BlockRowsModel" (106 : Nat) ({ cls := "BlockRowsModel", name := "sum", desc := "(I)J" } : Jvm.MethodName)) ∈ lw_all := lw_g (lw_at lw_m2 33 rfl) rfl
theorem q292 : (Jvm.Cond.privateMethod ({ cls := "BlockRowsModel", name := "sum", desc := "(I)J" } : Jvm.MethodName)) ∈ lw_tbl := lw_at lw_m2 34 rfl
theorem q293 : (Jvm.Cond.instanceMethod ({ cls := "BlockRowsModel", name := "sum", desc := "(I)J" } : Jvm.MethodName)) ∈ lw_all := lw_g (lw_at lw_m2 35 rfl) rfl
theorem q294 : (Jvm.Cond.code ({ cls := "BlockRowsModel", name := "sum", desc := "(I)J" } : Jvm.MethodName) prog_3_method_13_code (7 : Nat) (Option.some Jvm.ClassFile.FieldType.long)) ∈ lw_all := lw_g (lw_at lw_m2 36 rfl) rfl
theorem q295 : (Jvm.Cond.methodLink "BlockRowsModel" (95 : Nat) ({ cls := "BlockRowsModel", name := "weightOf", desc := "([II)J" } : Jvm.MethodName)) ∈ lw_all := lw_g (lw_at lw_m2 37 rfl) rfl
theorem q296 : (Jvm.Cond.privateMethod ({ cls := "BlockRowsModel", name := "weightOf", desc := "([II)J" } : Jvm.MethodName)) ∈ lw_tbl := lw_at lw_m2 38 rfl
theorem q297 : (Jvm.Cond.instanceMethod ({ cls := "BlockRowsModel", name := "weightOf", desc := "([II)J" } : Jvm.MethodName)) ∈ lw_all := lw_g (lw_at lw_m2 39 rfl) rfl
theorem q298 : (Jvm.Cond.code ({ cls := "BlockRowsModel", name := "weightOf", desc := "([II)J" } : Jvm.MethodName) prog_3_method_14_code (7 : Nat) (Option.some Jvm.ClassFile.FieldType.long)) ∈ lw_all := lw_g (lw_at lw_m2 40 rfl) rfl
theorem q300 : (Jvm.Cond.instanceMethod ({ cls := "BlockRowsModel", name := "row", desc := "(I)I" } : Jvm.MethodName)) ∈ lw_all := lw_g (lw_at lw_m2 42 rfl) rfl
theorem q301 : (Jvm.Cond.selects "BlockRowsModel" ({ cls := "BlockRowsModel", name := "row", desc := "(I)I" } : Jvm.MethodName) ({ cls := "BlockRowsModel", name := "row", desc := "(I)I" } : Jvm.MethodName)) ∈ lw_all := lw_g (lw_at lw_m2 43 rfl) rfl
theorem q302 : (Jvm.Cond.code ({ cls := "BlockRowsModel", name := "row", desc := "(I)I" } : Jvm.MethodName) prog_3_method_16_code (2 : Nat) (Option.some Jvm.ClassFile.FieldType.int)) ∈ lw_all := lw_g (lw_at lw_m2 44 rfl) rfl
theorem q304 : (Jvm.Cond.instanceMethod ({ cls := "BlockRowsModel", name := "weight", desc := "(I)J" } : Jvm.MethodName)) ∈ lw_all := lw_g (lw_at lw_m2 46 rfl) rfl
theorem q305 : (Jvm.Cond.selects "BlockRowsModel" ({ cls := "BlockRowsModel", name := "weight", desc := "(I)J" } : Jvm.MethodName) ({ cls := "BlockRowsModel", name := "weight", desc := "(I)J" } : Jvm.MethodName)) ∈ lw_all := lw_g (lw_at lw_m2 47 rfl) rfl
theorem q306 : (Jvm.Cond.code ({ cls := "BlockRowsModel", name := "weight", desc := "(I)J" } : Jvm.MethodName) prog_3_method_17_code (3 : Nat) (Option.some Jvm.ClassFile.FieldType.long)) ∈ lw_all := lw_g (lw_at lw_m2 48 rfl) rfl
theorem q308 : (Jvm.Cond.instanceMethod ({ cls := "BlockRowsModel", name := "chain", desc := "(I)I" } : Jvm.MethodName)) ∈ lw_all := lw_g (lw_at lw_m2 50 rfl) rfl
theorem q309 : (Jvm.Cond.selects "BlockRowsModel" ({ cls := "BlockRowsModel", name := "chain", desc := "(I)I" } : Jvm.MethodName) ({ cls := "BlockRowsModel", name := "chain", desc := "(I)I" } : Jvm.MethodName)) ∈ lw_all := lw_g (lw_at lw_m2 51 rfl) rfl
theorem q310 : (Jvm.Cond.code ({ cls := "BlockRowsModel", name := "chain", desc := "(I)I" } : Jvm.MethodName) prog_3_method_18_code (2 : Nat) (Option.some Jvm.ClassFile.FieldType.int)) ∈ lw_all := lw_g (lw_at lw_m2 52 rfl) rfl
theorem in_X1 : ∀ w ∈ wsX10, w ∈ lw_all := lw_in wsX10 [204, 206, 208, 210, 212, 214, 216, 218, 220, 222, 224, 226, 228, 230, 232, 234, 236, 238] (by decide +kernel) (by decide +kernel)
end
section
set_option maxRecDepth 100000
theorem dX1_init_0 : decode cX1_init 0 = .ok (.aload_n 0, 1) := by decide +kernel
theorem dX1_init_1 : decode cX1_init 1 = .ok (.invokespecial 1, 3) := by decide +kernel
theorem dX1_init_4 : decode cX1_init 4 = .ok (.aload_n 0, 1) := by decide +kernel
theorem dX1_init_5 : decode cX1_init 5 = .ok (.iconst 1, 1) := by decide +kernel
theorem dX1_init_6 : decode cX1_init 6 = .ok (.putfield 7, 3) := by decide +kernel
theorem dX1_init_9 : decode cX1_init 9 = .ok (.aload_n 0, 1) := by decide +kernel
theorem dX1_init_10 : decode cX1_init 10 = .ok (.sipush 200, 3) := by decide +kernel
theorem dX1_init_13 : decode cX1_init 13 = .ok (.newarray .boolean, 2) := by decide +kernel
theorem dX1_init_15 : decode cX1_init 15 = .ok (.putfield 13, 3) := by decide +kernel
theorem dX1_init_18 : decode cX1_init 18 = .ok (.aload_n 0, 1) := by decide +kernel
theorem dX1_init_19 : decode cX1_init 19 = .ok (.sipush 1000, 3) := by decide +kernel
theorem dX1_init_22 : decode cX1_init 22 = .ok (.newarray .int, 2) := by decide +kernel
theorem dX1_init_24 : decode cX1_init 24 = .ok (.putfield 17, 3) := by decide +kernel
theorem dX1_init_27 : decode cX1_init 27 = .ok (.aload_n 0, 1) := by decide +kernel
theorem dX1_init_28 : decode cX1_init 28 = .ok (.sipush 1000, 3) := by decide +kernel
theorem dX1_init_31 : decode cX1_init 31 = .ok (.newarray .int, 2) := by decide +kernel
theorem dX1_init_33 : decode cX1_init 33 = .ok (.putfield 21, 3) := by decide +kernel
theorem dX1_init_36 : decode cX1_init 36 = .ok (.aload_n 0, 1) := by decide +kernel
theorem dX1_init_37 : decode cX1_init 37 = .ok (.sipush 1000, 3) := by decide +kernel
theorem dX1_init_40 : decode cX1_init 40 = .ok (.newarray .long, 2) := by decide +kernel
theorem dX1_init_42 : decode cX1_init 42 = .ok (.putfield 24, 3) := by decide +kernel
theorem dX1_init_45 : decode cX1_init 45 = .ok (.aload_n 0, 1) := by decide +kernel
theorem dX1_init_46 : decode cX1_init 46 = .ok (.sipush 1000, 3) := by decide +kernel
theorem dX1_init_49 : decode cX1_init 49 = .ok (.newarray .boolean, 2) := by decide +kernel
theorem dX1_init_51 : decode cX1_init 51 = .ok (.putfield 28, 3) := by decide +kernel
theorem dX1_init_54 : decode cX1_init 54 = .ok (.aload_n 0, 1) := by decide +kernel
theorem dX1_init_55 : decode cX1_init 55 = .ok (.ldc 31, 2) := by decide +kernel
theorem dX1_init_57 : decode cX1_init 57 = .ok (.newarray .int, 2) := by decide +kernel
theorem dX1_init_59 : decode cX1_init 59 = .ok (.putfield 32, 3) := by decide +kernel
theorem dX1_init_62 : decode cX1_init 62 = .ok (.aload_n 0, 1) := by decide +kernel
theorem dX1_init_63 : decode cX1_init 63 = .ok (.sipush 200, 3) := by decide +kernel
theorem dX1_init_66 : decode cX1_init 66 = .ok (.newarray .int, 2) := by decide +kernel
theorem dX1_init_68 : decode cX1_init 68 = .ok (.putfield 35, 3) := by decide +kernel
theorem dX1_init_71 : decode cX1_init 71 = .ok (.aload_n 0, 1) := by decide +kernel
theorem dX1_init_72 : decode cX1_init 72 = .ok (.sipush 200, 3) := by decide +kernel
theorem dX1_init_75 : decode cX1_init 75 = .ok (.newarray .int, 2) := by decide +kernel
theorem dX1_init_77 : decode cX1_init 77 = .ok (.putfield 38, 3) := by decide +kernel
theorem dX1_init_80 : decode cX1_init 80 = .ok (.aload_n 0, 1) := by decide +kernel
theorem dX1_init_81 : decode cX1_init 81 = .ok (.sipush 200, 3) := by decide +kernel
theorem dX1_init_84 : decode cX1_init 84 = .ok (.newarray .int, 2) := by decide +kernel
theorem dX1_init_86 : decode cX1_init 86 = .ok (.putfield 41, 3) := by decide +kernel
theorem dX1_init_89 : decode cX1_init 89 = .ok (.aload_n 0, 1) := by decide +kernel
theorem dX1_init_90 : decode cX1_init 90 = .ok (.sipush 200, 3) := by decide +kernel
theorem dX1_init_93 : decode cX1_init 93 = .ok (.newarray .int, 2) := by decide +kernel
theorem dX1_init_95 : decode cX1_init 95 = .ok (.putfield 44, 3) := by decide +kernel
theorem dX1_init_98 : decode cX1_init 98 = .ok (.aload_n 0, 1) := by decide +kernel
theorem dX1_init_99 : decode cX1_init 99 = .ok (.sipush 1000, 3) := by decide +kernel
theorem dX1_init_102 : decode cX1_init 102 = .ok (.newarray .boolean, 2) := by decide +kernel
theorem dX1_init_104 : decode cX1_init 104 = .ok (.putfield 47, 3) := by decide +kernel
theorem dX1_init_107 : decode cX1_init 107 = .ok (.aload_n 0, 1) := by decide +kernel
theorem dX1_init_108 : decode cX1_init 108 = .ok (.sipush 200, 3) := by decide +kernel
theorem dX1_init_111 : decode cX1_init 111 = .ok (.newarray .boolean, 2) := by decide +kernel
theorem dX1_init_113 : decode cX1_init 113 = .ok (.putfield 50, 3) := by decide +kernel
theorem dX1_init_116 : decode cX1_init 116 = .ok (.aload_n 0, 1) := by decide +kernel
theorem dX1_init_117 : decode cX1_init 117 = .ok (.sipush 200, 3) := by decide +kernel
theorem dX1_init_120 : decode cX1_init 120 = .ok (.newarray .int, 2) := by decide +kernel
theorem dX1_init_122 : decode cX1_init 122 = .ok (.putfield 53, 3) := by decide +kernel
theorem dX1_init_125 : decode cX1_init 125 = .ok (.return_, 1) := by decide +kernel
theorem dX1_size_0 : decode cX1_size 0 = .ok (.iload_n 1, 1) := by decide +kernel
theorem dX1_size_1 : decode cX1_size 1 = .ok (.iconst 1, 1) := by decide +kernel
theorem dX1_size_2 : decode cX1_size 2 = .ok (.if_icmp .lt 10, 3) := by decide +kernel
theorem dX1_size_5 : decode cX1_size 5 = .ok (.iload_n 1, 1) := by decide +kernel
theorem dX1_size_6 : decode cX1_size 6 = .ok (.sipush 200, 3) := by decide +kernel
theorem dX1_size_9 : decode cX1_size 9 = .ok (.if_icmp .le 5, 3) := by decide +kernel
theorem dX1_size_12 : decode cX1_size 12 = .ok (.iconst 0, 1) := by decide +kernel
theorem dX1_size_13 : decode cX1_size 13 = .ok (.ireturn, 1) := by decide +kernel
theorem dX1_size_14 : decode cX1_size 14 = .ok (.aload_n 0, 1) := by decide +kernel
theorem dX1_size_15 : decode cX1_size 15 = .ok (.iload_n 1, 1) := by decide +kernel
theorem dX1_size_16 : decode cX1_size 16 = .ok (.putfield 7, 3) := by decide +kernel
theorem dX1_size_19 : decode cX1_size 19 = .ok (.aload_n 0, 1) := by decide +kernel
theorem dX1_size_20 : decode cX1_size 20 = .ok (.iconst 0, 1) := by decide +kernel
theorem dX1_size_21 : decode cX1_size 21 = .ok (.putfield 56, 3) := by decide +kernel
theorem dX1_size_24 : decode cX1_size 24 = .ok (.iconst 0, 1) := by decide +kernel
theorem dX1_size_25 : decode cX1_size 25 = .ok (.istore_n 2, 1) := by decide +kernel
theorem dX1_size_26 : decode cX1_size 26 = .ok (.iload_n 2, 1) := by decide +kernel
theorem dX1_size_27 : decode cX1_size 27 = .ok (.sipush 200, 3) := by decide +kernel
theorem dX1_size_30 : decode cX1_size 30 = .ok (.if_icmp .ge 16, 3) := by decide +kernel
theorem dX1_size_33 : decode cX1_size 33 = .ok (.aload_n 0, 1) := by decide +kernel
theorem dX1_size_34 : decode cX1_size 34 = .ok (.getfield 13, 3) := by decide +kernel
theorem dX1_size_37 : decode cX1_size 37 = .ok (.iload_n 2, 1) := by decide +kernel
theorem dX1_size_38 : decode cX1_size 38 = .ok (.iconst 0, 1) := by decide +kernel
theorem dX1_size_39 : decode cX1_size 39 = .ok (.bastore, 1) := by decide +kernel
theorem dX1_size_40 : decode cX1_size 40 = .ok (.iinc 2 1, 3) := by decide +kernel
theorem dX1_size_43 : decode cX1_size 43 = .ok (.goto (-17), 3) := by decide +kernel
theorem dX1_size_46 : decode cX1_size 46 = .ok (.aload_n 0, 1) := by decide +kernel
theorem dX1_size_47 : decode cX1_size 47 = .ok (.iconst 0, 1) := by decide +kernel
theorem dX1_size_48 : decode cX1_size 48 = .ok (.putfield 59, 3) := by decide +kernel
theorem dX1_size_51 : decode cX1_size 51 = .ok (.iconst 1, 1) := by decide +kernel
theorem dX1_size_52 : decode cX1_size 52 = .ok (.ireturn, 1) := by decide +kernel
theorem dX1_heat_0 : decode cX1_heat 0 = .ok (.aload_n 0, 1) := by decide +kernel
theorem dX1_heat_1 : decode cX1_heat 1 = .ok (.iload_n 1, 1) := by decide +kernel
theorem dX1_heat_2 : decode cX1_heat 2 = .ok (.invokevirtual 63, 3) := by decide +kernel
theorem dX1_heat_5 : decode cX1_heat 5 = .ok (.ifCond .ne 5, 3) := by decide +kernel
theorem dX1_heat_8 : decode cX1_heat 8 = .ok (.iconst 0, 1) := by decide +kernel
theorem dX1_heat_9 : decode cX1_heat 9 = .ok (.ireturn, 1) := by decide +kernel
theorem dX1_heat_10 : decode cX1_heat 10 = .ok (.aload_n 0, 1) := by decide +kernel
theorem dX1_heat_11 : decode cX1_heat 11 = .ok (.getfield 13, 3) := by decide +kernel
theorem dX1_heat_14 : decode cX1_heat 14 = .ok (.iload_n 1, 1) := by decide +kernel
theorem dX1_heat_15 : decode cX1_heat 15 = .ok (.iload_n 2, 1) := by decide +kernel
theorem dX1_heat_16 : decode cX1_heat 16 = .ok (.bastore, 1) := by decide +kernel
theorem dX1_heat_17 : decode cX1_heat 17 = .ok (.aload_n 0, 1) := by decide +kernel
theorem dX1_heat_18 : decode cX1_heat 18 = .ok (.iconst 0, 1) := by decide +kernel
theorem dX1_heat_19 : decode cX1_heat 19 = .ok (.putfield 59, 3) := by decide +kernel
theorem dX1_heat_22 : decode cX1_heat 22 = .ok (.iconst 1, 1) := by decide +kernel
theorem dX1_heat_23 : decode cX1_heat 23 = .ok (.ireturn, 1) := by decide +kernel
theorem dX1_isBlock_0 : decode cX1_isBlock 0 = .ok (.iload_n 1, 1) := by decide +kernel
theorem dX1_isBlock_1 : decode cX1_isBlock 1 = .ok (.ifCond .lt 15, 3) := by decide +kernel
theorem dX1_isBlock_4 : decode cX1_isBlock 4 = .ok (.iload_n 1, 1) := by decide +kernel
theorem dX1_isBlock_5 : decode cX1_isBlock 5 = .ok (.aload_n 0, 1) := by decide +kernel
theorem dX1_isBlock_6 : decode cX1_isBlock 6 = .ok (.getfield 7, 3) := by decide +kernel
theorem dX1_isBlock_9 : decode cX1_isBlock 9 = .ok (.if_icmp .ge 7, 3) := by decide +kernel
theorem dX1_isBlock_12 : decode cX1_isBlock 12 = .ok (.iconst 1, 1) := by decide +kernel
theorem dX1_isBlock_13 : decode cX1_isBlock 13 = .ok (.goto 4, 3) := by decide +kernel
theorem dX1_isBlock_16 : decode cX1_isBlock 16 = .ok (.iconst 0, 1) := by decide +kernel
theorem dX1_isBlock_17 : decode cX1_isBlock 17 = .ok (.ireturn, 1) := by decide +kernel
theorem dX1_way_0 : decode cX1_way 0 = .ok (.aload_n 0, 1) := by decide +kernel
theorem dX1_way_1 : decode cX1_way 1 = .ok (.iload_n 1, 1) := by decide +kernel
theorem dX1_way_2 : decode cX1_way 2 = .ok (.invokevirtual 63, 3) := by decide +kernel
theorem dX1_way_5 : decode cX1_way 5 = .ok (.ifCond .eq 11, 3) := by decide +kernel
theorem dX1_way_8 : decode cX1_way 8 = .ok (.aload_n 0, 1) := by decide +kernel
theorem dX1_way_9 : decode cX1_way 9 = .ok (.iload_n 2, 1) := by decide +kernel
theorem dX1_way_10 : decode cX1_way 10 = .ok (.invokevirtual 63, 3) := by decide +kernel
theorem dX1_way_13 : decode cX1_way 13 = .ok (.ifCond .ne 7, 3) := by decide +kernel
theorem dX1_way_16 : decode cX1_way 16 = .ok (.ldc2_w 67, 3) := by decide +kernel
theorem dX1_way_19 : decode cX1_way 19 = .ok (.lreturn, 1) := by decide +kernel
theorem dX1_way_20 : decode cX1_way 20 = .ok (.iload_n 3, 1) := by decide +kernel
theorem dX1_way_21 : decode cX1_way 21 = .ok (.ifCond .lt 9, 3) := by decide +kernel
theorem dX1_way_24 : decode cX1_way 24 = .ok (.iload_n 3, 1) := by decide +kernel
theorem dX1_way_25 : decode cX1_way 25 = .ok (.ldc 69, 2) := by decide +kernel
theorem dX1_way_27 : decode cX1_way 27 = .ok (.if_icmp .le 7, 3) := by decide +kernel
theorem dX1_way_30 : decode cX1_way 30 = .ok (.ldc2_w 70, 3) := by decide +kernel
theorem dX1_way_33 : decode cX1_way 33 = .ok (.lreturn, 1) := by decide +kernel
theorem dX1_way_34 : decode cX1_way 34 = .ok (.aload_n 0, 1) := by decide +kernel
theorem dX1_way_35 : decode cX1_way 35 = .ok (.iload_n 1, 1) := by decide +kernel
theorem dX1_way_36 : decode cX1_way 36 = .ok (.iload_n 2, 1) := by decide +kernel
theorem dX1_way_37 : decode cX1_way 37 = .ok (.invokevirtual 72, 3) := by decide +kernel
theorem dX1_way_40 : decode cX1_way 40 = .ok (.istore 5, 2) := by decide +kernel
theorem dX1_way_42 : decode cX1_way 42 = .ok (.iload 5, 2) := by decide +kernel
theorem dX1_way_44 : decode cX1_way 44 = .ok (.ifCond .ge 57, 3) := by decide +kernel
theorem dX1_way_47 : decode cX1_way 47 = .ok (.aload_n 0, 1) := by decide +kernel
theorem dX1_way_48 : decode cX1_way 48 = .ok (.getfield 56, 3) := by decide +kernel
theorem dX1_way_51 : decode cX1_way 51 = .ok (.sipush 1000, 3) := by decide +kernel
theorem dX1_way_54 : decode cX1_way 54 = .ok (.if_icmp .ne 7, 3) := by decide +kernel
theorem dX1_way_57 : decode cX1_way 57 = .ok (.ldc2_w 76, 3) := by decide +kernel
theorem dX1_way_60 : decode cX1_way 60 = .ok (.lreturn, 1) := by decide +kernel
theorem dX1_way_61 : decode cX1_way 61 = .ok (.aload_n 0, 1) := by decide +kernel
theorem dX1_way_62 : decode cX1_way 62 = .ok (.getfield 56, 3) := by decide +kernel
theorem dX1_way_65 : decode cX1_way 65 = .ok (.istore 5, 2) := by decide +kernel
theorem dX1_way_67 : decode cX1_way 67 = .ok (.aload_n 0, 1) := by decide +kernel
theorem dX1_way_68 : decode cX1_way 68 = .ok (.dup, 1) := by decide +kernel
theorem dX1_way_69 : decode cX1_way 69 = .ok (.getfield 56, 3) := by decide +kernel
theorem dX1_way_72 : decode cX1_way 72 = .ok (.iconst 1, 1) := by decide +kernel
theorem dX1_way_73 : decode cX1_way 73 = .ok (.iadd, 1) := by decide +kernel
theorem dX1_way_74 : decode cX1_way 74 = .ok (.putfield 56, 3) := by decide +kernel
theorem dX1_way_77 : decode cX1_way 77 = .ok (.aload_n 0, 1) := by decide +kernel
theorem dX1_way_78 : decode cX1_way 78 = .ok (.getfield 17, 3) := by decide +kernel
theorem dX1_way_81 : decode cX1_way 81 = .ok (.iload 5, 2) := by decide +kernel
theorem dX1_way_83 : decode cX1_way 83 = .ok (.iload_n 1, 1) := by decide +kernel
theorem dX1_way_84 : decode cX1_way 84 = .ok (.iastore, 1) := by decide +kernel
theorem dX1_way_85 : decode cX1_way 85 = .ok (.aload_n 0, 1) := by decide +kernel
theorem dX1_way_86 : decode cX1_way 86 = .ok (.getfield 21, 3) := by decide +kernel
theorem dX1_way_89 : decode cX1_way 89 = .ok (.iload 5, 2) := by decide +kernel
theorem dX1_way_91 : decode cX1_way 91 = .ok (.iload_n 2, 1) := by decide +kernel
theorem dX1_way_92 : decode cX1_way 92 = .ok (.iastore, 1) := by decide +kernel
theorem dX1_way_93 : decode cX1_way 93 = .ok (.aload_n 0, 1) := by decide +kernel
theorem dX1_way_94 : decode cX1_way 94 = .ok (.getfield 24, 3) := by decide +kernel
theorem dX1_way_97 : decode cX1_way 97 = .ok (.iload 5, 2) := by decide +kernel
theorem dX1_way_99 : decode cX1_way 99 = .ok (.lconst 0, 1) := by decide +kernel
theorem dX1_way_100 : decode cX1_way 100 = .ok (.lastore, 1) := by decide +kernel
theorem dX1_way_101 : decode cX1_way 101 = .ok (.aload_n 0, 1) := by decide +kernel
theorem dX1_way_102 : decode cX1_way 102 = .ok (.getfield 24, 3) := by decide +kernel
theorem dX1_way_105 : decode cX1_way 105 = .ok (.iload 5, 2) := by decide +kernel
theorem dX1_way_107 : decode cX1_way 107 = .ok (.aload_n 0, 1) := by decide +kernel
theorem dX1_way_108 : decode cX1_way 108 = .ok (.getfield 24, 3) := by decide +kernel
theorem dX1_way_111 : decode cX1_way 111 = .ok (.iload 5, 2) := by decide +kernel
theorem dX1_way_113 : decode cX1_way 113 = .ok (.laload, 1) := by decide +kernel
theorem dX1_way_114 : decode cX1_way 114 = .ok (.iload_n 3, 1) := by decide +kernel
theorem dX1_way_115 : decode cX1_way 115 = .ok (.i2l, 1) := by decide +kernel
theorem dX1_way_116 : decode cX1_way 116 = .ok (.ladd, 1) := by decide +kernel
theorem dX1_way_117 : decode cX1_way 117 = .ok (.ldc2_w 78, 3) := by decide +kernel
theorem dX1_way_120 : decode cX1_way 120 = .ok (.invokestatic 80, 3) := by decide +kernel
theorem dX1_way_123 : decode cX1_way 123 = .ok (.lastore, 1) := by decide +kernel
theorem dX1_way_124 : decode cX1_way 124 = .ok (.aload_n 0, 1) := by decide +kernel
theorem dX1_way_125 : decode cX1_way 125 = .ok (.getfield 28, 3) := by decide +kernel
theorem dX1_way_128 : decode cX1_way 128 = .ok (.iload 5, 2) := by decide +kernel
theorem dX1_way_130 : decode cX1_way 130 = .ok (.iload 4, 2) := by decide +kernel
theorem dX1_way_132 : decode cX1_way 132 = .ok (.bastore, 1) := by decide +kernel
theorem dX1_way_133 : decode cX1_way 133 = .ok (.aload_n 0, 1) := by decide +kernel
theorem dX1_way_134 : decode cX1_way 134 = .ok (.iconst 0, 1) := by decide +kernel
theorem dX1_way_135 : decode cX1_way 135 = .ok (.putfield 59, 3) := by decide +kernel
theorem dX1_way_138 : decode cX1_way 138 = .ok (.aload_n 0, 1) := by decide +kernel
theorem dX1_way_139 : decode cX1_way 139 = .ok (.getfield 24, 3) := by decide +kernel
theorem dX1_way_142 : decode cX1_way 142 = .ok (.iload 5, 2) := by decide +kernel
theorem dX1_way_144 : decode cX1_way 144 = .ok (.laload, 1) := by decide +kernel
theorem dX1_way_145 : decode cX1_way 145 = .ok (.lreturn, 1) := by decide +kernel
theorem dX1_find_0 : decode cX1_find 0 = .ok (.iconst 0, 1) := by decide +kernel
theorem dX1_find_1 : decode cX1_find 1 = .ok (.istore_n 3, 1) := by decide +kernel
theorem dX1_find_2 : decode cX1_find 2 = .ok (.iload_n 3, 1) := by decide +kernel
theorem dX1_find_3 : decode cX1_find 3 = .ok (.aload_n 0, 1) := by decide +kernel
theorem dX1_find_4 : decode cX1_find 4 = .ok (.getfield 56, 3) := by decide +kernel
theorem dX1_find_7 : decode cX1_find 7 = .ok (.if_icmp .ge 31, 3) := by decide +kernel
theorem dX1_find_10 : decode cX1_find 10 = .ok (.aload_n 0, 1) := by decide +kernel
theorem dX1_find_11 : decode cX1_find 11 = .ok (.getfield 17, 3) := by decide +kernel
theorem dX1_find_14 : decode cX1_find 14 = .ok (.iload_n 3, 1) := by decide +kernel
theorem dX1_find_15 : decode cX1_find 15 = .ok (.iaload, 1) := by decide +kernel
theorem dX1_find_16 : decode cX1_find 16 = .ok (.iload_n 1, 1) := by decide +kernel
theorem dX1_find_17 : decode cX1_find 17 = .ok (.if_icmp .ne 15, 3) := by decide +kernel
theorem dX1_find_20 : decode cX1_find 20 = .ok (.aload_n 0, 1) := by decide +kernel
theorem dX1_find_21 : decode cX1_find 21 = .ok (.getfield 21, 3) := by decide +kernel
theorem dX1_find_24 : decode cX1_find 24 = .ok (.iload_n 3, 1) := by decide +kernel
theorem dX1_find_25 : decode cX1_find 25 = .ok (.iaload, 1) := by decide +kernel
theorem dX1_find_26 : decode cX1_find 26 = .ok (.iload_n 2, 1) := by decide +kernel
theorem dX1_find_27 : decode cX1_find 27 = .ok (.if_icmp .ne 5, 3) := by decide +kernel
theorem dX1_find_30 : decode cX1_find 30 = .ok (.iload_n 3, 1) := by decide +kernel
theorem dX1_find_31 : decode cX1_find 31 = .ok (.ireturn, 1) := by decide +kernel
theorem dX1_find_32 : decode cX1_find 32 = .ok (.iinc 3 1, 3) := by decide +kernel
theorem dX1_find_35 : decode cX1_find 35 = .ok (.goto (-33), 3) := by decide +kernel
theorem dX1_find_38 : decode cX1_find 38 = .ok (.iconst (-1), 1) := by decide +kernel
theorem dX1_find_39 : decode cX1_find 39 = .ok (.ireturn, 1) := by decide +kernel
theorem dX1_count_0 : decode cX1_count 0 = .ok (.aload_n 0, 1) := by decide +kernel
theorem dX1_count_1 : decode cX1_count 1 = .ok (.iload_n 1, 1) := by decide +kernel
theorem dX1_count_2 : decode cX1_count 2 = .ok (.iload_n 2, 1) := by decide +kernel
theorem dX1_count_3 : decode cX1_count 3 = .ok (.invokevirtual 72, 3) := by decide +kernel
theorem dX1_count_6 : decode cX1_count 6 = .ok (.istore_n 3, 1) := by decide +kernel
theorem dX1_count_7 : decode cX1_count 7 = .ok (.iload_n 3, 1) := by decide +kernel
theorem dX1_count_8 : decode cX1_count 8 = .ok (.ifCond .ge 7, 3) := by decide +kernel
theorem dX1_count_11 : decode cX1_count 11 = .ok (.lconst 0, 1) := by decide +kernel
theorem dX1_count_12 : decode cX1_count 12 = .ok (.goto 9, 3) := by decide +kernel
theorem dX1_count_15 : decode cX1_count 15 = .ok (.aload_n 0, 1) := by decide +kernel
theorem dX1_count_16 : decode cX1_count 16 = .ok (.getfield 24, 3) := by decide +kernel
theorem dX1_count_19 : decode cX1_count 19 = .ok (.iload_n 3, 1) := by decide +kernel
theorem dX1_count_20 : decode cX1_count 20 = .ok (.laload, 1) := by decide +kernel
theorem dX1_count_21 : decode cX1_count 21 = .ok (.lreturn, 1) := by decide +kernel
theorem dX1_length_0 : decode cX1_length 0 = .ok (.aload_n 0, 1) := by decide +kernel
theorem dX1_length_1 : decode cX1_length 1 = .ok (.invokevirtual 110, 3) := by decide +kernel
theorem dX1_length_4 : decode cX1_length 4 = .ok (.aload_n 0, 1) := by decide +kernel
theorem dX1_length_5 : decode cX1_length 5 = .ok (.getfield 86, 3) := by decide +kernel
theorem dX1_length_8 : decode cX1_length 8 = .ok (.ireturn, 1) := by decide +kernel
theorem dX1_know_0 : decode cX1_know 0 = .ok (.aload_n 0, 1) := by decide +kernel
theorem dX1_know_1 : decode cX1_know 1 = .ok (.getfield 59, 3) := by decide +kernel
theorem dX1_know_4 : decode cX1_know 4 = .ok (.ifCond .eq 4, 3) := by decide +kernel
theorem dX1_know_7 : decode cX1_know 7 = .ok (.return_, 1) := by decide +kernel
theorem dX1_know_8 : decode cX1_know 8 = .ok (.aload_n 0, 1) := by decide +kernel
theorem dX1_know_9 : decode cX1_know 9 = .ok (.iconst 1, 1) := by decide +kernel
theorem dX1_know_10 : decode cX1_know 10 = .ok (.putfield 59, 3) := by decide +kernel
theorem dX1_know_13 : decode cX1_know 13 = .ok (.aload_n 0, 1) := by decide +kernel
theorem dX1_know_14 : decode cX1_know 14 = .ok (.iconst 0, 1) := by decide +kernel
theorem dX1_know_15 : decode cX1_know 15 = .ok (.putfield 86, 3) := by decide +kernel
theorem dX1_know_18 : decode cX1_know 18 = .ok (.iconst 0, 1) := by decide +kernel
theorem dX1_know_19 : decode cX1_know 19 = .ok (.istore_n 1, 1) := by decide +kernel
theorem dX1_know_20 : decode cX1_know 20 = .ok (.iload_n 1, 1) := by decide +kernel
theorem dX1_know_21 : decode cX1_know 21 = .ok (.aload_n 0, 1) := by decide +kernel
theorem dX1_know_22 : decode cX1_know 22 = .ok (.getfield 7, 3) := by decide +kernel
theorem dX1_know_25 : decode cX1_know 25 = .ok (.if_icmp .ge 92, 3) := by decide +kernel
theorem dX1_know_28 : decode cX1_know 28 = .ok (.aload_n 0, 1) := by decide +kernel
theorem dX1_know_29 : decode cX1_know 29 = .ok (.getfield 38, 3) := by decide +kernel
theorem dX1_know_32 : decode cX1_know 32 = .ok (.iload_n 1, 1) := by decide +kernel
theorem dX1_know_33 : decode cX1_know 33 = .ok (.aload_n 0, 1) := by decide +kernel
theorem dX1_know_34 : decode cX1_know 34 = .ok (.getfield 13, 3) := by decide +kernel
theorem dX1_know_37 : decode cX1_know 37 = .ok (.iload_n 1, 1) := by decide +kernel
theorem dX1_know_38 : decode cX1_know 38 = .ok (.baload, 1) := by decide +kernel
theorem dX1_know_39 : decode cX1_know 39 = .ok (.ifCond .eq 7, 3) := by decide +kernel
theorem dX1_know_42 : decode cX1_know 42 = .ok (.iload_n 1, 1) := by decide +kernel
theorem dX1_know_43 : decode cX1_know 43 = .ok (.goto 4, 3) := by decide +kernel
theorem dX1_know_46 : decode cX1_know 46 = .ok (.iconst (-1), 1) := by decide +kernel
theorem dX1_know_47 : decode cX1_know 47 = .ok (.iastore, 1) := by decide +kernel
theorem dX1_know_48 : decode cX1_know 48 = .ok (.aload_n 0, 1) := by decide +kernel
theorem dX1_know_49 : decode cX1_know 49 = .ok (.getfield 35, 3) := by decide +kernel
theorem dX1_know_52 : decode cX1_know 52 = .ok (.iload_n 1, 1) := by decide +kernel
theorem dX1_know_53 : decode cX1_know 53 = .ok (.aload_n 0, 1) := by decide +kernel
theorem dX1_know_54 : decode cX1_know 54 = .ok (.getfield 13, 3) := by decide +kernel
theorem dX1_know_57 : decode cX1_know 57 = .ok (.iload_n 1, 1) := by decide +kernel
theorem dX1_know_58 : decode cX1_know 58 = .ok (.baload, 1) := by decide +kernel
theorem dX1_know_59 : decode cX1_know 59 = .ok (.ifCond .eq 7, 3) := by decide +kernel
theorem dX1_know_62 : decode cX1_know 62 = .ok (.iconst 1, 1) := by decide +kernel
theorem dX1_know_63 : decode cX1_know 63 = .ok (.goto 4, 3) := by decide +kernel
theorem dX1_know_66 : decode cX1_know 66 = .ok (.iconst 0, 1) := by decide +kernel
theorem dX1_know_67 : decode cX1_know 67 = .ok (.iastore, 1) := by decide +kernel
theorem dX1_know_68 : decode cX1_know 68 = .ok (.aload_n 0, 1) := by decide +kernel
theorem dX1_know_69 : decode cX1_know 69 = .ok (.getfield 32, 3) := by decide +kernel
theorem dX1_know_72 : decode cX1_know 72 = .ok (.sipush 200, 3) := by decide +kernel
theorem dX1_know_75 : decode cX1_know 75 = .ok (.iload_n 1, 1) := by decide +kernel
theorem dX1_know_76 : decode cX1_know 76 = .ok (.imul, 1) := by decide +kernel
theorem dX1_know_77 : decode cX1_know 77 = .ok (.iload_n 1, 1) := by decide +kernel
theorem dX1_know_78 : decode cX1_know 78 = .ok (.iastore, 1) := by decide +kernel
theorem dX1_know_79 : decode cX1_know 79 = .ok (.aload_n 0, 1) := by decide +kernel
theorem dX1_know_80 : decode cX1_know 80 = .ok (.getfield 13, 3) := by decide +kernel
theorem dX1_know_83 : decode cX1_know 83 = .ok (.iload_n 1, 1) := by decide +kernel
theorem dX1_know_84 : decode cX1_know 84 = .ok (.baload, 1) := by decide +kernel
theorem dX1_know_85 : decode cX1_know 85 = .ok (.ifCond .ne 6, 3) := by decide +kernel
theorem dX1_know_88 : decode cX1_know 88 = .ok (.goto 23, 3) := by decide +kernel
theorem dX1_know_91 : decode cX1_know 91 = .ok (.aload_n 0, 1) := by decide +kernel
theorem dX1_know_92 : decode cX1_know 92 = .ok (.getfield 44, 3) := by decide +kernel
theorem dX1_know_95 : decode cX1_know 95 = .ok (.aload_n 0, 1) := by decide +kernel
theorem dX1_know_96 : decode cX1_know 96 = .ok (.getfield 86, 3) := by decide +kernel
theorem dX1_know_99 : decode cX1_know 99 = .ok (.iload_n 1, 1) := by decide +kernel
theorem dX1_know_100 : decode cX1_know 100 = .ok (.iastore, 1) := by decide +kernel
theorem dX1_know_101 : decode cX1_know 101 = .ok (.aload_n 0, 1) := by decide +kernel
theorem dX1_know_102 : decode cX1_know 102 = .ok (.dup, 1) := by decide +kernel
theorem dX1_know_103 : decode cX1_know 103 = .ok (.getfield 86, 3) := by decide +kernel
theorem dX1_know_106 : decode cX1_know 106 = .ok (.iconst 1, 1) := by decide +kernel
theorem dX1_know_107 : decode cX1_know 107 = .ok (.iadd, 1) := by decide +kernel
theorem dX1_know_108 : decode cX1_know 108 = .ok (.putfield 86, 3) := by decide +kernel
theorem dX1_know_111 : decode cX1_know 111 = .ok (.iinc 1 1, 3) := by decide +kernel
theorem dX1_know_114 : decode cX1_know 114 = .ok (.goto (-94), 3) := by decide +kernel
theorem dX1_know_117 : decode cX1_know 117 = .ok (.aload_n 0, 1) := by decide +kernel
theorem dX1_know_118 : decode cX1_know 118 = .ok (.invokevirtual 89, 3) := by decide +kernel
theorem dX1_know_121 : decode cX1_know 121 = .ok (.aload_n 0, 1) := by decide +kernel
theorem dX1_know_122 : decode cX1_know 122 = .ok (.invokevirtual 92, 3) := by decide +kernel
theorem dX1_know_125 : decode cX1_know 125 = .ok (.aload_n 0, 1) := by decide +kernel
theorem dX1_know_126 : decode cX1_know 126 = .ok (.aload_n 0, 1) := by decide +kernel
theorem dX1_know_127 : decode cX1_know 127 = .ok (.aload_n 0, 1) := by decide +kernel
theorem dX1_know_128 : decode cX1_know 128 = .ok (.getfield 41, 3) := by decide +kernel
theorem dX1_know_131 : decode cX1_know 131 = .ok (.aload_n 0, 1) := by decide +kernel
theorem dX1_know_132 : decode cX1_know 132 = .ok (.getfield 86, 3) := by decide +kernel
theorem dX1_know_135 : decode cX1_know 135 = .ok (.invokevirtual 95, 3) := by decide +kernel
theorem dX1_know_138 : decode cX1_know 138 = .ok (.aload_n 0, 1) := by decide +kernel
theorem dX1_know_139 : decode cX1_know 139 = .ok (.aload_n 0, 1) := by decide +kernel
theorem dX1_know_140 : decode cX1_know 140 = .ok (.getfield 44, 3) := by decide +kernel
theorem dX1_know_143 : decode cX1_know 143 = .ok (.aload_n 0, 1) := by decide +kernel
theorem dX1_know_144 : decode cX1_know 144 = .ok (.getfield 86, 3) := by decide +kernel
theorem dX1_know_147 : decode cX1_know 147 = .ok (.invokevirtual 95, 3) := by decide +kernel
theorem dX1_know_150 : decode cX1_know 150 = .ok (.lcmp, 1) := by decide +kernel
theorem dX1_know_151 : decode cX1_know 151 = .ok (.ifCond .le 7, 3) := by decide +kernel
theorem dX1_know_154 : decode cX1_know 154 = .ok (.iconst 1, 1) := by decide +kernel
theorem dX1_know_155 : decode cX1_know 155 = .ok (.goto 4, 3) := by decide +kernel
theorem dX1_know_158 : decode cX1_know 158 = .ok (.iconst 0, 1) := by decide +kernel
theorem dX1_know_159 : decode cX1_know 159 = .ok (.putfield 99, 3) := by decide +kernel
theorem dX1_know_162 : decode cX1_know 162 = .ok (.return_, 1) := by decide +kernel
theorem dX1_chains_0 : decode cX1_chains 0 = .ok (.iconst 0, 1) := by decide +kernel
theorem dX1_chains_1 : decode cX1_chains 1 = .ok (.istore_n 1, 1) := by decide +kernel
theorem dX1_chains_2 : decode cX1_chains 2 = .ok (.iload_n 1, 1) := by decide +kernel
theorem dX1_chains_3 : decode cX1_chains 3 = .ok (.aload_n 0, 1) := by decide +kernel
theorem dX1_chains_4 : decode cX1_chains 4 = .ok (.getfield 56, 3) := by decide +kernel
theorem dX1_chains_7 : decode cX1_chains 7 = .ok (.if_icmp .ge 68, 3) := by decide +kernel
theorem dX1_chains_10 : decode cX1_chains 10 = .ok (.aload_n 0, 1) := by decide +kernel
theorem dX1_chains_11 : decode cX1_chains 11 = .ok (.getfield 47, 3) := by decide +kernel
theorem dX1_chains_14 : decode cX1_chains 14 = .ok (.iload_n 1, 1) := by decide +kernel
theorem dX1_chains_15 : decode cX1_chains 15 = .ok (.aload_n 0, 1) := by decide +kernel
theorem dX1_chains_16 : decode cX1_chains 16 = .ok (.getfield 28, 3) := by decide +kernel
theorem dX1_chains_19 : decode cX1_chains 19 = .ok (.iload_n 1, 1) := by decide +kernel
theorem dX1_chains_20 : decode cX1_chains 20 = .ok (.baload, 1) := by decide +kernel
theorem dX1_chains_21 : decode cX1_chains 21 = .ok (.ifCond .eq 42, 3) := by decide +kernel
theorem dX1_chains_24 : decode cX1_chains 24 = .ok (.aload_n 0, 1) := by decide +kernel
theorem dX1_chains_25 : decode cX1_chains 25 = .ok (.getfield 24, 3) := by decide +kernel
theorem dX1_chains_28 : decode cX1_chains 28 = .ok (.iload_n 1, 1) := by decide +kernel
theorem dX1_chains_29 : decode cX1_chains 29 = .ok (.laload, 1) := by decide +kernel
theorem dX1_chains_30 : decode cX1_chains 30 = .ok (.lconst 0, 1) := by decide +kernel
theorem dX1_chains_31 : decode cX1_chains 31 = .ok (.lcmp, 1) := by decide +kernel
theorem dX1_chains_32 : decode cX1_chains 32 = .ok (.ifCond .eq 31, 3) := by decide +kernel
theorem dX1_chains_35 : decode cX1_chains 35 = .ok (.aload_n 0, 1) := by decide +kernel
theorem dX1_chains_36 : decode cX1_chains 36 = .ok (.getfield 13, 3) := by decide +kernel
theorem dX1_chains_39 : decode cX1_chains 39 = .ok (.aload_n 0, 1) := by decide +kernel
theorem dX1_chains_40 : decode cX1_chains 40 = .ok (.getfield 17, 3) := by decide +kernel
theorem dX1_chains_43 : decode cX1_chains 43 = .ok (.iload_n 1, 1) := by decide +kernel
theorem dX1_chains_44 : decode cX1_chains 44 = .ok (.iaload, 1) := by decide +kernel
theorem dX1_chains_45 : decode cX1_chains 45 = .ok (.baload, 1) := by decide +kernel
theorem dX1_chains_46 : decode cX1_chains 46 = .ok (.ifCond .eq 17, 3) := by decide +kernel
theorem dX1_chains_49 : decode cX1_chains 49 = .ok (.aload_n 0, 1) := by decide +kernel
theorem dX1_chains_50 : decode cX1_chains 50 = .ok (.getfield 13, 3) := by decide +kernel
theorem dX1_chains_53 : decode cX1_chains 53 = .ok (.aload_n 0, 1) := by decide +kernel
theorem dX1_chains_54 : decode cX1_chains 54 = .ok (.getfield 21, 3) := by decide +kernel
theorem dX1_chains_57 : decode cX1_chains 57 = .ok (.iload_n 1, 1) := by decide +kernel
theorem dX1_chains_58 : decode cX1_chains 58 = .ok (.iaload, 1) := by decide +kernel
theorem dX1_chains_59 : decode cX1_chains 59 = .ok (.baload, 1) := by decide +kernel
theorem dX1_chains_60 : decode cX1_chains 60 = .ok (.ifCond .ne 7, 3) := by decide +kernel
theorem dX1_chains_63 : decode cX1_chains 63 = .ok (.iconst 1, 1) := by decide +kernel
theorem dX1_chains_64 : decode cX1_chains 64 = .ok (.goto 4, 3) := by decide +kernel
theorem dX1_chains_67 : decode cX1_chains 67 = .ok (.iconst 0, 1) := by decide +kernel
theorem dX1_chains_68 : decode cX1_chains 68 = .ok (.bastore, 1) := by decide +kernel
theorem dX1_chains_69 : decode cX1_chains 69 = .ok (.iinc 1 1, 3) := by decide +kernel
theorem dX1_chains_72 : decode cX1_chains 72 = .ok (.goto (-70), 3) := by decide +kernel
theorem dX1_chains_75 : decode cX1_chains 75 = .ok (.iconst 0, 1) := by decide +kernel
theorem dX1_chains_76 : decode cX1_chains 76 = .ok (.istore_n 1, 1) := by decide +kernel
theorem dX1_chains_77 : decode cX1_chains 77 = .ok (.iload_n 1, 1) := by decide +kernel
theorem dX1_chains_78 : decode cX1_chains 78 = .ok (.ifCond .lt 247, 3) := by decide +kernel
theorem dX1_chains_81 : decode cX1_chains 81 = .ok (.iconst (-1), 1) := by decide +kernel
theorem dX1_chains_82 : decode cX1_chains 82 = .ok (.istore_n 1, 1) := by decide +kernel
theorem dX1_chains_83 : decode cX1_chains 83 = .ok (.iconst 0, 1) := by decide +kernel
theorem dX1_chains_84 : decode cX1_chains 84 = .ok (.istore_n 2, 1) := by decide +kernel
theorem dX1_chains_85 : decode cX1_chains 85 = .ok (.iload_n 2, 1) := by decide +kernel
theorem dX1_chains_86 : decode cX1_chains 86 = .ok (.aload_n 0, 1) := by decide +kernel
theorem dX1_chains_87 : decode cX1_chains 87 = .ok (.getfield 56, 3) := by decide +kernel
theorem dX1_chains_90 : decode cX1_chains 90 = .ok (.if_icmp .ge 33, 3) := by decide +kernel
theorem dX1_chains_93 : decode cX1_chains 93 = .ok (.aload_n 0, 1) := by decide +kernel
theorem dX1_chains_94 : decode cX1_chains 94 = .ok (.getfield 47, 3) := by decide +kernel
theorem dX1_chains_97 : decode cX1_chains 97 = .ok (.iload_n 2, 1) := by decide +kernel
theorem dX1_chains_98 : decode cX1_chains 98 = .ok (.baload, 1) := by decide +kernel
theorem dX1_chains_99 : decode cX1_chains 99 = .ok (.ifCond .ne 18, 3) := by decide +kernel
theorem dX1_chains_102 : decode cX1_chains 102 = .ok (.iload_n 1, 1) := by decide +kernel
theorem dX1_chains_103 : decode cX1_chains 103 = .ok (.ifCond .lt 12, 3) := by decide +kernel
theorem dX1_chains_106 : decode cX1_chains 106 = .ok (.aload_n 0, 1) := by decide +kernel
theorem dX1_chains_107 : decode cX1_chains 107 = .ok (.iload_n 2, 1) := by decide +kernel
theorem dX1_chains_108 : decode cX1_chains 108 = .ok (.iload_n 1, 1) := by decide +kernel
theorem dX1_chains_109 : decode cX1_chains 109 = .ok (.invokevirtual 102, 3) := by decide +kernel
theorem dX1_chains_112 : decode cX1_chains 112 = .ok (.ifCond .eq 5, 3) := by decide +kernel
theorem dX1_chains_115 : decode cX1_chains 115 = .ok (.iload_n 2, 1) := by decide +kernel
theorem dX1_chains_116 : decode cX1_chains 116 = .ok (.istore_n 1, 1) := by decide +kernel
theorem dX1_chains_117 : decode cX1_chains 117 = .ok (.iinc 2 1, 3) := by decide +kernel
theorem dX1_chains_120 : decode cX1_chains 120 = .ok (.goto (-35), 3) := by decide +kernel
theorem dX1_chains_123 : decode cX1_chains 123 = .ok (.iload_n 1, 1) := by decide +kernel
theorem dX1_chains_124 : decode cX1_chains 124 = .ok (.ifCond .ge 4, 3) := by decide +kernel
theorem dX1_chains_127 : decode cX1_chains 127 = .ok (.return_, 1) := by decide +kernel
theorem dX1_chains_128 : decode cX1_chains 128 = .ok (.aload_n 0, 1) := by decide +kernel
theorem dX1_chains_129 : decode cX1_chains 129 = .ok (.getfield 47, 3) := by decide +kernel
theorem dX1_chains_132 : decode cX1_chains 132 = .ok (.iload_n 1, 1) := by decide +kernel
theorem dX1_chains_133 : decode cX1_chains 133 = .ok (.iconst 1, 1) := by decide +kernel
theorem dX1_chains_134 : decode cX1_chains 134 = .ok (.bastore, 1) := by decide +kernel
theorem dX1_chains_135 : decode cX1_chains 135 = .ok (.aload_n 0, 1) := by decide +kernel
theorem dX1_chains_136 : decode cX1_chains 136 = .ok (.getfield 38, 3) := by decide +kernel
theorem dX1_chains_139 : decode cX1_chains 139 = .ok (.aload_n 0, 1) := by decide +kernel
theorem dX1_chains_140 : decode cX1_chains 140 = .ok (.getfield 17, 3) := by decide +kernel
theorem dX1_chains_143 : decode cX1_chains 143 = .ok (.iload_n 1, 1) := by decide +kernel
theorem dX1_chains_144 : decode cX1_chains 144 = .ok (.iaload, 1) := by decide +kernel
theorem dX1_chains_145 : decode cX1_chains 145 = .ok (.iaload, 1) := by decide +kernel
theorem dX1_chains_146 : decode cX1_chains 146 = .ok (.istore_n 2, 1) := by decide +kernel
theorem dX1_chains_147 : decode cX1_chains 147 = .ok (.aload_n 0, 1) := by decide +kernel
theorem dX1_chains_148 : decode cX1_chains 148 = .ok (.getfield 38, 3) := by decide +kernel
theorem dX1_chains_151 : decode cX1_chains 151 = .ok (.aload_n 0, 1) := by decide +kernel
theorem dX1_chains_152 : decode cX1_chains 152 = .ok (.getfield 21, 3) := by decide +kernel
theorem dX1_chains_155 : decode cX1_chains 155 = .ok (.iload_n 1, 1) := by decide +kernel
theorem dX1_chains_156 : decode cX1_chains 156 = .ok (.iaload, 1) := by decide +kernel
theorem dX1_chains_157 : decode cX1_chains 157 = .ok (.iaload, 1) := by decide +kernel
theorem dX1_chains_158 : decode cX1_chains 158 = .ok (.istore_n 3, 1) := by decide +kernel
theorem dX1_chains_159 : decode cX1_chains 159 = .ok (.iload_n 2, 1) := by decide +kernel
theorem dX1_chains_160 : decode cX1_chains 160 = .ok (.iload_n 3, 1) := by decide +kernel
theorem dX1_chains_161 : decode cX1_chains 161 = .ok (.if_icmp .eq 63, 3) := by decide +kernel
theorem dX1_chains_164 : decode cX1_chains 164 = .ok (.aload_n 0, 1) := by decide +kernel
theorem dX1_chains_165 : decode cX1_chains 165 = .ok (.getfield 32, 3) := by decide +kernel
theorem dX1_chains_168 : decode cX1_chains 168 = .ok (.sipush 200, 3) := by decide +kernel
theorem dX1_chains_171 : decode cX1_chains 171 = .ok (.iload_n 2, 1) := by decide +kernel
theorem dX1_chains_172 : decode cX1_chains 172 = .ok (.imul, 1) := by decide +kernel
theorem dX1_chains_173 : decode cX1_chains 173 = .ok (.aload_n 0, 1) := by decide +kernel
theorem dX1_chains_174 : decode cX1_chains 174 = .ok (.getfield 35, 3) := by decide +kernel
theorem dX1_chains_177 : decode cX1_chains 177 = .ok (.iload_n 2, 1) := by decide +kernel
theorem dX1_chains_178 : decode cX1_chains 178 = .ok (.iaload, 1) := by decide +kernel
theorem dX1_chains_179 : decode cX1_chains 179 = .ok (.iadd, 1) := by decide +kernel
theorem dX1_chains_180 : decode cX1_chains 180 = .ok (.iconst 1, 1) := by decide +kernel
theorem dX1_chains_181 : decode cX1_chains 181 = .ok (.isub, 1) := by decide +kernel
theorem dX1_chains_182 : decode cX1_chains 182 = .ok (.iaload, 1) := by decide +kernel
theorem dX1_chains_183 : decode cX1_chains 183 = .ok (.aload_n 0, 1) := by decide +kernel
theorem dX1_chains_184 : decode cX1_chains 184 = .ok (.getfield 17, 3) := by decide +kernel
theorem dX1_chains_187 : decode cX1_chains 187 = .ok (.iload_n 1, 1) := by decide +kernel
theorem dX1_chains_188 : decode cX1_chains 188 = .ok (.iaload, 1) := by decide +kernel
theorem dX1_chains_189 : decode cX1_chains 189 = .ok (.if_icmp .ne 35, 3) := by decide +kernel
theorem dX1_chains_192 : decode cX1_chains 192 = .ok (.aload_n 0, 1) := by decide +kernel
theorem dX1_chains_193 : decode cX1_chains 193 = .ok (.getfield 32, 3) := by decide +kernel
theorem dX1_chains_196 : decode cX1_chains 196 = .ok (.sipush 200, 3) := by decide +kernel
theorem dX1_chains_199 : decode cX1_chains 199 = .ok (.iload_n 3, 1) := by decide +kernel
theorem dX1_chains_200 : decode cX1_chains 200 = .ok (.imul, 1) := by decide +kernel
theorem dX1_chains_201 : decode cX1_chains 201 = .ok (.iaload, 1) := by decide +kernel
theorem dX1_chains_202 : decode cX1_chains 202 = .ok (.aload_n 0, 1) := by decide +kernel
theorem dX1_chains_203 : decode cX1_chains 203 = .ok (.getfield 21, 3) := by decide +kernel
theorem dX1_chains_206 : decode cX1_chains 206 = .ok (.iload_n 1, 1) := by decide +kernel
theorem dX1_chains_207 : decode cX1_chains 207 = .ok (.iaload, 1) := by decide +kernel
theorem dX1_chains_208 : decode cX1_chains 208 = .ok (.if_icmp .ne 16, 3) := by decide +kernel
theorem dX1_chains_211 : decode cX1_chains 211 = .ok (.aload_n 0, 1) := by decide +kernel
theorem dX1_chains_212 : decode cX1_chains 212 = .ok (.getfield 21, 3) := by decide +kernel
theorem dX1_chains_215 : decode cX1_chains 215 = .ok (.iload_n 1, 1) := by decide +kernel
theorem dX1_chains_216 : decode cX1_chains 216 = .ok (.iaload, 1) := by decide +kernel
theorem dX1_chains_217 : decode cX1_chains 217 = .ok (.ifCond .eq 7, 3) := by decide +kernel
theorem dX1_chains_220 : decode cX1_chains 220 = .ok (.iconst 1, 1) := by decide +kernel
theorem dX1_chains_221 : decode cX1_chains 221 = .ok (.goto 4, 3) := by decide +kernel
theorem dX1_chains_224 : decode cX1_chains 224 = .ok (.iconst 0, 1) := by decide +kernel
theorem dX1_chains_225 : decode cX1_chains 225 = .ok (.istore 4, 2) := by decide +kernel
theorem dX1_chains_227 : decode cX1_chains 227 = .ok (.iload 4, 2) := by decide +kernel
theorem dX1_chains_229 : decode cX1_chains 229 = .ok (.ifCond .ne 6, 3) := by decide +kernel
theorem dX1_chains_232 : decode cX1_chains 232 = .ok (.goto (-155), 3) := by decide +kernel
theorem dX1_chains_235 : decode cX1_chains 235 = .ok (.iconst 0, 1) := by decide +kernel
theorem dX1_chains_236 : decode cX1_chains 236 = .ok (.istore 5, 2) := by decide +kernel
theorem dX1_chains_238 : decode cX1_chains 238 = .ok (.iload 5, 2) := by decide +kernel
theorem dX1_chains_240 : decode cX1_chains 240 = .ok (.aload_n 0, 1) := by decide +kernel
theorem dX1_chains_241 : decode cX1_chains 241 = .ok (.getfield 35, 3) := by decide +kernel
theorem dX1_chains_244 : decode cX1_chains 244 = .ok (.iload_n 3, 1) := by decide +kernel
theorem dX1_chains_245 : decode cX1_chains 245 = .ok (.iaload, 1) := by decide +kernel
theorem dX1_chains_246 : decode cX1_chains 246 = .ok (.if_icmp .ge 54, 3) := by decide +kernel
theorem dX1_chains_249 : decode cX1_chains 249 = .ok (.aload_n 0, 1) := by decide +kernel
theorem dX1_chains_250 : decode cX1_chains 250 = .ok (.getfield 32, 3) := by decide +kernel
theorem dX1_chains_253 : decode cX1_chains 253 = .ok (.sipush 200, 3) := by decide +kernel
theorem dX1_chains_256 : decode cX1_chains 256 = .ok (.iload_n 3, 1) := by decide +kernel
theorem dX1_chains_257 : decode cX1_chains 257 = .ok (.imul, 1) := by decide +kernel
theorem dX1_chains_258 : decode cX1_chains 258 = .ok (.iload 5, 2) := by decide +kernel
theorem dX1_chains_260 : decode cX1_chains 260 = .ok (.iadd, 1) := by decide +kernel
theorem dX1_chains_261 : decode cX1_chains 261 = .ok (.iaload, 1) := by decide +kernel
theorem dX1_chains_262 : decode cX1_chains 262 = .ok (.istore 6, 2) := by decide +kernel
theorem dX1_chains_264 : decode cX1_chains 264 = .ok (.aload_n 0, 1) := by decide +kernel
theorem dX1_chains_265 : decode cX1_chains 265 = .ok (.getfield 32, 3) := by decide +kernel
theorem dX1_chains_268 : decode cX1_chains 268 = .ok (.sipush 200, 3) := by decide +kernel
theorem dX1_chains_271 : decode cX1_chains 271 = .ok (.iload_n 2, 1) := by decide +kernel
theorem dX1_chains_272 : decode cX1_chains 272 = .ok (.imul, 1) := by decide +kernel
theorem dX1_chains_273 : decode cX1_chains 273 = .ok (.aload_n 0, 1) := by decide +kernel
theorem dX1_chains_274 : decode cX1_chains 274 = .ok (.getfield 35, 3) := by decide +kernel
theorem dX1_chains_277 : decode cX1_chains 277 = .ok (.iload_n 2, 1) := by decide +kernel
theorem dX1_chains_278 : decode cX1_chains 278 = .ok (.iaload, 1) := by decide +kernel
theorem dX1_chains_279 : decode cX1_chains 279 = .ok (.iadd, 1) := by decide +kernel
theorem dX1_chains_280 : decode cX1_chains 280 = .ok (.iload 5, 2) := by decide +kernel
theorem dX1_chains_282 : decode cX1_chains 282 = .ok (.iadd, 1) := by decide +kernel
theorem dX1_chains_283 : decode cX1_chains 283 = .ok (.iload 6, 2) := by decide +kernel
theorem dX1_chains_285 : decode cX1_chains 285 = .ok (.iastore, 1) := by decide +kernel
theorem dX1_chains_286 : decode cX1_chains 286 = .ok (.aload_n 0, 1) := by decide +kernel
theorem dX1_chains_287 : decode cX1_chains 287 = .ok (.getfield 38, 3) := by decide +kernel
theorem dX1_chains_290 : decode cX1_chains 290 = .ok (.iload 6, 2) := by decide +kernel
theorem dX1_chains_292 : decode cX1_chains 292 = .ok (.iload_n 2, 1) := by decide +kernel
theorem dX1_chains_293 : decode cX1_chains 293 = .ok (.iastore, 1) := by decide +kernel
theorem dX1_chains_294 : decode cX1_chains 294 = .ok (.iinc 5 1, 3) := by decide +kernel
theorem dX1_chains_297 : decode cX1_chains 297 = .ok (.goto (-59), 3) := by decide +kernel
theorem dX1_chains_300 : decode cX1_chains 300 = .ok (.aload_n 0, 1) := by decide +kernel
theorem dX1_chains_301 : decode cX1_chains 301 = .ok (.getfield 35, 3) := by decide +kernel
theorem dX1_chains_304 : decode cX1_chains 304 = .ok (.iload_n 2, 1) := by decide +kernel
theorem dX1_chains_305 : decode cX1_chains 305 = .ok (.dup2, 1) := by decide +kernel
theorem dX1_chains_306 : decode cX1_chains 306 = .ok (.iaload, 1) := by decide +kernel
theorem dX1_chains_307 : decode cX1_chains 307 = .ok (.aload_n 0, 1) := by decide +kernel
theorem dX1_chains_308 : decode cX1_chains 308 = .ok (.getfield 35, 3) := by decide +kernel
theorem dX1_chains_311 : decode cX1_chains 311 = .ok (.iload_n 3, 1) := by decide +kernel
theorem dX1_chains_312 : decode cX1_chains 312 = .ok (.iaload, 1) := by decide +kernel
theorem dX1_chains_313 : decode cX1_chains 313 = .ok (.iadd, 1) := by decide +kernel
theorem dX1_chains_314 : decode cX1_chains 314 = .ok (.iastore, 1) := by decide +kernel
theorem dX1_chains_315 : decode cX1_chains 315 = .ok (.aload_n 0, 1) := by decide +kernel
theorem dX1_chains_316 : decode cX1_chains 316 = .ok (.getfield 35, 3) := by decide +kernel
theorem dX1_chains_319 : decode cX1_chains 319 = .ok (.iload_n 3, 1) := by decide +kernel
theorem dX1_chains_320 : decode cX1_chains 320 = .ok (.iconst 0, 1) := by decide +kernel
theorem dX1_chains_321 : decode cX1_chains 321 = .ok (.iastore, 1) := by decide +kernel
theorem dX1_chains_322 : decode cX1_chains 322 = .ok (.goto (-245), 3) := by decide +kernel
theorem dX1_chains_325 : decode cX1_chains 325 = .ok (.return_, 1) := by decide +kernel
theorem dX1_comesBefore_0 : decode cX1_comesBefore 0 = .ok (.aload_n 0, 1) := by decide +kernel
theorem dX1_comesBefore_1 : decode cX1_comesBefore 1 = .ok (.getfield 24, 3) := by decide +kernel
theorem dX1_comesBefore_4 : decode cX1_comesBefore 4 = .ok (.iload_n 1, 1) := by decide +kernel
theorem dX1_comesBefore_5 : decode cX1_comesBefore 5 = .ok (.laload, 1) := by decide +kernel
theorem dX1_comesBefore_6 : decode cX1_comesBefore 6 = .ok (.aload_n 0, 1) := by decide +kernel
theorem dX1_comesBefore_7 : decode cX1_comesBefore 7 = .ok (.getfield 24, 3) := by decide +kernel
theorem dX1_comesBefore_10 : decode cX1_comesBefore 10 = .ok (.iload_n 2, 1) := by decide +kernel
theorem dX1_comesBefore_11 : decode cX1_comesBefore 11 = .ok (.laload, 1) := by decide +kernel
theorem dX1_comesBefore_12 : decode cX1_comesBefore 12 = .ok (.lcmp, 1) := by decide +kernel
theorem dX1_comesBefore_13 : decode cX1_comesBefore 13 = .ok (.ifCond .eq 25, 3) := by decide +kernel
theorem dX1_comesBefore_16 : decode cX1_comesBefore 16 = .ok (.aload_n 0, 1) := by decide +kernel
theorem dX1_comesBefore_17 : decode cX1_comesBefore 17 = .ok (.getfield 24, 3) := by decide +kernel
theorem dX1_comesBefore_20 : decode cX1_comesBefore 20 = .ok (.iload_n 1, 1) := by decide +kernel
theorem dX1_comesBefore_21 : decode cX1_comesBefore 21 = .ok (.laload, 1) := by decide +kernel
theorem dX1_comesBefore_22 : decode cX1_comesBefore 22 = .ok (.aload_n 0, 1) := by decide +kernel
theorem dX1_comesBefore_23 : decode cX1_comesBefore 23 = .ok (.getfield 24, 3) := by decide +kernel
end
section
set_option maxRecDepth 100000
theorem dX1_comesBefore_26 : decode cX1_comesBefore 26 = .ok (.iload_n 2, 1) := by decide +kernel
theorem dX1_comesBefore_27 : decode cX1_comesBefore 27 = .ok (.laload, 1) := by decide +kernel
theorem dX1_comesBefore_28 : decode cX1_comesBefore 28 = .ok (.lcmp, 1) := by decide +kernel
theorem dX1_comesBefore_29 : decode cX1_comesBefore 29 = .ok (.ifCond .le 7, 3) := by decide +kernel
theorem dX1_comesBefore_32 : decode cX1_comesBefore 32 = .ok (.iconst 1, 1) := by decide +kernel
theorem dX1_comesBefore_33 : decode cX1_comesBefore 33 = .ok (.goto 4, 3) := by decide +kernel
theorem dX1_comesBefore_36 : decode cX1_comesBefore 36 = .ok (.iconst 0, 1) := by decide +kernel
theorem dX1_comesBefore_37 : decode cX1_comesBefore 37 = .ok (.ireturn, 1) := by decide +kernel
theorem dX1_comesBefore_38 : decode cX1_comesBefore 38 = .ok (.aload_n 0, 1) := by decide +kernel
theorem dX1_comesBefore_39 : decode cX1_comesBefore 39 = .ok (.getfield 17, 3) := by decide +kernel
theorem dX1_comesBefore_42 : decode cX1_comesBefore 42 = .ok (.iload_n 1, 1) := by decide +kernel
theorem dX1_comesBefore_43 : decode cX1_comesBefore 43 = .ok (.iaload, 1) := by decide +kernel
theorem dX1_comesBefore_44 : decode cX1_comesBefore 44 = .ok (.aload_n 0, 1) := by decide +kernel
theorem dX1_comesBefore_45 : decode cX1_comesBefore 45 = .ok (.getfield 17, 3) := by decide +kernel
theorem dX1_comesBefore_48 : decode cX1_comesBefore 48 = .ok (.iload_n 2, 1) := by decide +kernel
theorem dX1_comesBefore_49 : decode cX1_comesBefore 49 = .ok (.iaload, 1) := by decide +kernel
theorem dX1_comesBefore_50 : decode cX1_comesBefore 50 = .ok (.if_icmp .eq 26, 3) := by decide +kernel
theorem dX1_comesBefore_53 : decode cX1_comesBefore 53 = .ok (.aload_n 0, 1) := by decide +kernel
theorem dX1_comesBefore_54 : decode cX1_comesBefore 54 = .ok (.getfield 17, 3) := by decide +kernel
theorem dX1_comesBefore_57 : decode cX1_comesBefore 57 = .ok (.iload_n 1, 1) := by decide +kernel
theorem dX1_comesBefore_58 : decode cX1_comesBefore 58 = .ok (.iaload, 1) := by decide +kernel
theorem dX1_comesBefore_59 : decode cX1_comesBefore 59 = .ok (.aload_n 0, 1) := by decide +kernel
theorem dX1_comesBefore_60 : decode cX1_comesBefore 60 = .ok (.getfield 17, 3) := by decide +kernel
theorem dX1_comesBefore_63 : decode cX1_comesBefore 63 = .ok (.iload_n 2, 1) := by decide +kernel
theorem dX1_comesBefore_64 : decode cX1_comesBefore 64 = .ok (.iaload, 1) := by decide +kernel
theorem dX1_comesBefore_65 : decode cX1_comesBefore 65 = .ok (.if_icmp .ge 7, 3) := by decide +kernel
theorem dX1_comesBefore_68 : decode cX1_comesBefore 68 = .ok (.iconst 1, 1) := by decide +kernel
theorem dX1_comesBefore_69 : decode cX1_comesBefore 69 = .ok (.goto 27, 3) := by decide +kernel
theorem dX1_comesBefore_72 : decode cX1_comesBefore 72 = .ok (.iconst 0, 1) := by decide +kernel
theorem dX1_comesBefore_73 : decode cX1_comesBefore 73 = .ok (.goto 23, 3) := by decide +kernel
theorem dX1_comesBefore_76 : decode cX1_comesBefore 76 = .ok (.aload_n 0, 1) := by decide +kernel
theorem dX1_comesBefore_77 : decode cX1_comesBefore 77 = .ok (.getfield 21, 3) := by decide +kernel
theorem dX1_comesBefore_80 : decode cX1_comesBefore 80 = .ok (.iload_n 1, 1) := by decide +kernel
theorem dX1_comesBefore_81 : decode cX1_comesBefore 81 = .ok (.iaload, 1) := by decide +kernel
theorem dX1_comesBefore_82 : decode cX1_comesBefore 82 = .ok (.aload_n 0, 1) := by decide +kernel
theorem dX1_comesBefore_83 : decode cX1_comesBefore 83 = .ok (.getfield 21, 3) := by decide +kernel
theorem dX1_comesBefore_86 : decode cX1_comesBefore 86 = .ok (.iload_n 2, 1) := by decide +kernel
theorem dX1_comesBefore_87 : decode cX1_comesBefore 87 = .ok (.iaload, 1) := by decide +kernel
theorem dX1_comesBefore_88 : decode cX1_comesBefore 88 = .ok (.if_icmp .ge 7, 3) := by decide +kernel
theorem dX1_comesBefore_91 : decode cX1_comesBefore 91 = .ok (.iconst 1, 1) := by decide +kernel
theorem dX1_comesBefore_92 : decode cX1_comesBefore 92 = .ok (.goto 4, 3) := by decide +kernel
theorem dX1_comesBefore_95 : decode cX1_comesBefore 95 = .ok (.iconst 0, 1) := by decide +kernel
theorem dX1_comesBefore_96 : decode cX1_comesBefore 96 = .ok (.ireturn, 1) := by decide +kernel
theorem dX1_place_0 : decode cX1_place 0 = .ok (.iconst 0, 1) := by decide +kernel
theorem dX1_place_1 : decode cX1_place 1 = .ok (.istore_n 1, 1) := by decide +kernel
theorem dX1_place_2 : decode cX1_place 2 = .ok (.iload_n 1, 1) := by decide +kernel
theorem dX1_place_3 : decode cX1_place 3 = .ok (.aload_n 0, 1) := by decide +kernel
theorem dX1_place_4 : decode cX1_place 4 = .ok (.getfield 7, 3) := by decide +kernel
theorem dX1_place_7 : decode cX1_place 7 = .ok (.if_icmp .ge 16, 3) := by decide +kernel
theorem dX1_place_10 : decode cX1_place 10 = .ok (.aload_n 0, 1) := by decide +kernel
theorem dX1_place_11 : decode cX1_place 11 = .ok (.getfield 50, 3) := by decide +kernel
theorem dX1_place_14 : decode cX1_place 14 = .ok (.iload_n 1, 1) := by decide +kernel
theorem dX1_place_15 : decode cX1_place 15 = .ok (.iconst 0, 1) := by decide +kernel
theorem dX1_place_16 : decode cX1_place 16 = .ok (.bastore, 1) := by decide +kernel
theorem dX1_place_17 : decode cX1_place 17 = .ok (.iinc 1 1, 3) := by decide +kernel
theorem dX1_place_20 : decode cX1_place 20 = .ok (.goto (-18), 3) := by decide +kernel
theorem dX1_place_23 : decode cX1_place 23 = .ok (.iconst 0, 1) := by decide +kernel
theorem dX1_place_24 : decode cX1_place 24 = .ok (.istore_n 1, 1) := by decide +kernel
theorem dX1_place_25 : decode cX1_place 25 = .ok (.iload_n 1, 1) := by decide +kernel
theorem dX1_place_26 : decode cX1_place 26 = .ok (.aload_n 0, 1) := by decide +kernel
theorem dX1_place_27 : decode cX1_place 27 = .ok (.getfield 86, 3) := by decide +kernel
theorem dX1_place_30 : decode cX1_place 30 = .ok (.if_icmp .ge 160, 3) := by decide +kernel
theorem dX1_place_33 : decode cX1_place 33 = .ok (.iconst (-1), 1) := by decide +kernel
theorem dX1_place_34 : decode cX1_place 34 = .ok (.istore_n 2, 1) := by decide +kernel
theorem dX1_place_35 : decode cX1_place 35 = .ok (.ldc2_w 67, 3) := by decide +kernel
theorem dX1_place_38 : decode cX1_place 38 = .ok (.lstore_n 3, 1) := by decide +kernel
theorem dX1_place_39 : decode cX1_place 39 = .ok (.iconst 0, 1) := by decide +kernel
theorem dX1_place_40 : decode cX1_place 40 = .ok (.istore 5, 2) := by decide +kernel
theorem dX1_place_42 : decode cX1_place 42 = .ok (.iload 5, 2) := by decide +kernel
theorem dX1_place_44 : decode cX1_place 44 = .ok (.aload_n 0, 1) := by decide +kernel
theorem dX1_place_45 : decode cX1_place 45 = .ok (.getfield 7, 3) := by decide +kernel
theorem dX1_place_48 : decode cX1_place 48 = .ok (.if_icmp .ge 85, 3) := by decide +kernel
theorem dX1_place_51 : decode cX1_place 51 = .ok (.aload_n 0, 1) := by decide +kernel
theorem dX1_place_52 : decode cX1_place 52 = .ok (.getfield 13, 3) := by decide +kernel
theorem dX1_place_55 : decode cX1_place 55 = .ok (.iload 5, 2) := by decide +kernel
theorem dX1_place_57 : decode cX1_place 57 = .ok (.baload, 1) := by decide +kernel
theorem dX1_place_58 : decode cX1_place 58 = .ok (.ifCond .eq 69, 3) := by decide +kernel
theorem dX1_place_61 : decode cX1_place 61 = .ok (.aload_n 0, 1) := by decide +kernel
theorem dX1_place_62 : decode cX1_place 62 = .ok (.getfield 50, 3) := by decide +kernel
theorem dX1_place_65 : decode cX1_place 65 = .ok (.iload 5, 2) := by decide +kernel
theorem dX1_place_67 : decode cX1_place 67 = .ok (.baload, 1) := by decide +kernel
theorem dX1_place_68 : decode cX1_place 68 = .ok (.ifCond .ne 59, 3) := by decide +kernel
theorem dX1_place_71 : decode cX1_place 71 = .ok (.iload_n 2, 1) := by decide +kernel
theorem dX1_place_72 : decode cX1_place 72 = .ok (.aload_n 0, 1) := by decide +kernel
theorem dX1_place_73 : decode cX1_place 73 = .ok (.getfield 38, 3) := by decide +kernel
theorem dX1_place_76 : decode cX1_place 76 = .ok (.iload 5, 2) := by decide +kernel
theorem dX1_place_78 : decode cX1_place 78 = .ok (.iaload, 1) := by decide +kernel
theorem dX1_place_79 : decode cX1_place 79 = .ok (.if_icmp .ne 6, 3) := by decide +kernel
theorem dX1_place_82 : decode cX1_place 82 = .ok (.goto 45, 3) := by decide +kernel
theorem dX1_place_85 : decode cX1_place 85 = .ok (.iload_n 1, 1) := by decide +kernel
theorem dX1_place_86 : decode cX1_place 86 = .ok (.ifCond .ne 7, 3) := by decide +kernel
theorem dX1_place_89 : decode cX1_place 89 = .ok (.lconst 0, 1) := by decide +kernel
theorem dX1_place_90 : decode cX1_place 90 = .ok (.goto 14, 3) := by decide +kernel
theorem dX1_place_93 : decode cX1_place 93 = .ok (.aload_n 0, 1) := by decide +kernel
theorem dX1_place_94 : decode cX1_place 94 = .ok (.aload_n 0, 1) := by decide +kernel
theorem dX1_place_95 : decode cX1_place 95 = .ok (.getfield 38, 3) := by decide +kernel
theorem dX1_place_98 : decode cX1_place 98 = .ok (.iload 5, 2) := by decide +kernel
theorem dX1_place_100 : decode cX1_place 100 = .ok (.iaload, 1) := by decide +kernel
theorem dX1_place_101 : decode cX1_place 101 = .ok (.invokevirtual 106, 3) := by decide +kernel
theorem dX1_place_104 : decode cX1_place 104 = .ok (.lstore 6, 2) := by decide +kernel
theorem dX1_place_106 : decode cX1_place 106 = .ok (.lload 6, 2) := by decide +kernel
theorem dX1_place_108 : decode cX1_place 108 = .ok (.lload_n 3, 1) := by decide +kernel
theorem dX1_place_109 : decode cX1_place 109 = .ok (.lcmp, 1) := by decide +kernel
theorem dX1_place_110 : decode cX1_place 110 = .ok (.ifCond .gt 6, 3) := by decide +kernel
theorem dX1_place_113 : decode cX1_place 113 = .ok (.goto 14, 3) := by decide +kernel
theorem dX1_place_116 : decode cX1_place 116 = .ok (.aload_n 0, 1) := by decide +kernel
theorem dX1_place_117 : decode cX1_place 117 = .ok (.getfield 38, 3) := by decide +kernel
theorem dX1_place_120 : decode cX1_place 120 = .ok (.iload 5, 2) := by decide +kernel
theorem dX1_place_122 : decode cX1_place 122 = .ok (.iaload, 1) := by decide +kernel
theorem dX1_place_123 : decode cX1_place 123 = .ok (.istore_n 2, 1) := by decide +kernel
theorem dX1_place_124 : decode cX1_place 124 = .ok (.lload 6, 2) := by decide +kernel
theorem dX1_place_126 : decode cX1_place 126 = .ok (.lstore_n 3, 1) := by decide +kernel
theorem dX1_place_127 : decode cX1_place 127 = .ok (.iinc 5 1, 3) := by decide +kernel
theorem dX1_place_130 : decode cX1_place 130 = .ok (.goto (-88), 3) := by decide +kernel
theorem dX1_place_133 : decode cX1_place 133 = .ok (.iconst 0, 1) := by decide +kernel
theorem dX1_place_134 : decode cX1_place 134 = .ok (.istore 5, 2) := by decide +kernel
theorem dX1_place_136 : decode cX1_place 136 = .ok (.iload 5, 2) := by decide +kernel
theorem dX1_place_138 : decode cX1_place 138 = .ok (.aload_n 0, 1) := by decide +kernel
theorem dX1_place_139 : decode cX1_place 139 = .ok (.getfield 35, 3) := by decide +kernel
theorem dX1_place_142 : decode cX1_place 142 = .ok (.iload_n 2, 1) := by decide +kernel
theorem dX1_place_143 : decode cX1_place 143 = .ok (.iaload, 1) := by decide +kernel
theorem dX1_place_144 : decode cX1_place 144 = .ok (.if_icmp .ge 43, 3) := by decide +kernel
theorem dX1_place_147 : decode cX1_place 147 = .ok (.aload_n 0, 1) := by decide +kernel
theorem dX1_place_148 : decode cX1_place 148 = .ok (.getfield 41, 3) := by decide +kernel
theorem dX1_place_151 : decode cX1_place 151 = .ok (.iload_n 1, 1) := by decide +kernel
theorem dX1_place_152 : decode cX1_place 152 = .ok (.aload_n 0, 1) := by decide +kernel
theorem dX1_place_153 : decode cX1_place 153 = .ok (.getfield 32, 3) := by decide +kernel
theorem dX1_place_156 : decode cX1_place 156 = .ok (.sipush 200, 3) := by decide +kernel
theorem dX1_place_159 : decode cX1_place 159 = .ok (.iload_n 2, 1) := by decide +kernel
theorem dX1_place_160 : decode cX1_place 160 = .ok (.imul, 1) := by decide +kernel
theorem dX1_place_161 : decode cX1_place 161 = .ok (.iload 5, 2) := by decide +kernel
theorem dX1_place_163 : decode cX1_place 163 = .ok (.iadd, 1) := by decide +kernel
theorem dX1_place_164 : decode cX1_place 164 = .ok (.iaload, 1) := by decide +kernel
theorem dX1_place_165 : decode cX1_place 165 = .ok (.iastore, 1) := by decide +kernel
theorem dX1_place_166 : decode cX1_place 166 = .ok (.aload_n 0, 1) := by decide +kernel
theorem dX1_place_167 : decode cX1_place 167 = .ok (.getfield 50, 3) := by decide +kernel
theorem dX1_place_170 : decode cX1_place 170 = .ok (.aload_n 0, 1) := by decide +kernel
theorem dX1_place_171 : decode cX1_place 171 = .ok (.getfield 41, 3) := by decide +kernel
theorem dX1_place_174 : decode cX1_place 174 = .ok (.iload_n 1, 1) := by decide +kernel
theorem dX1_place_175 : decode cX1_place 175 = .ok (.iaload, 1) := by decide +kernel
theorem dX1_place_176 : decode cX1_place 176 = .ok (.iconst 1, 1) := by decide +kernel
theorem dX1_place_177 : decode cX1_place 177 = .ok (.bastore, 1) := by decide +kernel
theorem dX1_place_178 : decode cX1_place 178 = .ok (.iinc 1 1, 3) := by decide +kernel
theorem dX1_place_181 : decode cX1_place 181 = .ok (.iinc 5 1, 3) := by decide +kernel
theorem dX1_place_184 : decode cX1_place 184 = .ok (.goto (-48), 3) := by decide +kernel
theorem dX1_place_187 : decode cX1_place 187 = .ok (.goto (-162), 3) := by decide +kernel
theorem dX1_place_190 : decode cX1_place 190 = .ok (.return_, 1) := by decide +kernel
theorem dX1_sum_0 : decode cX1_sum 0 = .ok (.lconst 0, 1) := by decide +kernel
theorem dX1_sum_1 : decode cX1_sum 1 = .ok (.lstore_n 2, 1) := by decide +kernel
theorem dX1_sum_2 : decode cX1_sum 2 = .ok (.iconst 0, 1) := by decide +kernel
theorem dX1_sum_3 : decode cX1_sum 3 = .ok (.istore 4, 2) := by decide +kernel
theorem dX1_sum_5 : decode cX1_sum 5 = .ok (.iload 4, 2) := by decide +kernel
theorem dX1_sum_7 : decode cX1_sum 7 = .ok (.aload_n 0, 1) := by decide +kernel
theorem dX1_sum_8 : decode cX1_sum 8 = .ok (.getfield 56, 3) := by decide +kernel
theorem dX1_sum_11 : decode cX1_sum 11 = .ok (.if_icmp .ge 79, 3) := by decide +kernel
theorem dX1_sum_14 : decode cX1_sum 14 = .ok (.aload_n 0, 1) := by decide +kernel
theorem dX1_sum_15 : decode cX1_sum 15 = .ok (.getfield 17, 3) := by decide +kernel
theorem dX1_sum_18 : decode cX1_sum 18 = .ok (.iload 4, 2) := by decide +kernel
theorem dX1_sum_20 : decode cX1_sum 20 = .ok (.iaload, 1) := by decide +kernel
theorem dX1_sum_21 : decode cX1_sum 21 = .ok (.istore 5, 2) := by decide +kernel
theorem dX1_sum_23 : decode cX1_sum 23 = .ok (.aload_n 0, 1) := by decide +kernel
theorem dX1_sum_24 : decode cX1_sum 24 = .ok (.getfield 21, 3) := by decide +kernel
theorem dX1_sum_27 : decode cX1_sum 27 = .ok (.iload 4, 2) := by decide +kernel
theorem dX1_sum_29 : decode cX1_sum 29 = .ok (.iaload, 1) := by decide +kernel
theorem dX1_sum_30 : decode cX1_sum 30 = .ok (.istore 6, 2) := by decide +kernel
theorem dX1_sum_32 : decode cX1_sum 32 = .ok (.aload_n 0, 1) := by decide +kernel
theorem dX1_sum_33 : decode cX1_sum 33 = .ok (.getfield 38, 3) := by decide +kernel
theorem dX1_sum_36 : decode cX1_sum 36 = .ok (.iload 5, 2) := by decide +kernel
theorem dX1_sum_38 : decode cX1_sum 38 = .ok (.iaload, 1) := by decide +kernel
theorem dX1_sum_39 : decode cX1_sum 39 = .ok (.iload_n 1, 1) := by decide +kernel
theorem dX1_sum_40 : decode cX1_sum 40 = .ok (.if_icmp .ne 13, 3) := by decide +kernel
theorem dX1_sum_43 : decode cX1_sum 43 = .ok (.aload_n 0, 1) := by decide +kernel
theorem dX1_sum_44 : decode cX1_sum 44 = .ok (.getfield 50, 3) := by decide +kernel
theorem dX1_sum_47 : decode cX1_sum 47 = .ok (.iload 6, 2) := by decide +kernel
theorem dX1_sum_49 : decode cX1_sum 49 = .ok (.baload, 1) := by decide +kernel
theorem dX1_sum_50 : decode cX1_sum 50 = .ok (.ifCond .ne 24, 3) := by decide +kernel
theorem dX1_sum_53 : decode cX1_sum 53 = .ok (.aload_n 0, 1) := by decide +kernel
theorem dX1_sum_54 : decode cX1_sum 54 = .ok (.getfield 38, 3) := by decide +kernel
theorem dX1_sum_57 : decode cX1_sum 57 = .ok (.iload 6, 2) := by decide +kernel
theorem dX1_sum_59 : decode cX1_sum 59 = .ok (.iaload, 1) := by decide +kernel
theorem dX1_sum_60 : decode cX1_sum 60 = .ok (.iload_n 1, 1) := by decide +kernel
theorem dX1_sum_61 : decode cX1_sum 61 = .ok (.if_icmp .ne 23, 3) := by decide +kernel
theorem dX1_sum_64 : decode cX1_sum 64 = .ok (.aload_n 0, 1) := by decide +kernel
theorem dX1_sum_65 : decode cX1_sum 65 = .ok (.getfield 50, 3) := by decide +kernel
theorem dX1_sum_68 : decode cX1_sum 68 = .ok (.iload 5, 2) := by decide +kernel
theorem dX1_sum_70 : decode cX1_sum 70 = .ok (.baload, 1) := by decide +kernel
theorem dX1_sum_71 : decode cX1_sum 71 = .ok (.ifCond .eq 13, 3) := by decide +kernel
theorem dX1_sum_74 : decode cX1_sum 74 = .ok (.lload_n 2, 1) := by decide +kernel
theorem dX1_sum_75 : decode cX1_sum 75 = .ok (.aload_n 0, 1) := by decide +kernel
theorem dX1_sum_76 : decode cX1_sum 76 = .ok (.getfield 24, 3) := by decide +kernel
theorem dX1_sum_79 : decode cX1_sum 79 = .ok (.iload 4, 2) := by decide +kernel
theorem dX1_sum_81 : decode cX1_sum 81 = .ok (.laload, 1) := by decide +kernel
theorem dX1_sum_82 : decode cX1_sum 82 = .ok (.ladd, 1) := by decide +kernel
theorem dX1_sum_83 : decode cX1_sum 83 = .ok (.lstore_n 2, 1) := by decide +kernel
theorem dX1_sum_84 : decode cX1_sum 84 = .ok (.iinc 4 1, 3) := by decide +kernel
theorem dX1_sum_87 : decode cX1_sum 87 = .ok (.goto (-82), 3) := by decide +kernel
theorem dX1_sum_90 : decode cX1_sum 90 = .ok (.lload_n 2, 1) := by decide +kernel
theorem dX1_sum_91 : decode cX1_sum 91 = .ok (.lreturn, 1) := by decide +kernel
theorem dX1_weightOf_0 : decode cX1_weightOf 0 = .ok (.lconst 0, 1) := by decide +kernel
theorem dX1_weightOf_1 : decode cX1_weightOf 1 = .ok (.lstore_n 3, 1) := by decide +kernel
theorem dX1_weightOf_2 : decode cX1_weightOf 2 = .ok (.iconst 0, 1) := by decide +kernel
theorem dX1_weightOf_3 : decode cX1_weightOf 3 = .ok (.istore 5, 2) := by decide +kernel
theorem dX1_weightOf_5 : decode cX1_weightOf 5 = .ok (.iload 5, 2) := by decide +kernel
theorem dX1_weightOf_7 : decode cX1_weightOf 7 = .ok (.iconst 1, 1) := by decide +kernel
theorem dX1_weightOf_8 : decode cX1_weightOf 8 = .ok (.iadd, 1) := by decide +kernel
theorem dX1_weightOf_9 : decode cX1_weightOf 9 = .ok (.iload_n 2, 1) := by decide +kernel
theorem dX1_weightOf_10 : decode cX1_weightOf 10 = .ok (.if_icmp .ge 50, 3) := by decide +kernel
theorem dX1_weightOf_13 : decode cX1_weightOf 13 = .ok (.aload_n 0, 1) := by decide +kernel
theorem dX1_weightOf_14 : decode cX1_weightOf 14 = .ok (.aload_n 1, 1) := by decide +kernel
theorem dX1_weightOf_15 : decode cX1_weightOf 15 = .ok (.iload 5, 2) := by decide +kernel
theorem dX1_weightOf_17 : decode cX1_weightOf 17 = .ok (.iaload, 1) := by decide +kernel
theorem dX1_weightOf_18 : decode cX1_weightOf 18 = .ok (.aload_n 1, 1) := by decide +kernel
theorem dX1_weightOf_19 : decode cX1_weightOf 19 = .ok (.iload 5, 2) := by decide +kernel
theorem dX1_weightOf_21 : decode cX1_weightOf 21 = .ok (.iconst 1, 1) := by decide +kernel
theorem dX1_weightOf_22 : decode cX1_weightOf 22 = .ok (.iadd, 1) := by decide +kernel
theorem dX1_weightOf_23 : decode cX1_weightOf 23 = .ok (.iaload, 1) := by decide +kernel
theorem dX1_weightOf_24 : decode cX1_weightOf 24 = .ok (.invokevirtual 72, 3) := by decide +kernel
theorem dX1_weightOf_27 : decode cX1_weightOf 27 = .ok (.istore 6, 2) := by decide +kernel
theorem dX1_weightOf_29 : decode cX1_weightOf 29 = .ok (.iload 6, 2) := by decide +kernel
theorem dX1_weightOf_31 : decode cX1_weightOf 31 = .ok (.ifCond .lt 23, 3) := by decide +kernel
theorem dX1_weightOf_34 : decode cX1_weightOf 34 = .ok (.aload_n 0, 1) := by decide +kernel
theorem dX1_weightOf_35 : decode cX1_weightOf 35 = .ok (.getfield 28, 3) := by decide +kernel
theorem dX1_weightOf_38 : decode cX1_weightOf 38 = .ok (.iload 6, 2) := by decide +kernel
theorem dX1_weightOf_40 : decode cX1_weightOf 40 = .ok (.baload, 1) := by decide +kernel
theorem dX1_weightOf_41 : decode cX1_weightOf 41 = .ok (.ifCond .eq 13, 3) := by decide +kernel
theorem dX1_weightOf_44 : decode cX1_weightOf 44 = .ok (.lload_n 3, 1) := by decide +kernel
theorem dX1_weightOf_45 : decode cX1_weightOf 45 = .ok (.aload_n 0, 1) := by decide +kernel
theorem dX1_weightOf_46 : decode cX1_weightOf 46 = .ok (.getfield 24, 3) := by decide +kernel
theorem dX1_weightOf_49 : decode cX1_weightOf 49 = .ok (.iload 6, 2) := by decide +kernel
theorem dX1_weightOf_51 : decode cX1_weightOf 51 = .ok (.laload, 1) := by decide +kernel
theorem dX1_weightOf_52 : decode cX1_weightOf 52 = .ok (.ladd, 1) := by decide +kernel
theorem dX1_weightOf_53 : decode cX1_weightOf 53 = .ok (.lstore_n 3, 1) := by decide +kernel
theorem dX1_weightOf_54 : decode cX1_weightOf 54 = .ok (.iinc 5 1, 3) := by decide +kernel
theorem dX1_weightOf_57 : decode cX1_weightOf 57 = .ok (.goto (-52), 3) := by decide +kernel
theorem dX1_weightOf_60 : decode cX1_weightOf 60 = .ok (.lload_n 3, 1) := by decide +kernel
theorem dX1_weightOf_61 : decode cX1_weightOf 61 = .ok (.lreturn, 1) := by decide +kernel
theorem dX1_row_0 : decode cX1_row 0 = .ok (.aload_n 0, 1) := by decide +kernel
theorem dX1_row_1 : decode cX1_row 1 = .ok (.invokevirtual 110, 3) := by decide +kernel
theorem dX1_row_4 : decode cX1_row 4 = .ok (.iload_n 1, 1) := by decide +kernel
theorem dX1_row_5 : decode cX1_row 5 = .ok (.ifCond .lt 11, 3) := by decide +kernel
theorem dX1_row_8 : decode cX1_row 8 = .ok (.iload_n 1, 1) := by decide +kernel
theorem dX1_row_9 : decode cX1_row 9 = .ok (.aload_n 0, 1) := by decide +kernel
theorem dX1_row_10 : decode cX1_row 10 = .ok (.getfield 86, 3) := by decide +kernel
theorem dX1_row_13 : decode cX1_row 13 = .ok (.if_icmp .lt 7, 3) := by decide +kernel
theorem dX1_row_16 : decode cX1_row 16 = .ok (.iconst (-1), 1) := by decide +kernel
theorem dX1_row_17 : decode cX1_row 17 = .ok (.goto 25, 3) := by decide +kernel
theorem dX1_row_20 : decode cX1_row 20 = .ok (.aload_n 0, 1) := by decide +kernel
theorem dX1_row_21 : decode cX1_row 21 = .ok (.getfield 99, 3) := by decide +kernel
theorem dX1_row_24 : decode cX1_row 24 = .ok (.ifCond .eq 12, 3) := by decide +kernel
theorem dX1_row_27 : decode cX1_row 27 = .ok (.aload_n 0, 1) := by decide +kernel
theorem dX1_row_28 : decode cX1_row 28 = .ok (.getfield 41, 3) := by decide +kernel
theorem dX1_row_31 : decode cX1_row 31 = .ok (.iload_n 1, 1) := by decide +kernel
theorem dX1_row_32 : decode cX1_row 32 = .ok (.iaload, 1) := by decide +kernel
theorem dX1_row_33 : decode cX1_row 33 = .ok (.goto 9, 3) := by decide +kernel
theorem dX1_row_36 : decode cX1_row 36 = .ok (.aload_n 0, 1) := by decide +kernel
theorem dX1_row_37 : decode cX1_row 37 = .ok (.getfield 44, 3) := by decide +kernel
theorem dX1_row_40 : decode cX1_row 40 = .ok (.iload_n 1, 1) := by decide +kernel
theorem dX1_row_41 : decode cX1_row 41 = .ok (.iaload, 1) := by decide +kernel
theorem dX1_row_42 : decode cX1_row 42 = .ok (.ireturn, 1) := by decide +kernel
theorem dX1_weight_0 : decode cX1_weight 0 = .ok (.aload_n 0, 1) := by decide +kernel
theorem dX1_weight_1 : decode cX1_weight 1 = .ok (.invokevirtual 110, 3) := by decide +kernel
theorem dX1_weight_4 : decode cX1_weight 4 = .ok (.iload_n 1, 1) := by decide +kernel
theorem dX1_weight_5 : decode cX1_weight 5 = .ok (.ifCond .lt 8, 3) := by decide +kernel
theorem dX1_weight_8 : decode cX1_weight 8 = .ok (.iload_n 1, 1) := by decide +kernel
theorem dX1_weight_9 : decode cX1_weight 9 = .ok (.iconst 3, 1) := by decide +kernel
theorem dX1_weight_10 : decode cX1_weight 10 = .ok (.if_icmp .le 7, 3) := by decide +kernel
theorem dX1_weight_13 : decode cX1_weight 13 = .ok (.ldc2_w 67, 3) := by decide +kernel
theorem dX1_weight_16 : decode cX1_weight 16 = .ok (.lreturn, 1) := by decide +kernel
theorem dX1_weight_17 : decode cX1_weight 17 = .ok (.iconst 0, 1) := by decide +kernel
theorem dX1_weight_18 : decode cX1_weight 18 = .ok (.istore_n 2, 1) := by decide +kernel
theorem dX1_weight_19 : decode cX1_weight 19 = .ok (.iload_n 2, 1) := by decide +kernel
theorem dX1_weight_20 : decode cX1_weight 20 = .ok (.aload_n 0, 1) := by decide +kernel
theorem dX1_weight_21 : decode cX1_weight 21 = .ok (.getfield 7, 3) := by decide +kernel
theorem dX1_weight_24 : decode cX1_weight 24 = .ok (.if_icmp .ge 16, 3) := by decide +kernel
theorem dX1_weight_27 : decode cX1_weight 27 = .ok (.aload_n 0, 1) := by decide +kernel
theorem dX1_weight_28 : decode cX1_weight 28 = .ok (.getfield 53, 3) := by decide +kernel
theorem dX1_weight_31 : decode cX1_weight 31 = .ok (.iload_n 2, 1) := by decide +kernel
theorem dX1_weight_32 : decode cX1_weight 32 = .ok (.iload_n 2, 1) := by decide +kernel
theorem dX1_weight_33 : decode cX1_weight 33 = .ok (.iastore, 1) := by decide +kernel
theorem dX1_weight_34 : decode cX1_weight 34 = .ok (.iinc 2 1, 3) := by decide +kernel
theorem dX1_weight_37 : decode cX1_weight 37 = .ok (.goto (-18), 3) := by decide +kernel
theorem dX1_weight_40 : decode cX1_weight 40 = .ok (.iload_n 1, 1) := by decide +kernel
theorem dX1_weight_41 : decode cX1_weight 41 = .ok (.ifCond .ne 32, 3) := by decide +kernel
theorem dX1_weight_44 : decode cX1_weight 44 = .ok (.aload_n 0, 1) := by decide +kernel
theorem dX1_weight_45 : decode cX1_weight 45 = .ok (.aload_n 0, 1) := by decide +kernel
theorem dX1_weight_46 : decode cX1_weight 46 = .ok (.getfield 99, 3) := by decide +kernel
theorem dX1_weight_49 : decode cX1_weight 49 = .ok (.ifCond .eq 10, 3) := by decide +kernel
theorem dX1_weight_52 : decode cX1_weight 52 = .ok (.aload_n 0, 1) := by decide +kernel
theorem dX1_weight_53 : decode cX1_weight 53 = .ok (.getfield 41, 3) := by decide +kernel
theorem dX1_weight_56 : decode cX1_weight 56 = .ok (.goto 7, 3) := by decide +kernel
theorem dX1_weight_59 : decode cX1_weight 59 = .ok (.aload_n 0, 1) := by decide +kernel
theorem dX1_weight_60 : decode cX1_weight 60 = .ok (.getfield 44, 3) := by decide +kernel
theorem dX1_weight_63 : decode cX1_weight 63 = .ok (.aload_n 0, 1) := by decide +kernel
theorem dX1_weight_64 : decode cX1_weight 64 = .ok (.getfield 86, 3) := by decide +kernel
theorem dX1_weight_67 : decode cX1_weight 67 = .ok (.invokevirtual 95, 3) := by decide +kernel
theorem dX1_weight_70 : decode cX1_weight 70 = .ok (.goto 55, 3) := by decide +kernel
theorem dX1_weight_73 : decode cX1_weight 73 = .ok (.iload_n 1, 1) := by decide +kernel
theorem dX1_weight_74 : decode cX1_weight 74 = .ok (.iconst 1, 1) := by decide +kernel
theorem dX1_weight_75 : decode cX1_weight 75 = .ok (.if_icmp .ne 18, 3) := by decide +kernel
theorem dX1_weight_78 : decode cX1_weight 78 = .ok (.aload_n 0, 1) := by decide +kernel
theorem dX1_weight_79 : decode cX1_weight 79 = .ok (.aload_n 0, 1) := by decide +kernel
theorem dX1_weight_80 : decode cX1_weight 80 = .ok (.getfield 44, 3) := by decide +kernel
theorem dX1_weight_83 : decode cX1_weight 83 = .ok (.aload_n 0, 1) := by decide +kernel
theorem dX1_weight_84 : decode cX1_weight 84 = .ok (.getfield 86, 3) := by decide +kernel
theorem dX1_weight_87 : decode cX1_weight 87 = .ok (.invokevirtual 95, 3) := by decide +kernel
theorem dX1_weight_90 : decode cX1_weight 90 = .ok (.goto 35, 3) := by decide +kernel
theorem dX1_weight_93 : decode cX1_weight 93 = .ok (.iload_n 1, 1) := by decide +kernel
theorem dX1_weight_94 : decode cX1_weight 94 = .ok (.iconst 2, 1) := by decide +kernel
theorem dX1_weight_95 : decode cX1_weight 95 = .ok (.if_icmp .ne 18, 3) := by decide +kernel
theorem dX1_weight_98 : decode cX1_weight 98 = .ok (.aload_n 0, 1) := by decide +kernel
theorem dX1_weight_99 : decode cX1_weight 99 = .ok (.aload_n 0, 1) := by decide +kernel
theorem dX1_weight_100 : decode cX1_weight 100 = .ok (.getfield 53, 3) := by decide +kernel
theorem dX1_weight_103 : decode cX1_weight 103 = .ok (.aload_n 0, 1) := by decide +kernel
theorem dX1_weight_104 : decode cX1_weight 104 = .ok (.getfield 7, 3) := by decide +kernel
theorem dX1_weight_107 : decode cX1_weight 107 = .ok (.invokevirtual 95, 3) := by decide +kernel
theorem dX1_weight_110 : decode cX1_weight 110 = .ok (.goto 15, 3) := by decide +kernel
theorem dX1_weight_113 : decode cX1_weight 113 = .ok (.aload_n 0, 1) := by decide +kernel
theorem dX1_weight_114 : decode cX1_weight 114 = .ok (.aload_n 0, 1) := by decide +kernel
theorem dX1_weight_115 : decode cX1_weight 115 = .ok (.getfield 41, 3) := by decide +kernel
theorem dX1_weight_118 : decode cX1_weight 118 = .ok (.aload_n 0, 1) := by decide +kernel
theorem dX1_weight_119 : decode cX1_weight 119 = .ok (.getfield 86, 3) := by decide +kernel
theorem dX1_weight_122 : decode cX1_weight 122 = .ok (.invokevirtual 95, 3) := by decide +kernel
theorem dX1_weight_125 : decode cX1_weight 125 = .ok (.lreturn, 1) := by decide +kernel
theorem dX1_chain_0 : decode cX1_chain 0 = .ok (.aload_n 0, 1) := by decide +kernel
theorem dX1_chain_1 : decode cX1_chain 1 = .ok (.invokevirtual 110, 3) := by decide +kernel
theorem dX1_chain_4 : decode cX1_chain 4 = .ok (.aload_n 0, 1) := by decide +kernel
theorem dX1_chain_5 : decode cX1_chain 5 = .ok (.iload_n 1, 1) := by decide +kernel
theorem dX1_chain_6 : decode cX1_chain 6 = .ok (.invokevirtual 63, 3) := by decide +kernel
theorem dX1_chain_9 : decode cX1_chain 9 = .ok (.ifCond .eq 12, 3) := by decide +kernel
theorem dX1_chain_12 : decode cX1_chain 12 = .ok (.aload_n 0, 1) := by decide +kernel
theorem dX1_chain_13 : decode cX1_chain 13 = .ok (.getfield 13, 3) := by decide +kernel
theorem dX1_chain_16 : decode cX1_chain 16 = .ok (.iload_n 1, 1) := by decide +kernel
theorem dX1_chain_17 : decode cX1_chain 17 = .ok (.baload, 1) := by decide +kernel
theorem dX1_chain_18 : decode cX1_chain 18 = .ok (.ifCond .ne 7, 3) := by decide +kernel
theorem dX1_chain_21 : decode cX1_chain 21 = .ok (.iconst (-1), 1) := by decide +kernel
theorem dX1_chain_22 : decode cX1_chain 22 = .ok (.goto 18, 3) := by decide +kernel
theorem dX1_chain_25 : decode cX1_chain 25 = .ok (.aload_n 0, 1) := by decide +kernel
theorem dX1_chain_26 : decode cX1_chain 26 = .ok (.getfield 32, 3) := by decide +kernel
theorem dX1_chain_29 : decode cX1_chain 29 = .ok (.sipush 200, 3) := by decide +kernel
theorem dX1_chain_32 : decode cX1_chain 32 = .ok (.aload_n 0, 1) := by decide +kernel
theorem dX1_chain_33 : decode cX1_chain 33 = .ok (.getfield 38, 3) := by decide +kernel
theorem dX1_chain_36 : decode cX1_chain 36 = .ok (.iload_n 1, 1) := by decide +kernel
theorem dX1_chain_37 : decode cX1_chain 37 = .ok (.iaload, 1) := by decide +kernel
theorem dX1_chain_38 : decode cX1_chain 38 = .ok (.imul, 1) := by decide +kernel
theorem dX1_chain_39 : decode cX1_chain 39 = .ok (.iaload, 1) := by decide +kernel
theorem dX1_chain_40 : decode cX1_chain 40 = .ok (.ireturn, 1) := by decide +kernel
end
section
set_option maxRecDepth 100000
/-! the law's own entry -/
abbrev cL_law : ByteArray := code
theorem q18 : (Jvm.Cond.initialized "BlockRowsLaw") ∈ lw_all := lw_g (lw_at lw_m1 0 rfl) rfl
theorem q22 : (Jvm.Cond.classLink "BlockRowsLaw" (7 : Nat) "BlockRows") ∈ lw_all := lw_g (lw_at lw_m1 4 rfl) rfl
theorem q24 : (Jvm.Cond.methodLink "BlockRowsLaw" (9 : Nat) ({ cls := "BlockRows", name := "<init>", desc := "()V" } : Jvm.MethodName)) ∈ lw_all := lw_g (lw_at lw_m1 6 rfl) rfl
theorem q99 : (Jvm.Cond.methodLink "BlockRowsLaw" (13 : Nat) ({ cls := "BlockRows", name := "size", desc := "(I)Z" } : Jvm.MethodName)) ∈ lw_all := lw_g (lw_at lw_m1 81 rfl) rfl
theorem q103 : (Jvm.Cond.methodLink "BlockRowsLaw" (18 : Nat) ({ cls := "BlockRows", name := "heat", desc := "(IZ)Z" } : Jvm.MethodName)) ∈ lw_all := lw_g (lw_at lw_m1 85 rfl) rfl
theorem q111 : (Jvm.Cond.methodLink "BlockRowsLaw" (23 : Nat) ({ cls := "BlockRows", name := "way", desc := "(IIIZ)J" } : Jvm.MethodName)) ∈ lw_all := lw_g (lw_at lw_m1 93 rfl) rfl
theorem q123 : (Jvm.Cond.methodLink "BlockRowsLaw" (28 : Nat) ({ cls := "BlockRows", name := "count", desc := "(II)J" } : Jvm.MethodName)) ∈ lw_all := lw_g (lw_at lw_m1 105 rfl) rfl
theorem q127 : (Jvm.Cond.methodLink "BlockRowsLaw" (33 : Nat) ({ cls := "BlockRows", name := "length", desc := "()I" } : Jvm.MethodName)) ∈ lw_all := lw_g (lw_at lw_m1 109 rfl) rfl
theorem q167 : (Jvm.Cond.methodLink "BlockRowsLaw" (38 : Nat) ({ cls := "BlockRows", name := "row", desc := "(I)I" } : Jvm.MethodName)) ∈ lw_all := lw_g (lw_at lw_m1 149 rfl) rfl
theorem q171 : (Jvm.Cond.methodLink "BlockRowsLaw" (43 : Nat) ({ cls := "BlockRows", name := "weight", desc := "(I)J" } : Jvm.MethodName)) ∈ lw_all := lw_g (lw_at lw_m1 153 rfl) rfl
theorem q175 : (Jvm.Cond.methodLink "BlockRowsLaw" (48 : Nat) ({ cls := "BlockRows", name := "chain", desc := "(I)I" } : Jvm.MethodName)) ∈ lw_all := lw_g (lw_at lw_m1 157 rfl) rfl
theorem q179 : (Jvm.Cond.classLink "BlockRowsLaw" (10 : Nat) "BlockRowsModel") ∈ lw_all := lw_g (lw_at lw_m1 161 rfl) rfl
theorem q181 : (Jvm.Cond.methodLink "BlockRowsLaw" (12 : Nat) ({ cls := "BlockRowsModel", name := "<init>", desc := "()V" } : Jvm.MethodName)) ∈ lw_all := lw_g (lw_at lw_m1 163 rfl) rfl
theorem q241 : (Jvm.Cond.methodLink "BlockRowsLaw" (17 : Nat) ({ cls := "BlockRowsModel", name := "size", desc := "(I)Z" } : Jvm.MethodName)) ∈ lw_all := lw_g (lw_at lw_m1 223 rfl) rfl
theorem q245 : (Jvm.Cond.methodLink "BlockRowsLaw" (22 : Nat) ({ cls := "BlockRowsModel", name := "heat", desc := "(IZ)Z" } : Jvm.MethodName)) ∈ lw_all := lw_g (lw_at lw_m1 227 rfl) rfl
theorem q253 : (Jvm.Cond.methodLink "BlockRowsLaw" (27 : Nat) ({ cls := "BlockRowsModel", name := "way", desc := "(IIIZ)J" } : Jvm.MethodName)) ∈ lw_all := lw_g (lw_at lw_m1 235 rfl) rfl
theorem q267 : (Jvm.Cond.methodLink "BlockRowsLaw" (32 : Nat) ({ cls := "BlockRowsModel", name := "count", desc := "(II)J" } : Jvm.MethodName)) ∈ lw_all := lw_g (lw_at lw_m2 9 rfl) rfl
theorem q271 : (Jvm.Cond.methodLink "BlockRowsLaw" (37 : Nat) ({ cls := "BlockRowsModel", name := "length", desc := "()I" } : Jvm.MethodName)) ∈ lw_all := lw_g (lw_at lw_m2 13 rfl) rfl
theorem q299 : (Jvm.Cond.methodLink "BlockRowsLaw" (42 : Nat) ({ cls := "BlockRowsModel", name := "row", desc := "(I)I" } : Jvm.MethodName)) ∈ lw_all := lw_g (lw_at lw_m2 41 rfl) rfl
theorem q303 : (Jvm.Cond.methodLink "BlockRowsLaw" (47 : Nat) ({ cls := "BlockRowsModel", name := "weight", desc := "(I)J" } : Jvm.MethodName)) ∈ lw_all := lw_g (lw_at lw_m2 45 rfl) rfl
theorem q307 : (Jvm.Cond.methodLink "BlockRowsLaw" (51 : Nat) ({ cls := "BlockRowsModel", name := "chain", desc := "(I)I" } : Jvm.MethodName)) ∈ lw_all := lw_g (lw_at lw_m2 49 rfl) rfl
theorem q95 : (Jvm.Cond.arrayClass Jvm.ClassFile.FieldType.boolean) ∈ lw_all := lw_g (lw_at lw_m1 77 rfl) rfl
theorem q96 : (Jvm.Cond.arrayClass Jvm.ClassFile.FieldType.int) ∈ lw_all := lw_g (lw_at lw_m1 78 rfl) rfl
theorem q97 : (Jvm.Cond.arrayClass Jvm.ClassFile.FieldType.long) ∈ lw_all := lw_g (lw_at lw_m1 79 rfl) rfl
theorem q98 : (Jvm.Cond.arrayClass Jvm.ClassFile.FieldType.short) ∈ lw_all := lw_g (lw_at lw_m1 80 rfl) rfl
/-! java/lang/Math -/
def RJ0 : String := "java/lang/Math"
abbrev cJ0_min : ByteArray := prog_4_method_70_code
def yJ0_min : MethodName := ⟨RJ0, "min", "(JJ)J"⟩
theorem dJ0_min_0 : decode cJ0_min 0 = .ok (.lload_n 0, 1) := by decide +kernel
theorem dJ0_min_1 : decode cJ0_min 1 = .ok (.lload_n 2, 1) := by decide +kernel
theorem dJ0_min_2 : decode cJ0_min 2 = .ok (.lcmp, 1) := by decide +kernel
theorem dJ0_min_3 : decode cJ0_min 3 = .ok (.ifCond .gt 7, 3) := by decide +kernel
theorem dJ0_min_6 : decode cJ0_min 6 = .ok (.lload_n 0, 1) := by decide +kernel
theorem dJ0_min_7 : decode cJ0_min 7 = .ok (.goto 4, 3) := by decide +kernel
theorem dJ0_min_10 : decode cJ0_min 10 = .ok (.lload_n 2, 1) := by decide +kernel
theorem dJ0_min_11 : decode cJ0_min 11 = .ok (.lreturn, 1) := by decide +kernel
theorem q21 : (Jvm.Cond.initialized "java/lang/Math") ∈ lw_all := lw_g (lw_at lw_m1 3 rfl) rfl
theorem q121 : (Jvm.Cond.static ({ cls := "java/lang/Math", name := "min", desc := "(JJ)J" } : Jvm.MethodName)) ∈ lw_all := lw_g (lw_at lw_m1 103 rfl) rfl
theorem q122 : (Jvm.Cond.code ({ cls := "java/lang/Math", name := "min", desc := "(JJ)J" } : Jvm.MethodName) prog_4_method_70_code (4 : Nat) (Option.some Jvm.ClassFile.FieldType.long)) ∈ lw_all := lw_g (lw_at lw_m1 104 rfl) rfl
/-! java/lang/Object -/
def RJ1 : String := "java/lang/Object"
abbrev cJ1_init : ByteArray := object_method_1_code
def yJ1_init : MethodName := ⟨RJ1, "<init>", "()V"⟩
theorem dJ1_init_0 : decode cJ1_init 0 = .ok (.return_, 1) := by decide +kernel
theorem q28 : (Jvm.Cond.instanceMethod ({ cls := "java/lang/Object", name := "<init>", desc := "()V" } : Jvm.MethodName)) ∈ lw_all := lw_g (lw_at lw_m1 10 rfl) rfl
theorem q29 : (Jvm.Cond.code ({ cls := "java/lang/Object", name := "<init>", desc := "()V" } : Jvm.MethodName) object_method_1_code (1 : Nat) (Option.none : Option Jvm.ClassFile.FieldType)) ∈ lw_all := lw_g (lw_at lw_m1 11 rfl) rfl
end
section
set_option maxRecDepth 100000
theorem dL_law_0 : decode cL_law 0 = .ok (.new 7, 3) := by decide +kernel
theorem dL_law_3 : decode cL_law 3 = .ok (.dup, 1) := by decide +kernel
theorem dL_law_4 : decode cL_law 4 = .ok (.invokespecial 9, 3) := by decide +kernel
theorem dL_law_7 : decode cL_law 7 = .ok (.astore_n 1, 1) := by decide +kernel
theorem dL_law_8 : decode cL_law 8 = .ok (.new 10, 3) := by decide +kernel
theorem dL_law_11 : decode cL_law 11 = .ok (.dup, 1) := by decide +kernel
theorem dL_law_12 : decode cL_law 12 = .ok (.invokespecial 12, 3) := by decide +kernel
theorem dL_law_15 : decode cL_law 15 = .ok (.astore_n 2, 1) := by decide +kernel
theorem dL_law_16 : decode cL_law 16 = .ok (.iconst 0, 1) := by decide +kernel
theorem dL_law_17 : decode cL_law 17 = .ok (.istore_n 3, 1) := by decide +kernel
theorem dL_law_18 : decode cL_law 18 = .ok (.iload_n 3, 1) := by decide +kernel
theorem dL_law_19 : decode cL_law 19 = .ok (.aload_n 0, 1) := by decide +kernel
theorem dL_law_20 : decode cL_law 20 = .ok (.arraylength, 1) := by decide +kernel
theorem dL_law_21 : decode cL_law 21 = .ok (.iconst 5, 1) := by decide +kernel
theorem dL_law_22 : decode cL_law 22 = .ok (.isub, 1) := by decide +kernel
theorem dL_law_23 : decode cL_law 23 = .ok (.if_icmp .gt 322, 3) := by decide +kernel
theorem dL_law_26 : decode cL_law 26 = .ok (.aload_n 0, 1) := by decide +kernel
theorem dL_law_27 : decode cL_law 27 = .ok (.iload_n 3, 1) := by decide +kernel
theorem dL_law_28 : decode cL_law 28 = .ok (.iaload, 1) := by decide +kernel
theorem dL_law_29 : decode cL_law 29 = .ok (.bipush 7, 2) := by decide +kernel
theorem dL_law_31 : decode cL_law 31 = .ok (.iand, 1) := by decide +kernel
theorem dL_law_32 : decode cL_law 32 = .ok (.tableswitch 307 0 7 #[48, 71, 120, 190, 224, 237, 260, 284], 48) := by decide +kernel
theorem dL_law_80 : decode cL_law 80 = .ok (.aload_n 1, 1) := by decide +kernel
theorem dL_law_81 : decode cL_law 81 = .ok (.aload_n 0, 1) := by decide +kernel
theorem dL_law_82 : decode cL_law 82 = .ok (.iload_n 3, 1) := by decide +kernel
theorem dL_law_83 : decode cL_law 83 = .ok (.iconst 1, 1) := by decide +kernel
theorem dL_law_84 : decode cL_law 84 = .ok (.iadd, 1) := by decide +kernel
theorem dL_law_85 : decode cL_law 85 = .ok (.iaload, 1) := by decide +kernel
theorem dL_law_86 : decode cL_law 86 = .ok (.invokevirtual 13, 3) := by decide +kernel
theorem dL_law_89 : decode cL_law 89 = .ok (.aload_n 2, 1) := by decide +kernel
theorem dL_law_90 : decode cL_law 90 = .ok (.aload_n 0, 1) := by decide +kernel
theorem dL_law_91 : decode cL_law 91 = .ok (.iload_n 3, 1) := by decide +kernel
theorem dL_law_92 : decode cL_law 92 = .ok (.iconst 1, 1) := by decide +kernel
theorem dL_law_93 : decode cL_law 93 = .ok (.iadd, 1) := by decide +kernel
theorem dL_law_94 : decode cL_law 94 = .ok (.iaload, 1) := by decide +kernel
theorem dL_law_95 : decode cL_law 95 = .ok (.invokevirtual 17, 3) := by decide +kernel
theorem dL_law_98 : decode cL_law 98 = .ok (.if_icmp .eq 241, 3) := by decide +kernel
theorem dL_law_101 : decode cL_law 101 = .ok (.iconst 0, 1) := by decide +kernel
theorem dL_law_102 : decode cL_law 102 = .ok (.ireturn, 1) := by decide +kernel
theorem dL_law_103 : decode cL_law 103 = .ok (.aload_n 1, 1) := by decide +kernel
theorem dL_law_104 : decode cL_law 104 = .ok (.aload_n 0, 1) := by decide +kernel
theorem dL_law_105 : decode cL_law 105 = .ok (.iload_n 3, 1) := by decide +kernel
theorem dL_law_106 : decode cL_law 106 = .ok (.iconst 1, 1) := by decide +kernel
theorem dL_law_107 : decode cL_law 107 = .ok (.iadd, 1) := by decide +kernel
theorem dL_law_108 : decode cL_law 108 = .ok (.iaload, 1) := by decide +kernel
theorem dL_law_109 : decode cL_law 109 = .ok (.aload_n 0, 1) := by decide +kernel
theorem dL_law_110 : decode cL_law 110 = .ok (.iload_n 3, 1) := by decide +kernel
theorem dL_law_111 : decode cL_law 111 = .ok (.iconst 2, 1) := by decide +kernel
theorem dL_law_112 : decode cL_law 112 = .ok (.iadd, 1) := by decide +kernel
theorem dL_law_113 : decode cL_law 113 = .ok (.iaload, 1) := by decide +kernel
theorem dL_law_114 : decode cL_law 114 = .ok (.ifCond .eq 7, 3) := by decide +kernel
theorem dL_law_117 : decode cL_law 117 = .ok (.iconst 1, 1) := by decide +kernel
theorem dL_law_118 : decode cL_law 118 = .ok (.goto 4, 3) := by decide +kernel
theorem dL_law_121 : decode cL_law 121 = .ok (.iconst 0, 1) := by decide +kernel
theorem dL_law_122 : decode cL_law 122 = .ok (.invokevirtual 18, 3) := by decide +kernel
theorem dL_law_125 : decode cL_law 125 = .ok (.aload_n 2, 1) := by decide +kernel
theorem dL_law_126 : decode cL_law 126 = .ok (.aload_n 0, 1) := by decide +kernel
theorem dL_law_127 : decode cL_law 127 = .ok (.iload_n 3, 1) := by decide +kernel
theorem dL_law_128 : decode cL_law 128 = .ok (.iconst 1, 1) := by decide +kernel
theorem dL_law_129 : decode cL_law 129 = .ok (.iadd, 1) := by decide +kernel
theorem dL_law_130 : decode cL_law 130 = .ok (.iaload, 1) := by decide +kernel
theorem dL_law_131 : decode cL_law 131 = .ok (.aload_n 0, 1) := by decide +kernel
theorem dL_law_132 : decode cL_law 132 = .ok (.iload_n 3, 1) := by decide +kernel
theorem dL_law_133 : decode cL_law 133 = .ok (.iconst 2, 1) := by decide +kernel
theorem dL_law_134 : decode cL_law 134 = .ok (.iadd, 1) := by decide +kernel
theorem dL_law_135 : decode cL_law 135 = .ok (.iaload, 1) := by decide +kernel
theorem dL_law_136 : decode cL_law 136 = .ok (.ifCond .eq 7, 3) := by decide +kernel
theorem dL_law_139 : decode cL_law 139 = .ok (.iconst 1, 1) := by decide +kernel
theorem dL_law_140 : decode cL_law 140 = .ok (.goto 4, 3) := by decide +kernel
theorem dL_law_143 : decode cL_law 143 = .ok (.iconst 0, 1) := by decide +kernel
theorem dL_law_144 : decode cL_law 144 = .ok (.invokevirtual 22, 3) := by decide +kernel
theorem dL_law_147 : decode cL_law 147 = .ok (.if_icmp .eq 192, 3) := by decide +kernel
theorem dL_law_150 : decode cL_law 150 = .ok (.iconst 0, 1) := by decide +kernel
theorem dL_law_151 : decode cL_law 151 = .ok (.ireturn, 1) := by decide +kernel
theorem dL_law_152 : decode cL_law 152 = .ok (.aload_n 1, 1) := by decide +kernel
theorem dL_law_153 : decode cL_law 153 = .ok (.aload_n 0, 1) := by decide +kernel
theorem dL_law_154 : decode cL_law 154 = .ok (.iload_n 3, 1) := by decide +kernel
theorem dL_law_155 : decode cL_law 155 = .ok (.iconst 1, 1) := by decide +kernel
theorem dL_law_156 : decode cL_law 156 = .ok (.iadd, 1) := by decide +kernel
theorem dL_law_157 : decode cL_law 157 = .ok (.iaload, 1) := by decide +kernel
theorem dL_law_158 : decode cL_law 158 = .ok (.aload_n 0, 1) := by decide +kernel
theorem dL_law_159 : decode cL_law 159 = .ok (.iload_n 3, 1) := by decide +kernel
theorem dL_law_160 : decode cL_law 160 = .ok (.iconst 2, 1) := by decide +kernel
theorem dL_law_161 : decode cL_law 161 = .ok (.iadd, 1) := by decide +kernel
theorem dL_law_162 : decode cL_law 162 = .ok (.iaload, 1) := by decide +kernel
theorem dL_law_163 : decode cL_law 163 = .ok (.aload_n 0, 1) := by decide +kernel
theorem dL_law_164 : decode cL_law 164 = .ok (.iload_n 3, 1) := by decide +kernel
theorem dL_law_165 : decode cL_law 165 = .ok (.iconst 3, 1) := by decide +kernel
theorem dL_law_166 : decode cL_law 166 = .ok (.iadd, 1) := by decide +kernel
theorem dL_law_167 : decode cL_law 167 = .ok (.iaload, 1) := by decide +kernel
theorem dL_law_168 : decode cL_law 168 = .ok (.aload_n 0, 1) := by decide +kernel
theorem dL_law_169 : decode cL_law 169 = .ok (.iload_n 3, 1) := by decide +kernel
theorem dL_law_170 : decode cL_law 170 = .ok (.iconst 4, 1) := by decide +kernel
theorem dL_law_171 : decode cL_law 171 = .ok (.iadd, 1) := by decide +kernel
theorem dL_law_172 : decode cL_law 172 = .ok (.iaload, 1) := by decide +kernel
theorem dL_law_173 : decode cL_law 173 = .ok (.ifCond .eq 7, 3) := by decide +kernel
theorem dL_law_176 : decode cL_law 176 = .ok (.iconst 1, 1) := by decide +kernel
theorem dL_law_177 : decode cL_law 177 = .ok (.goto 4, 3) := by decide +kernel
theorem dL_law_180 : decode cL_law 180 = .ok (.iconst 0, 1) := by decide +kernel
theorem dL_law_181 : decode cL_law 181 = .ok (.invokevirtual 23, 3) := by decide +kernel
theorem dL_law_184 : decode cL_law 184 = .ok (.aload_n 2, 1) := by decide +kernel
theorem dL_law_185 : decode cL_law 185 = .ok (.aload_n 0, 1) := by decide +kernel
theorem dL_law_186 : decode cL_law 186 = .ok (.iload_n 3, 1) := by decide +kernel
theorem dL_law_187 : decode cL_law 187 = .ok (.iconst 1, 1) := by decide +kernel
theorem dL_law_188 : decode cL_law 188 = .ok (.iadd, 1) := by decide +kernel
theorem dL_law_189 : decode cL_law 189 = .ok (.iaload, 1) := by decide +kernel
theorem dL_law_190 : decode cL_law 190 = .ok (.aload_n 0, 1) := by decide +kernel
theorem dL_law_191 : decode cL_law 191 = .ok (.iload_n 3, 1) := by decide +kernel
theorem dL_law_192 : decode cL_law 192 = .ok (.iconst 2, 1) := by decide +kernel
theorem dL_law_193 : decode cL_law 193 = .ok (.iadd, 1) := by decide +kernel
theorem dL_law_194 : decode cL_law 194 = .ok (.iaload, 1) := by decide +kernel
theorem dL_law_195 : decode cL_law 195 = .ok (.aload_n 0, 1) := by decide +kernel
theorem dL_law_196 : decode cL_law 196 = .ok (.iload_n 3, 1) := by decide +kernel
theorem dL_law_197 : decode cL_law 197 = .ok (.iconst 3, 1) := by decide +kernel
theorem dL_law_198 : decode cL_law 198 = .ok (.iadd, 1) := by decide +kernel
theorem dL_law_199 : decode cL_law 199 = .ok (.iaload, 1) := by decide +kernel
theorem dL_law_200 : decode cL_law 200 = .ok (.aload_n 0, 1) := by decide +kernel
theorem dL_law_201 : decode cL_law 201 = .ok (.iload_n 3, 1) := by decide +kernel
theorem dL_law_202 : decode cL_law 202 = .ok (.iconst 4, 1) := by decide +kernel
theorem dL_law_203 : decode cL_law 203 = .ok (.iadd, 1) := by decide +kernel
theorem dL_law_204 : decode cL_law 204 = .ok (.iaload, 1) := by decide +kernel
theorem dL_law_205 : decode cL_law 205 = .ok (.ifCond .eq 7, 3) := by decide +kernel
theorem dL_law_208 : decode cL_law 208 = .ok (.iconst 1, 1) := by decide +kernel
theorem dL_law_209 : decode cL_law 209 = .ok (.goto 4, 3) := by decide +kernel
theorem dL_law_212 : decode cL_law 212 = .ok (.iconst 0, 1) := by decide +kernel
theorem dL_law_213 : decode cL_law 213 = .ok (.invokevirtual 27, 3) := by decide +kernel
theorem dL_law_216 : decode cL_law 216 = .ok (.lcmp, 1) := by decide +kernel
theorem dL_law_217 : decode cL_law 217 = .ok (.ifCond .eq 122, 3) := by decide +kernel
theorem dL_law_220 : decode cL_law 220 = .ok (.iconst 0, 1) := by decide +kernel
theorem dL_law_221 : decode cL_law 221 = .ok (.ireturn, 1) := by decide +kernel
theorem dL_law_222 : decode cL_law 222 = .ok (.aload_n 1, 1) := by decide +kernel
theorem dL_law_223 : decode cL_law 223 = .ok (.aload_n 0, 1) := by decide +kernel
theorem dL_law_224 : decode cL_law 224 = .ok (.iload_n 3, 1) := by decide +kernel
theorem dL_law_225 : decode cL_law 225 = .ok (.iconst 1, 1) := by decide +kernel
theorem dL_law_226 : decode cL_law 226 = .ok (.iadd, 1) := by decide +kernel
theorem dL_law_227 : decode cL_law 227 = .ok (.iaload, 1) := by decide +kernel
theorem dL_law_228 : decode cL_law 228 = .ok (.aload_n 0, 1) := by decide +kernel
theorem dL_law_229 : decode cL_law 229 = .ok (.iload_n 3, 1) := by decide +kernel
theorem dL_law_230 : decode cL_law 230 = .ok (.iconst 2, 1) := by decide +kernel
theorem dL_law_231 : decode cL_law 231 = .ok (.iadd, 1) := by decide +kernel
theorem dL_law_232 : decode cL_law 232 = .ok (.iaload, 1) := by decide +kernel
theorem dL_law_233 : decode cL_law 233 = .ok (.invokevirtual 28, 3) := by decide +kernel
theorem dL_law_236 : decode cL_law 236 = .ok (.aload_n 2, 1) := by decide +kernel
theorem dL_law_237 : decode cL_law 237 = .ok (.aload_n 0, 1) := by decide +kernel
theorem dL_law_238 : decode cL_law 238 = .ok (.iload_n 3, 1) := by decide +kernel
theorem dL_law_239 : decode cL_law 239 = .ok (.iconst 1, 1) := by decide +kernel
theorem dL_law_240 : decode cL_law 240 = .ok (.iadd, 1) := by decide +kernel
theorem dL_law_241 : decode cL_law 241 = .ok (.iaload, 1) := by decide +kernel
theorem dL_law_242 : decode cL_law 242 = .ok (.aload_n 0, 1) := by decide +kernel
theorem dL_law_243 : decode cL_law 243 = .ok (.iload_n 3, 1) := by decide +kernel
theorem dL_law_244 : decode cL_law 244 = .ok (.iconst 2, 1) := by decide +kernel
theorem dL_law_245 : decode cL_law 245 = .ok (.iadd, 1) := by decide +kernel
theorem dL_law_246 : decode cL_law 246 = .ok (.iaload, 1) := by decide +kernel
theorem dL_law_247 : decode cL_law 247 = .ok (.invokevirtual 32, 3) := by decide +kernel
theorem dL_law_250 : decode cL_law 250 = .ok (.lcmp, 1) := by decide +kernel
theorem dL_law_251 : decode cL_law 251 = .ok (.ifCond .eq 88, 3) := by decide +kernel
theorem dL_law_254 : decode cL_law 254 = .ok (.iconst 0, 1) := by decide +kernel
theorem dL_law_255 : decode cL_law 255 = .ok (.ireturn, 1) := by decide +kernel
theorem dL_law_256 : decode cL_law 256 = .ok (.aload_n 1, 1) := by decide +kernel
theorem dL_law_257 : decode cL_law 257 = .ok (.invokevirtual 33, 3) := by decide +kernel
theorem dL_law_260 : decode cL_law 260 = .ok (.aload_n 2, 1) := by decide +kernel
theorem dL_law_261 : decode cL_law 261 = .ok (.invokevirtual 37, 3) := by decide +kernel
theorem dL_law_264 : decode cL_law 264 = .ok (.if_icmp .eq 75, 3) := by decide +kernel
theorem dL_law_267 : decode cL_law 267 = .ok (.iconst 0, 1) := by decide +kernel
theorem dL_law_268 : decode cL_law 268 = .ok (.ireturn, 1) := by decide +kernel
theorem dL_law_269 : decode cL_law 269 = .ok (.aload_n 1, 1) := by decide +kernel
theorem dL_law_270 : decode cL_law 270 = .ok (.aload_n 0, 1) := by decide +kernel
theorem dL_law_271 : decode cL_law 271 = .ok (.iload_n 3, 1) := by decide +kernel
theorem dL_law_272 : decode cL_law 272 = .ok (.iconst 1, 1) := by decide +kernel
theorem dL_law_273 : decode cL_law 273 = .ok (.iadd, 1) := by decide +kernel
theorem dL_law_274 : decode cL_law 274 = .ok (.iaload, 1) := by decide +kernel
theorem dL_law_275 : decode cL_law 275 = .ok (.invokevirtual 38, 3) := by decide +kernel
theorem dL_law_278 : decode cL_law 278 = .ok (.aload_n 2, 1) := by decide +kernel
theorem dL_law_279 : decode cL_law 279 = .ok (.aload_n 0, 1) := by decide +kernel
theorem dL_law_280 : decode cL_law 280 = .ok (.iload_n 3, 1) := by decide +kernel
theorem dL_law_281 : decode cL_law 281 = .ok (.iconst 1, 1) := by decide +kernel
theorem dL_law_282 : decode cL_law 282 = .ok (.iadd, 1) := by decide +kernel
theorem dL_law_283 : decode cL_law 283 = .ok (.iaload, 1) := by decide +kernel
theorem dL_law_284 : decode cL_law 284 = .ok (.invokevirtual 42, 3) := by decide +kernel
theorem dL_law_287 : decode cL_law 287 = .ok (.if_icmp .eq 52, 3) := by decide +kernel
theorem dL_law_290 : decode cL_law 290 = .ok (.iconst 0, 1) := by decide +kernel
theorem dL_law_291 : decode cL_law 291 = .ok (.ireturn, 1) := by decide +kernel
theorem dL_law_292 : decode cL_law 292 = .ok (.aload_n 1, 1) := by decide +kernel
theorem dL_law_293 : decode cL_law 293 = .ok (.aload_n 0, 1) := by decide +kernel
theorem dL_law_294 : decode cL_law 294 = .ok (.iload_n 3, 1) := by decide +kernel
theorem dL_law_295 : decode cL_law 295 = .ok (.iconst 1, 1) := by decide +kernel
theorem dL_law_296 : decode cL_law 296 = .ok (.iadd, 1) := by decide +kernel
theorem dL_law_297 : decode cL_law 297 = .ok (.iaload, 1) := by decide +kernel
theorem dL_law_298 : decode cL_law 298 = .ok (.invokevirtual 43, 3) := by decide +kernel
theorem dL_law_301 : decode cL_law 301 = .ok (.aload_n 2, 1) := by decide +kernel
theorem dL_law_302 : decode cL_law 302 = .ok (.aload_n 0, 1) := by decide +kernel
theorem dL_law_303 : decode cL_law 303 = .ok (.iload_n 3, 1) := by decide +kernel
theorem dL_law_304 : decode cL_law 304 = .ok (.iconst 1, 1) := by decide +kernel
theorem dL_law_305 : decode cL_law 305 = .ok (.iadd, 1) := by decide +kernel
theorem dL_law_306 : decode cL_law 306 = .ok (.iaload, 1) := by decide +kernel
theorem dL_law_307 : decode cL_law 307 = .ok (.invokevirtual 47, 3) := by decide +kernel
theorem dL_law_310 : decode cL_law 310 = .ok (.lcmp, 1) := by decide +kernel
theorem dL_law_311 : decode cL_law 311 = .ok (.ifCond .eq 28, 3) := by decide +kernel
theorem dL_law_314 : decode cL_law 314 = .ok (.iconst 0, 1) := by decide +kernel
theorem dL_law_315 : decode cL_law 315 = .ok (.ireturn, 1) := by decide +kernel
theorem dL_law_316 : decode cL_law 316 = .ok (.aload_n 1, 1) := by decide +kernel
theorem dL_law_317 : decode cL_law 317 = .ok (.aload_n 0, 1) := by decide +kernel
theorem dL_law_318 : decode cL_law 318 = .ok (.iload_n 3, 1) := by decide +kernel
theorem dL_law_319 : decode cL_law 319 = .ok (.iconst 1, 1) := by decide +kernel
theorem dL_law_320 : decode cL_law 320 = .ok (.iadd, 1) := by decide +kernel
theorem dL_law_321 : decode cL_law 321 = .ok (.iaload, 1) := by decide +kernel
theorem dL_law_322 : decode cL_law 322 = .ok (.invokevirtual 48, 3) := by decide +kernel
theorem dL_law_325 : decode cL_law 325 = .ok (.aload_n 2, 1) := by decide +kernel
theorem dL_law_326 : decode cL_law 326 = .ok (.aload_n 0, 1) := by decide +kernel
theorem dL_law_327 : decode cL_law 327 = .ok (.iload_n 3, 1) := by decide +kernel
theorem dL_law_328 : decode cL_law 328 = .ok (.iconst 1, 1) := by decide +kernel
theorem dL_law_329 : decode cL_law 329 = .ok (.iadd, 1) := by decide +kernel
theorem dL_law_330 : decode cL_law 330 = .ok (.iaload, 1) := by decide +kernel
theorem dL_law_331 : decode cL_law 331 = .ok (.invokevirtual 51, 3) := by decide +kernel
theorem dL_law_334 : decode cL_law 334 = .ok (.if_icmp .eq 5, 3) := by decide +kernel
theorem dL_law_337 : decode cL_law 337 = .ok (.iconst 0, 1) := by decide +kernel
theorem dL_law_338 : decode cL_law 338 = .ok (.ireturn, 1) := by decide +kernel
theorem dL_law_339 : decode cL_law 339 = .ok (.iinc 3 5, 3) := by decide +kernel
theorem dL_law_342 : decode cL_law 342 = .ok (.goto (-324), 3) := by decide +kernel
theorem dL_law_345 : decode cL_law 345 = .ok (.iconst 1, 1) := by decide +kernel
theorem dL_law_346 : decode cL_law 346 = .ok (.ireturn, 1) := by decide +kernel
end
section
/-! the walk over ONE record E: all that stays fixed while a method runs -/
set_option maxRecDepth 100000
def Ev : Type := (Program) × (Launch) × (Env) × (Room) × (State) × (MethodId) × (Array Value) × (List Frame) × (Method) × (Code) × (Nat) × (Nat) × (State → Prop) × (va_G) × (Nat → Prop)
def Ev.p (E : Ev) : Program := Prod.fst E
def Ev.l (E : Ev) : Launch := Prod.fst (Prod.snd E)
def Ev.e (E : Ev) : Env := Prod.fst (Prod.snd (Prod.snd E))
def Ev.R (E : Ev) : Room := Prod.fst (Prod.snd (Prod.snd (Prod.snd E)))
def Ev.s (E : Ev) : State := Prod.fst (Prod.snd (Prod.snd (Prod.snd (Prod.snd E))))
def Ev.m (E : Ev) : MethodId := Prod.fst (Prod.snd (Prod.snd (Prod.snd (Prod.snd (Prod.snd E)))))
def Ev.args (E : Ev) : Array Value := Prod.fst (Prod.snd (Prod.snd (Prod.snd (Prod.snd (Prod.snd (Prod.snd E))))))
def Ev.below (E : Ev) : List Frame := Prod.fst (Prod.snd (Prod.snd (Prod.snd (Prod.snd (Prod.snd (Prod.snd (Prod.snd E)))))))
def Ev.meth (E : Ev) : Method := Prod.fst (Prod.snd (Prod.snd (Prod.snd (Prod.snd (Prod.snd (Prod.snd (Prod.snd (Prod.snd E))))))))
def Ev.c (E : Ev) : Code := Prod.fst (Prod.snd (Prod.snd (Prod.snd (Prod.snd (Prod.snd (Prod.snd (Prod.snd (Prod.snd (Prod.snd E)))))))))
def Ev.cells (E : Ev) : Nat := Prod.fst (Prod.snd (Prod.snd (Prod.snd (Prod.snd (Prod.snd (Prod.snd (Prod.snd (Prod.snd (Prod.snd (Prod.snd E))))))))))
def Ev.slots (E : Ev) : Nat := Prod.fst (Prod.snd (Prod.snd (Prod.snd (Prod.snd (Prod.snd (Prod.snd (Prod.snd (Prod.snd (Prod.snd (Prod.snd (Prod.snd E)))))))))))
def Ev.Q (E : Ev) : State → Prop := Prod.fst (Prod.snd (Prod.snd (Prod.snd (Prod.snd (Prod.snd (Prod.snd (Prod.snd (Prod.snd (Prod.snd (Prod.snd (Prod.snd (Prod.snd E))))))))))))
def Ev.D (E : Ev) : va_G := Prod.fst (Prod.snd (Prod.snd (Prod.snd (Prod.snd (Prod.snd (Prod.snd (Prod.snd (Prod.snd (Prod.snd (Prod.snd (Prod.snd (Prod.snd (Prod.snd E)))))))))))))
def Ev.A (E : Ev) : Nat → Prop := (Prod.snd (Prod.snd (Prod.snd (Prod.snd (Prod.snd (Prod.snd (Prod.snd (Prod.snd (Prod.snd (Prod.snd (Prod.snd (Prod.snd (Prod.snd (Prod.snd E))))))))))))))
abbrev vwCl : List vw_C := [(RX0, TX0, 21), (RX1, TX1, 18)]
/-- int fields, int-like arrays, long arrays of an object, by the field's number -/
abbrev St : Type := (Nat → Int32) × (Nat → Nat → Int32) × (Nat → Nat → Int64)
def sF (σ : St) (k : Nat) (x : Int32) : St := (va_up σ.1 k x, σ.2.1, σ.2.2)
def sI (σ : St) (k : Nat) (f : Nat → Int32) : St := (σ.1, va_up σ.2.1 k f, σ.2.2)
def sL (σ : St) (k : Nat) (f : Nat → Int64) : St := (σ.1, σ.2.1, va_up σ.2.2 k f)
def WE (E : Ev) (H : Heap) (locs : List Loc) (pc : Nat) (ls : Array Slot) (st : List Value) : Prop := W E.p E.l E.e E.R E.s E.m E.args E.below E.meth E.c H locs E.cells E.slots E.Q (F0 E.m pc ls st)
def CX (E : Ev) (own : String) (cc : ByteArray) (nL : Nat) : Prop := CallFix E.p E.m E.c cc nL E.s E.args lw_all own ∧ E.cells ≤ E.R.cells ∧ E.slots ≤ E.R.slots
def HH (E : Ev) (w : va_W) (H : Heap) (locs : List Loc) : Prop := va_P E.D vwCl w H ∧ va_D E.A w ∧ va_S E.A E.s.heap H locs
def KX (E : Ev) (tys : List (ClassId × FieldType)) : Prop := va_K E.D vwCl tys E.s ∧ ∀ q : Nat, E.s.heap.size ≤ q → E.A q
def bI (b : Bool) : Int32 := cond b 1 0
theorem bI_0 {b : Bool} : bI b = 0 ↔ b = false := by cases b <;> decide
theorem bI_nar (b : Bool) : narrow .boolean (.int (bI b)) = .int (bI b) := by cases b <;> rfl
theorem bI_fit (b : Bool) : fits .boolean (.int (bI b)) = true := by cases b <;> rfl
theorem bI_vp (b : Bool) : vp_nar .boolean (bI b) = bI b := by cases b <;> rfl
theorem inc1 (k : Nat) : nI k + Int32.ofInt 1 = nI (k + 1) := nI_1 k
theorem inc5 (k : Nat) : nI k + Int32.ofInt 5 = nI (k + 5) := nI_add k 5
section
variable {E : Ev} {own : String} {cc : ByteArray} {nL : Nat} {H : Heap} {locs : List Loc} {pc : Nat} {ls : Array Slot} {rest : List Value}
theorem r_iconst (G : CX E own cc nL) {n : Int} (v : Int32) (dg : decode cc pc = .ok (.iconst n, 1)) (hv : Int32.ofInt n = v) (kk : WE E H locs (pc + 1) ls (.int v :: rest)) : WE E H locs pc ls rest := lv_iconst G.1.1 G.1.2.1 dg hv kk
theorem r_bipush (G : CX E own cc nL) {n : Int} (v : Int32) (dg : decode cc pc = .ok (.bipush n, 2)) (hv : (Int8.ofInt n).toInt32 = v) (kk : WE E H locs (pc + 2) ls (.int v :: rest)) : WE E H locs pc ls rest := lv_bipush G.1.1 G.1.2.1 dg hv kk
theorem r_sipush (G : CX E own cc nL) {n : Int} (v : Int32) (dg : decode cc pc = .ok (.sipush n, 3)) (hv : (Int16.ofInt n).toInt32 = v) (kk : WE E H locs (pc + 3) ls (.int v :: rest)) : WE E H locs pc ls rest := lv_sipush G.1.1 G.1.2.1 dg hv kk
theorem r_lconst (G : CX E own cc nL) {n : Fin 2} (v : Int64) (dg : decode cc pc = .ok (.lconst n, 1)) (hv : Int64.ofNat (n : Nat) = v) (kk : WE E H locs (pc + 1) ls (.long v :: rest)) : WE E H locs pc ls rest := lv_lconst G.1.1 G.1.2.1 dg hv kk
theorem r_iload_n (G : CX E own cc nL) {k : Fin 4} {i : Nat} {x : Int32} (dg : decode cc pc = .ok (.iload_n k, 1)) (hi : (k : Nat) = i) (hl : ls[i]? = some (.val (.int x))) (kk : WE E H locs (pc + 1) ls (.int x :: rest)) : WE E H locs pc ls rest := lv_iload_n G.1.1 G.1.2.1 dg hi hl kk
theorem r_iload (G : CX E own cc nL) {i : Nat} {x : Int32} (dg : decode cc pc = .ok (.iload i, 2)) (hl : ls[i]? = some (.val (.int x))) (kk : WE E H locs (pc + 2) ls (.int x :: rest)) : WE E H locs pc ls rest := lv_iload G.1.1 G.1.2.1 dg hl kk
theorem r_lload_n (G : CX E own cc nL) {k : Fin 4} {i : Nat} {x : Int64} (dg : decode cc pc = .ok (.lload_n k, 1)) (hi : (k : Nat) = i) (hl : ls[i]? = some (.val (.long x))) (kk : WE E H locs (pc + 1) ls (.long x :: rest)) : WE E H locs pc ls rest := lv_lload_n G.1.1 G.1.2.1 dg hi hl kk
theorem r_lload (G : CX E own cc nL) {i : Nat} {x : Int64} (dg : decode cc pc = .ok (.lload i, 2)) (hl : ls[i]? = some (.val (.long x))) (kk : WE E H locs (pc + 2) ls (.long x :: rest)) : WE E H locs pc ls rest := lv_lload G.1.1 G.1.2.1 dg hl kk
theorem r_aload_n (G : CX E own cc nL) {k : Fin 4} {i : Nat} {x : Nat} (dg : decode cc pc = .ok (.aload_n k, 1)) (hi : (k : Nat) = i) (hl : ls[i]? = some (.val (.ref x))) (kk : WE E H locs (pc + 1) ls (.ref x :: rest)) : WE E H locs pc ls rest := lv_aload_n G.1.1 G.1.2.1 dg hi hl kk
theorem r_aload (G : CX E own cc nL) {i : Nat} {x : Nat} (dg : decode cc pc = .ok (.aload i, 2)) (hl : ls[i]? = some (.val (.ref x))) (kk : WE E H locs (pc + 2) ls (.ref x :: rest)) : WE E H locs pc ls rest := lv_aload G.1.1 G.1.2.1 dg hl kk
theorem r_istore_n (G : CX E own cc nL) {k : Fin 4} {i : Nat} {x : Int32} {lv : List (Nat × Value)} (lv' : List (Nat × Value)) (dg : decode cc pc = .ok (.istore_n k, 1)) (hi : (k : Nat) = i) (h : lv_has ls nL lv) (hn : i < nL) (hl : (i, Value.int x) :: lv.filter (fun q => !(q.1 == i) && !(q.1 + 1 == i && q.2.category == 2)) = lv') (kk : ∀ ls' : Array Slot, lv_has ls' nL lv' → WE E H locs (pc + 1) ls' rest) : WE E H locs pc ls (.int x :: rest) := lv_istore_n G.1.1 G.1.2.1 dg hi h hn hl kk
theorem r_istore (G : CX E own cc nL) {i : Nat} {x : Int32} {lv : List (Nat × Value)} (lv' : List (Nat × Value)) (dg : decode cc pc = .ok (.istore i, 2)) (h : lv_has ls nL lv) (hn : i < nL) (hl : (i, Value.int x) :: lv.filter (fun q => !(q.1 == i) && !(q.1 + 1 == i && q.2.category == 2)) = lv') (kk : ∀ ls' : Array Slot, lv_has ls' nL lv' → WE E H locs (pc + 2) ls' rest) : WE E H locs pc ls (.int x :: rest) := lv_istore G.1.1 G.1.2.1 dg h hn hl kk
theorem r_lstore_n (G : CX E own cc nL) {k : Fin 4} {i : Nat} {x : Int64} {lv : List (Nat × Value)} (lv' : List (Nat × Value)) (dg : decode cc pc = .ok (.lstore_n k, 1)) (hi : (k : Nat) = i) (h : lv_has ls nL lv) (hn : i + 1 < nL) (hl : (i, Value.long x) :: lv.filter (fun q => !(q.1 == i) && (!(q.1 == i + 1) && !(q.1 + 1 == i && q.2.category == 2))) = lv') (kk : ∀ ls' : Array Slot, lv_has ls' nL lv' → WE E H locs (pc + 1) ls' rest) : WE E H locs pc ls (.long x :: rest) := lv_lstore_n G.1.1 G.1.2.1 dg hi h hn hl kk
theorem r_lstore (G : CX E own cc nL) {i : Nat} {x : Int64} {lv : List (Nat × Value)} (lv' : List (Nat × Value)) (dg : decode cc pc = .ok (.lstore i, 2)) (h : lv_has ls nL lv) (hn : i + 1 < nL) (hl : (i, Value.long x) :: lv.filter (fun q => !(q.1 == i) && (!(q.1 == i + 1) && !(q.1 + 1 == i && q.2.category == 2))) = lv') (kk : ∀ ls' : Array Slot, lv_has ls' nL lv' → WE E H locs (pc + 2) ls' rest) : WE E H locs pc ls (.long x :: rest) := lv_lstore G.1.1 G.1.2.1 dg h hn hl kk
theorem r_astore_n (G : CX E own cc nL) {k : Fin 4} {i : Nat} {x : Nat} {lv : List (Nat × Value)} (lv' : List (Nat × Value)) (dg : decode cc pc = .ok (.astore_n k, 1)) (hi : (k : Nat) = i) (h : lv_has ls nL lv) (hn : i < nL) (hl : (i, Value.ref x) :: lv.filter (fun q => !(q.1 == i) && !(q.1 + 1 == i && q.2.category == 2)) = lv') (kk : ∀ ls' : Array Slot, lv_has ls' nL lv' → WE E H locs (pc + 1) ls' rest) : WE E H locs pc ls (.ref x :: rest) := lv_astore_n G.1.1 G.1.2.1 dg hi h hn hl kk
theorem r_iinc (G : CX E own cc nL) {i k : Nat} {n : Int} {x : Int32} (v : Int32) {lv : List (Nat × Value)} (lv' : List (Nat × Value)) (dg : decode cc pc = .ok (.iinc i n, 3)) (h : lv_has ls nL lv) (hk : lv[k]? = some (i, .int x)) (hv : x + Int32.ofInt n = v) (hn : i < nL) (hl : (i, Value.int v) :: lv.filter (fun q => !(q.1 == i) && !(q.1 + 1 == i && q.2.category == 2)) = lv') (kk : ∀ ls' : Array Slot, lv_has ls' nL lv' → WE E H locs (pc + 3) ls' rest) : WE E H locs pc ls rest := lv_iinc G.1.1 G.1.2.1 dg h hk hv hn hl kk
theorem r_iadd (G : CX E own cc nL) {x y : Int32} (dg : decode cc pc = .ok (.iadd, 1)) (kk : WE E H locs (pc + 1) ls (.int (x + y) :: rest)) : WE E H locs pc ls (.int y :: .int x :: rest) := lv_iadd G.1.1 G.1.2.1 dg kk
theorem r_isub (G : CX E own cc nL) {x y : Int32} (dg : decode cc pc = .ok (.isub, 1)) (kk : WE E H locs (pc + 1) ls (.int (x - y) :: rest)) : WE E H locs pc ls (.int y :: .int x :: rest) := lv_isub G.1.1 G.1.2.1 dg kk
theorem r_imul (G : CX E own cc nL) {x y : Int32} (dg : decode cc pc = .ok (.imul, 1)) (kk : WE E H locs (pc + 1) ls (.int (x * y) :: rest)) : WE E H locs pc ls (.int y :: .int x :: rest) := lv_imul G.1.1 G.1.2.1 dg kk
theorem r_iand (G : CX E own cc nL) {x y : Int32} (dg : decode cc pc = .ok (.iand, 1)) (kk : WE E H locs (pc + 1) ls (.int (x &&& y) :: rest)) : WE E H locs pc ls (.int y :: .int x :: rest) := lv_iand G.1.1 G.1.2.1 dg kk
theorem r_ladd (G : CX E own cc nL) {x y : Int64} (dg : decode cc pc = .ok (.ladd, 1)) (kk : WE E H locs (pc + 1) ls (.long (x + y) :: rest)) : WE E H locs pc ls (.long y :: .long x :: rest) := lv_ladd G.1.1 G.1.2.1 dg kk
theorem r_iaddN (G : CX E own cc nL) {i j : Nat} (dg : decode cc pc = .ok (.iadd, 1)) (kk : WE E H locs (pc + 1) ls (.int (nI (i + j)) :: rest)) : WE E H locs pc ls (.int (nI j) :: .int (nI i) :: rest) := r_iadd G dg (by rw [nI_add]; exact kk)
theorem r_imulN (G : CX E own cc nL) {i j : Nat} (dg : decode cc pc = .ok (.imul, 1)) (kk : WE E H locs (pc + 1) ls (.int (nI (i * j)) :: rest)) : WE E H locs pc ls (.int (nI j) :: .int (nI i) :: rest) := r_imul G dg (by rw [pk_mul]; exact kk)
theorem r_isubN (G : CX E own cc nL) {i j : Nat} (hij : j ≤ i) (dg : decode cc pc = .ok (.isub, 1)) (kk : WE E H locs (pc + 1) ls (.int (nI (i - j)) :: rest)) : WE E H locs pc ls (.int (nI j) :: .int (nI i) :: rest) := r_isub G dg (by rw [pk_sub hij]; exact kk)
theorem r_idivN (G : CX E own cc nL) {i j : Nat} (hi : i < 2147483648) (h0 : 0 < j) (hj : j < 2147483648) (dg : decode cc pc = .ok (.idiv, 1)) (kk : WE E H locs (pc + 1) ls (.int (nI (i / j)) :: rest)) : WE E H locs pc ls (.int (nI j) :: .int (nI i) :: rest) := lv_idiv G.1.1 G.1.2.1 dg (nI_ne0 h0 hj) (by rw [pk_div hi h0 hj]; exact kk)
theorem r_i2l (G : CX E own cc nL) {x : Int32} (v : Int64) (dg : decode cc pc = .ok (.i2l, 1)) (hv : x.toInt64 = v) (kk : WE E H locs (pc + 1) ls (.long v :: rest)) : WE E H locs pc ls (.int x :: rest) := lv_i2l G.1.1 G.1.2.1 dg hv kk
theorem r_i2s (G : CX E own cc nL) {x : Int32} (v : Int32) (dg : decode cc pc = .ok (.i2s, 1)) (hv : x.toInt16.toInt32 = v) (kk : WE E H locs (pc + 1) ls (.int v :: rest)) : WE E H locs pc ls (.int x :: rest) := lv_i2s G.1.1 G.1.2.1 dg hv kk
theorem r_dup (G : CX E own cc nL) {va : Value} (dg : decode cc pc = .ok (.dup, 1)) (hva : va.category = 1) (kk : WE E H locs (pc + 1) ls (va :: va :: rest)) : WE E H locs pc ls (va :: rest) := lv_dup G.1.1 G.1.2.1 dg hva kk
theorem r_dup2 (G : CX E own cc nL) {va vb : Value} (dg : decode cc pc = .ok (.dup2, 1)) (hva : va.category = 1) (hvb : vb.category = 1) (kk : WE E H locs (pc + 1) ls (va :: vb :: va :: vb :: rest)) : WE E H locs pc ls (va :: vb :: rest) := lv_dup2_11 G.1.1 G.1.2.1 dg hva hvb kk
theorem r_ldc (G : CX E own cc nL) {index : Nat} {v : Int32} (hq : Cond.constant own index v ∈ lw_all) (dg : decode cc pc = .ok (.ldc index, 2)) (kk : WE E H locs (pc + 2) ls (.int v :: rest)) : WE E H locs pc ls rest := lv_ldc G.1.1 G.1.2.1 G.1.2.2.2.1 (G.1.2.2.2.2 _ hq) dg kk
theorem r_ldc2 (G : CX E own cc nL) {index : Nat} {v : Int64} (hq : Cond.constantLong own index v ∈ lw_all) (dg : decode cc pc = .ok (.ldc2_w index, 3)) (kk : WE E H locs (pc + 3) ls (.long v :: rest)) : WE E H locs pc ls rest := lv_ldc2 G.1.1 G.1.2.1 G.1.2.2.2.1 (G.1.2.2.2.2 _ hq) dg kk
theorem r_toi {x y : Int32} (h : x = y) (kk : WE E H locs pc ls (.int y :: rest)) : WE E H locs pc ls (.int x :: rest) := by subst h; exact kk
theorem r_tol {x y : Int64} (h : x = y) (kk : WE E H locs pc ls (.long y :: rest)) : WE E H locs pc ls (.long x :: rest) := by subst h; exact kk
theorem r_goto (G : CX E own cc nL) {off : Int} (tgt : Nat) (dg : decode cc pc = .ok (.goto off, 3)) (ht : (pc : Int) + off = (tgt : Int)) (kk : WE E H locs tgt ls rest) : WE E H locs pc ls rest := lv_goto G.1.1 G.1.2.1 dg ht kk
theorem r_if_eq (G : CX E own cc nL) {x : Int32} {off : Int} (tgt : Nat) (dg : decode cc pc = .ok (.ifCond .eq off, 3)) (ht : (pc : Int) + off = (tgt : Int)) (kt : x = 0 → WE E H locs tgt ls rest) (kf : ¬ x = 0 → WE E H locs (pc + 3) ls rest) : WE E H locs pc ls (.int x :: rest) := lv_if_eq G.1.1 G.1.2.1 dg ht kt kf
theorem r_icmp_eq (G : CX E own cc nL) {x y : Int32} {off : Int} (tgt : Nat) (dg : decode cc pc = .ok (.if_icmp .eq off, 3)) (ht : (pc : Int) + off = (tgt : Int)) (kt : x = y → WE E H locs tgt ls rest) (kf : ¬ x = y → WE E H locs (pc + 3) ls rest) : WE E H locs pc ls (.int y :: .int x :: rest) := lv_icmp_eq G.1.1 G.1.2.1 dg ht kt kf
theorem r_if_ne (G : CX E own cc nL) {x : Int32} {off : Int} (tgt : Nat) (dg : decode cc pc = .ok (.ifCond .ne off, 3)) (ht : (pc : Int) + off = (tgt : Int)) (kt : ¬ x = 0 → WE E H locs tgt ls rest) (kf : x = 0 → WE E H locs (pc + 3) ls rest) : WE E H locs pc ls (.int x :: rest) := lv_if_ne G.1.1 G.1.2.1 dg ht kt kf
theorem r_icmp_ne (G : CX E own cc nL) {x y : Int32} {off : Int} (tgt : Nat) (dg : decode cc pc = .ok (.if_icmp .ne off, 3)) (ht : (pc : Int) + off = (tgt : Int)) (kt : ¬ x = y → WE E H locs tgt ls rest) (kf : x = y → WE E H locs (pc + 3) ls rest) : WE E H locs pc ls (.int y :: .int x :: rest) := lv_icmp_ne G.1.1 G.1.2.1 dg ht kt kf
theorem r_if_lt (G : CX E own cc nL) {x : Int32} {off : Int} (tgt : Nat) (dg : decode cc pc = .ok (.ifCond .lt off, 3)) (ht : (pc : Int) + off = (tgt : Int)) (kt : x < 0 → WE E H locs tgt ls rest) (kf : ¬ x < 0 → WE E H locs (pc + 3) ls rest) : WE E H locs pc ls (.int x :: rest) := lv_if_lt G.1.1 G.1.2.1 dg ht kt kf
theorem r_icmp_lt (G : CX E own cc nL) {x y : Int32} {off : Int} (tgt : Nat) (dg : decode cc pc = .ok (.if_icmp .lt off, 3)) (ht : (pc : Int) + off = (tgt : Int)) (kt : x < y → WE E H locs tgt ls rest) (kf : ¬ x < y → WE E H locs (pc + 3) ls rest) : WE E H locs pc ls (.int y :: .int x :: rest) := lv_icmp_lt G.1.1 G.1.2.1 dg ht kt kf
theorem r_if_ge (G : CX E own cc nL) {x : Int32} {off : Int} (tgt : Nat) (dg : decode cc pc = .ok (.ifCond .ge off, 3)) (ht : (pc : Int) + off = (tgt : Int)) (kt : 0 ≤ x → WE E H locs tgt ls rest) (kf : ¬ 0 ≤ x → WE E H locs (pc + 3) ls rest) : WE E H locs pc ls (.int x :: rest) := lv_if_ge G.1.1 G.1.2.1 dg ht kt kf
theorem r_icmp_ge (G : CX E own cc nL) {x y : Int32} {off : Int} (tgt : Nat) (dg : decode cc pc = .ok (.if_icmp .ge off, 3)) (ht : (pc : Int) + off = (tgt : Int)) (kt : y ≤ x → WE E H locs tgt ls rest) (kf : ¬ y ≤ x → WE E H locs (pc + 3) ls rest) : WE E H locs pc ls (.int y :: .int x :: rest) := lv_icmp_ge G.1.1 G.1.2.1 dg ht kt kf
theorem r_if_gt (G : CX E own cc nL) {x : Int32} {off : Int} (tgt : Nat) (dg : decode cc pc = .ok (.ifCond .gt off, 3)) (ht : (pc : Int) + off = (tgt : Int)) (kt : 0 < x → WE E H locs tgt ls rest) (kf : ¬ 0 < x → WE E H locs (pc + 3) ls rest) : WE E H locs pc ls (.int x :: rest) := lv_if_gt G.1.1 G.1.2.1 dg ht kt kf
theorem r_icmp_gt (G : CX E own cc nL) {x y : Int32} {off : Int} (tgt : Nat) (dg : decode cc pc = .ok (.if_icmp .gt off, 3)) (ht : (pc : Int) + off = (tgt : Int)) (kt : y < x → WE E H locs tgt ls rest) (kf : ¬ y < x → WE E H locs (pc + 3) ls rest) : WE E H locs pc ls (.int y :: .int x :: rest) := lv_icmp_gt G.1.1 G.1.2.1 dg ht kt kf
theorem r_if_le (G : CX E own cc nL) {x : Int32} {off : Int} (tgt : Nat) (dg : decode cc pc = .ok (.ifCond .le off, 3)) (ht : (pc : Int) + off = (tgt : Int)) (kt : x ≤ 0 → WE E H locs tgt ls rest) (kf : ¬ x ≤ 0 → WE E H locs (pc + 3) ls rest) : WE E H locs pc ls (.int x :: rest) := lv_if_le G.1.1 G.1.2.1 dg ht kt kf
theorem r_icmp_le (G : CX E own cc nL) {x y : Int32} {off : Int} (tgt : Nat) (dg : decode cc pc = .ok (.if_icmp .le off, 3)) (ht : (pc : Int) + off = (tgt : Int)) (kt : x ≤ y → WE E H locs tgt ls rest) (kf : ¬ x ≤ y → WE E H locs (pc + 3) ls rest) : WE E H locs pc ls (.int y :: .int x :: rest) := lv_icmp_le G.1.1 G.1.2.1 dg ht kt kf
theorem n_icmp_eq (G : CX E own cc nL) {i j : Nat} (hi : i < 2147483648) (hj : j < 2147483648) {off : Int} (tgt : Nat) (dg : decode cc pc = .ok (.if_icmp .eq off, 3)) (ht : (pc : Int) + off = (tgt : Int)) (kt : i = j → WE E H locs tgt ls rest) (kf : i ≠ j → WE E H locs (pc + 3) ls rest) : WE E H locs pc ls (.int (nI j) :: .int (nI i) :: rest) := r_icmp_eq G tgt dg ht (fun c => kt ((nI_eq hi hj).mp c)) (fun c => kf ((fun h => c ((nI_eq hi hj).mpr h))))
theorem n_icmp_ne (G : CX E own cc nL) {i j : Nat} (hi : i < 2147483648) (hj : j < 2147483648) {off : Int} (tgt : Nat) (dg : decode cc pc = .ok (.if_icmp .ne off, 3)) (ht : (pc : Int) + off = (tgt : Int)) (kt : i ≠ j → WE E H locs tgt ls rest) (kf : i = j → WE E H locs (pc + 3) ls rest) : WE E H locs pc ls (.int (nI j) :: .int (nI i) :: rest) := r_icmp_ne G tgt dg ht (fun c => kt (fun h => c ((nI_eq hi hj).mpr h))) (fun c => kf ((nI_eq hi hj).mp c))
theorem n_icmp_lt (G : CX E own cc nL) {i j : Nat} (hi : i < 2147483648) (hj : j < 2147483648) {off : Int} (tgt : Nat) (dg : decode cc pc = .ok (.if_icmp .lt off, 3)) (ht : (pc : Int) + off = (tgt : Int)) (kt : i < j → WE E H locs tgt ls rest) (kf : j ≤ i → WE E H locs (pc + 3) ls rest) : WE E H locs pc ls (.int (nI j) :: .int (nI i) :: rest) := r_icmp_lt G tgt dg ht (fun c => kt ((nI_ltI hi hj).mp c)) (fun c => kf (Nat.le_of_not_lt (fun h => c ((nI_ltI hi hj).mpr h))))
theorem n_icmp_ge (G : CX E own cc nL) {i j : Nat} (hi : i < 2147483648) (hj : j < 2147483648) {off : Int} (tgt : Nat) (dg : decode cc pc = .ok (.if_icmp .ge off, 3)) (ht : (pc : Int) + off = (tgt : Int)) (kt : j ≤ i → WE E H locs tgt ls rest) (kf : i < j → WE E H locs (pc + 3) ls rest) : WE E H locs pc ls (.int (nI j) :: .int (nI i) :: rest) := r_icmp_ge G tgt dg ht (fun c => kt ((nI_leI hj hi).mp c)) (fun c => kf (Nat.lt_of_not_le (fun h => c ((nI_leI hj hi).mpr h))))
theorem n_icmp_gt (G : CX E own cc nL) {i j : Nat} (hi : i < 2147483648) (hj : j < 2147483648) {off : Int} (tgt : Nat) (dg : decode cc pc = .ok (.if_icmp .gt off, 3)) (ht : (pc : Int) + off = (tgt : Int)) (kt : j < i → WE E H locs tgt ls rest) (kf : i ≤ j → WE E H locs (pc + 3) ls rest) : WE E H locs pc ls (.int (nI j) :: .int (nI i) :: rest) := r_icmp_gt G tgt dg ht (fun c => kt ((nI_ltI hj hi).mp c)) (fun c => kf (Nat.le_of_not_lt (fun h => c ((nI_ltI hj hi).mpr h))))
theorem n_icmp_le (G : CX E own cc nL) {i j : Nat} (hi : i < 2147483648) (hj : j < 2147483648) {off : Int} (tgt : Nat) (dg : decode cc pc = .ok (.if_icmp .le off, 3)) (ht : (pc : Int) + off = (tgt : Int)) (kt : i ≤ j → WE E H locs tgt ls rest) (kf : j < i → WE E H locs (pc + 3) ls rest) : WE E H locs pc ls (.int (nI j) :: .int (nI i) :: rest) := r_icmp_le G tgt dg ht (fun c => kt ((nI_leI hi hj).mp c)) (fun c => kf (Nat.lt_of_not_le (fun h => c ((nI_leI hi hj).mpr h))))
theorem n_if_eq (G : CX E own cc nL) {i : Nat} (hi : i < 2147483648) {off : Int} (tgt : Nat) (dg : decode cc pc = .ok (.ifCond .eq off, 3)) (ht : (pc : Int) + off = (tgt : Int)) (kt : i = 0 → WE E H locs tgt ls rest) (kf : i ≠ 0 → WE E H locs (pc + 3) ls rest) : WE E H locs pc ls (.int (nI i) :: rest) := r_if_eq G tgt dg ht (fun c => kt (by by_cases h : i = 0; exact h; exact absurd c (nI_ne0 (by omega) hi))) (fun c => kf (fun h => c (by rw [h]; rfl)))
theorem n_if_ne (G : CX E own cc nL) {i : Nat} (hi : i < 2147483648) {off : Int} (tgt : Nat) (dg : decode cc pc = .ok (.ifCond .ne off, 3)) (ht : (pc : Int) + off = (tgt : Int)) (kt : i ≠ 0 → WE E H locs tgt ls rest) (kf : i = 0 → WE E H locs (pc + 3) ls rest) : WE E H locs pc ls (.int (nI i) :: rest) := r_if_ne G tgt dg ht (fun c => kt (fun h => c (by rw [h]; rfl))) (fun c => kf (by by_cases h : i = 0; exact h; exact absurd c (nI_ne0 (by omega) hi)))
theorem n_if_lt (G : CX E own cc nL) {i : Nat} (hi : i < 2147483648) {off : Int} (tgt : Nat) (dg : decode cc pc = .ok (.ifCond .lt off, 3)) (ht : (pc : Int) + off = (tgt : Int)) (kk : WE E H locs (pc + 3) ls rest) : WE E H locs pc ls (.int (nI i) :: rest) := r_if_lt G tgt dg ht (fun c => absurd c (nI_pos hi)) (fun _ => kk)
theorem n_if_ge (G : CX E own cc nL) {i : Nat} (hi : i < 2147483648) {off : Int} (tgt : Nat) (dg : decode cc pc = .ok (.ifCond .ge off, 3)) (ht : (pc : Int) + off = (tgt : Int)) (kk : WE E H locs tgt ls rest) : WE E H locs pc ls (.int (nI i) :: rest) := r_if_ge G tgt dg ht (fun _ => kk) (fun c => absurd (nI_pos' hi) c)
theorem n_if_le (G : CX E own cc nL) {i : Nat} (hi : i < 2147483648) {off : Int} (tgt : Nat) (dg : decode cc pc = .ok (.ifCond .le off, 3)) (ht : (pc : Int) + off = (tgt : Int)) (kt : i = 0 → WE E H locs tgt ls rest) (kf : 0 < i → WE E H locs (pc + 3) ls rest) : WE E H locs pc ls (.int (nI i) :: rest) := r_if_le G tgt dg ht (fun c => kt (by by_cases h : i = 0; exact h; exact absurd c (nI_nle (by omega) hi))) (fun c => kf (by rcases Nat.eq_zero_or_pos i with h | h; exact absurd (by rw [h]; decide) c; exact h))
theorem m1_if_lt (G : CX E own cc nL) {off : Int} (tgt : Nat) (dg : decode cc pc = .ok (.ifCond .lt off, 3)) (ht : (pc : Int) + off = (tgt : Int)) (kk : WE E H locs tgt ls rest) : WE E H locs pc ls (.int (-1) :: rest) := r_if_lt G tgt dg ht (fun _ => kk) (fun c => absurd (by decide) c)
theorem m1_if_ge (G : CX E own cc nL) {off : Int} (tgt : Nat) (dg : decode cc pc = .ok (.ifCond .ge off, 3)) (ht : (pc : Int) + off = (tgt : Int)) (kk : WE E H locs (pc + 3) ls rest) : WE E H locs pc ls (.int (-1) :: rest) := r_if_ge G tgt dg ht (fun c => absurd c (by decide)) (fun _ => kk)
theorem m1_if_le (G : CX E own cc nL) {off : Int} (tgt : Nat) (dg : decode cc pc = .ok (.ifCond .le off, 3)) (ht : (pc : Int) + off = (tgt : Int)) (kk : WE E H locs tgt ls rest) : WE E H locs pc ls (.int (-1) :: rest) := r_if_le G tgt dg ht (fun _ => kk) (fun c => absurd (by decide) c)
theorem b_if_eq (G : CX E own cc nL) {b : Bool} {off : Int} (tgt : Nat) (dg : decode cc pc = .ok (.ifCond .eq off, 3)) (ht : (pc : Int) + off = (tgt : Int)) (kt : b = false → WE E H locs tgt ls rest) (kf : b = true → WE E H locs (pc + 3) ls rest) : WE E H locs pc ls (.int (bI b) :: rest) := r_if_eq G tgt dg ht (fun c => kt (bI_0.mp c)) (fun c => kf (by cases b; exact absurd (by decide) c; rfl))
theorem b_if_ne (G : CX E own cc nL) {b : Bool} {off : Int} (tgt : Nat) (dg : decode cc pc = .ok (.ifCond .ne off, 3)) (ht : (pc : Int) + off = (tgt : Int)) (kt : b = true → WE E H locs tgt ls rest) (kf : b = false → WE E H locs (pc + 3) ls rest) : WE E H locs pc ls (.int (bI b) :: rest) := r_if_ne G tgt dg ht (fun c => kt (by cases b; exact absurd (by decide) c; rfl)) (fun c => kf (bI_0.mp c))
theorem l_cmp_eq (G : CX E own cc nL) {x y : Int64} {off : Int} (tgt : Nat) (d1 : decode cc pc = .ok (.lcmp, 1)) (dg : decode cc (pc + 1) = .ok (.ifCond .eq off, 3)) (ht : ((pc + 1 : Nat) : Int) + off = (tgt : Int)) (kt : x = y → WE E H locs tgt ls rest) (kf : ¬ x = y → WE E H locs (pc + 4) ls rest) : WE E H locs pc ls (.long y :: .long x :: rest) := W.lcmp G.1.1 G.1.2.1 d1 (r_if_eq (E := E) (H := H) (locs := locs) G tgt dg ht (fun c => kt ((lg_cmp_eq x y).mp c)) (fun c => kf (fun h => c ((lg_cmp_eq x y).mpr h))))
theorem l_cmp_ne (G : CX E own cc nL) {x y : Int64} {off : Int} (tgt : Nat) (d1 : decode cc pc = .ok (.lcmp, 1)) (dg : decode cc (pc + 1) = .ok (.ifCond .ne off, 3)) (ht : ((pc + 1 : Nat) : Int) + off = (tgt : Int)) (kt : ¬ x = y → WE E H locs tgt ls rest) (kf : x = y → WE E H locs (pc + 4) ls rest) : WE E H locs pc ls (.long y :: .long x :: rest) := W.lcmp G.1.1 G.1.2.1 d1 (r_if_ne (E := E) (H := H) (locs := locs) G tgt dg ht (fun c => kt (fun h => c ((lg_cmp_eq x y).mpr h))) (fun c => kf ((lg_cmp_eq x y).mp c)))
theorem l_cmp_lt (G : CX E own cc nL) {x y : Int64} {off : Int} (tgt : Nat) (d1 : decode cc pc = .ok (.lcmp, 1)) (dg : decode cc (pc + 1) = .ok (.ifCond .lt off, 3)) (ht : ((pc + 1 : Nat) : Int) + off = (tgt : Int)) (kt : x < y → WE E H locs tgt ls rest) (kf : ¬ x < y → WE E H locs (pc + 4) ls rest) : WE E H locs pc ls (.long y :: .long x :: rest) := W.lcmp G.1.1 G.1.2.1 d1 (r_if_lt (E := E) (H := H) (locs := locs) G tgt dg ht (fun c => kt ((lg_cmp_lt x y).mp c)) (fun c => kf (fun h => c ((lg_cmp_lt x y).mpr h))))
theorem l_cmp_ge (G : CX E own cc nL) {x y : Int64} {off : Int} (tgt : Nat) (d1 : decode cc pc = .ok (.lcmp, 1)) (dg : decode cc (pc + 1) = .ok (.ifCond .ge off, 3)) (ht : ((pc + 1 : Nat) : Int) + off = (tgt : Int)) (kt : y ≤ x → WE E H locs tgt ls rest) (kf : ¬ y ≤ x → WE E H locs (pc + 4) ls rest) : WE E H locs pc ls (.long y :: .long x :: rest) := W.lcmp G.1.1 G.1.2.1 d1 (r_if_ge (E := E) (H := H) (locs := locs) G tgt dg ht (fun c => kt ((lg_cmp_ge x y).mp c)) (fun c => kf (fun h => c ((lg_cmp_ge x y).mpr h))))
theorem l_cmp_gt (G : CX E own cc nL) {x y : Int64} {off : Int} (tgt : Nat) (d1 : decode cc pc = .ok (.lcmp, 1)) (dg : decode cc (pc + 1) = .ok (.ifCond .gt off, 3)) (ht : ((pc + 1 : Nat) : Int) + off = (tgt : Int)) (kt : y < x → WE E H locs tgt ls rest) (kf : ¬ y < x → WE E H locs (pc + 4) ls rest) : WE E H locs pc ls (.long y :: .long x :: rest) := W.lcmp G.1.1 G.1.2.1 d1 (r_if_gt (E := E) (H := H) (locs := locs) G tgt dg ht (fun c => kt ((lg_cmp_gt x y).mp c)) (fun c => kf (fun h => c ((lg_cmp_gt x y).mpr h))))
theorem l_cmp_le (G : CX E own cc nL) {x y : Int64} {off : Int} (tgt : Nat) (d1 : decode cc pc = .ok (.lcmp, 1)) (dg : decode cc (pc + 1) = .ok (.ifCond .le off, 3)) (ht : ((pc + 1 : Nat) : Int) + off = (tgt : Int)) (kt : x ≤ y → WE E H locs tgt ls rest) (kf : ¬ x ≤ y → WE E H locs (pc + 4) ls rest) : WE E H locs pc ls (.long y :: .long x :: rest) := W.lcmp G.1.1 G.1.2.1 d1 (r_if_le (E := E) (H := H) (locs := locs) G tgt dg ht (fun c => kt ((lg_cmp_le x y).mp c)) (fun c => kf (fun h => c ((lg_cmp_le x y).mpr h))))
theorem r_min {x y : Int64} {index : Nat} (G : CX E own cc nL) (h1 : (Cond.methodLink own index yJ0_min) ∈ lw_all) (hls : ls.size = nL) (hf : 1 ≤ E.R.frames) (hlo : (rest.map fun v => v.category).sum + 15 ≤ E.R.locals) (dg : decode cc pc = .ok (.invokestatic index, 3)) (kk : WE E H locs (pc + 3) ls (.long (if y < x then y else x) :: rest)) : WE E H locs pc ls (.long y :: .long x :: rest) := va_mmin_long G.1.1 G.1.2.1 (by rw [G.1.2.2.1, hls]) G.1.2.2.2.1 (G.1.2.2.2.2 _ h1) (G.1.2.2.2.2 _ q121) (G.1.2.2.2.2 _ q21) (G.1.2.2.2.2 _ q122) hf hlo G.2.1 G.2.2 dg kk
end
theorem fm_of {ws wc : va_W} {is : List Nat} (h : is.map (fun i => ws[i]?) = wc.map some) : is.filterMap (fun i => ws[i]?) = wc := by
  have e : is.filterMap (fun i => ws[i]?) = (is.map (fun i => ws[i]?)).filterMap id := by simp [List.filterMap_map]
  rw [e, h]
  simp [List.filterMap_map]
def Cpre (D : va_G) (tys : List (ClassId × FieldType)) (w : va_W) (sz : Nat) (U : State) : Prop := U.heap.size = sz ∧ va_P D vwCl w U.heap ∧ va_K D vwCl tys U ∧ va_D (fun _ => True) w
def Cpost (D : va_G) (tys : List (ClassId × FieldType)) (w0 : va_W) (sz : Nat) (w : St → va_W) (u : St) (t : State) : Prop := va_P D vwCl (w u) t.heap ∧ va_K D vwCl tys t ∧ va_D (va_A w0 sz) (w u)
def CMi (l : Launch) (y : MethodName) (b : ByteArray) (mL : Nat) (ty : FieldType) (fr lo : Nat) (D : va_G) (tys : List (ClassId × FieldType)) (w : St → va_W) (as : List Value) (σ : St) (post : Int32 → St → Prop) : Prop := ∀ sz : Nat, Met l y (ws_ y b mL (some ty)) ({ frames := fr, cells := 0, slots := 0, locals := lo }) (va_Pc as (Cpre D tys (w σ) sz)) (va_Qi post (Cpost D tys (w σ) sz w) (va_A (w σ) sz)) 0 0 (va_A (w σ) sz)
theorem CMi.of {l : Launch} {y : MethodName} {b : ByteArray} {mL : Nat} {ty : FieldType} {fr lo : Nat} {D : va_G} {tys : List (ClassId × FieldType)} {w : St → va_W} {as : List Value} {σ : St} {post : Int32 → St → Prop} (hy : plainName y.cls = true) (hmL : (lg_sl as).length ≤ mL)
    (body : ∀ (E : Ev) (ls : Array Slot), CX E y.cls b mL → fr ≤ E.R.frames → lo ≤ E.R.locals → KX E tys → HH E (w σ) E.s.heap [] → lv_has ls mL (lv_args 0 as) → (∀ (pc : Nat) (ls : Array Slot) (H : Heap) (locs : List Loc) (r : Int32) (σ' : St), decode b pc = .ok (.ireturn, 1) → narrow ty (.int r) = .int r → HH E (w σ') H locs → post r σ' → WE E H locs pc ls [.int r]) → WE E E.s.heap [] 0 ls []) : CMi l y b mL ty fr lo D tys w as σ post := by
  intro sz
  refine Met.ofW (cc := b) (maxL := mL) (ret := (some ty)) hy rfl ?_
  intro p e s m args below meth c s₁ B hml hv
  obtain ⟨rfl, hsz, hP, hK, hD0⟩ := hv
  have hts := atoms_spec (ws := ws_ y b mL (some ty)) B.pre
  have hts : ∀ w ∈ lw_all, w.before _ s = true := fun w h => hts w (List.mem_cons_of_mem _ h)
  have hown : s.vm.findClass y.cls = some m.cls := findClass_of_methodNamed B.named
  have hlocks := B.notSynchronized
  subst hsz
  have hD := hD0.self (sz := s.heap.size)
  rw [lg_entry_eq]
  have hl := lv_entry as (n := mL) hmL
  refine body (p, l, e, (headSpec (ws_ y b mL (some ty)) ({ frames := fr, cells := 0, slots := 0, locals := lo })).room, s, m, as.toArray, below, meth, c, 0, 0, MQ below (va_Qi post (Cpost D tys (w σ) s.heap.size w) (va_A (w σ) s.heap.size)) as.toArray s 0 0 (va_A (w σ) s.heap.size), D, va_A (w σ) s.heap.size) _ ⟨⟨B.exec, B.bytes, hml, hown, hts⟩, Nat.zero_le _, Nat.zero_le _⟩ (Nat.le_refl _) (Nat.le_refl _) ⟨hK, fun q h => Or.inr h⟩ ⟨hP, hD, va_S.rf⟩ hl ?_
  intro pc ls H locs r σ' dg hn hH hpost
  obtain ⟨hP', hD', hS'⟩ := hH
  exact W.zret (v := r) B.exec B.bytes B.returns hn (fun t ht hW => ⟨⟨r, σ', rfl, hpost, by rw [ht]; exact hP', va_K.moved hW.alike hK, hD'⟩, hS'.F ht⟩) hS'.2.2 dg
theorem call_i {E : Ev} {own : String} {cc : ByteArray} {nL : Nat} {H : Heap} {locs : List Loc} {pc : Nat} {ls : Array Slot} {rest : List Value} {y : MethodName} {b : ByteArray} {mL : Nat} {ty : FieldType} {fr lo : Nat} {tys : List (ClassId × FieldType)} {w : St → va_W} {as : List Value} {σ : St} {post : Int32 → St → Prop} {idx r0 ci : Nat} {fs : List Value} {T : u_T} {N : Nat} {W0 wr : va_W}
    (G : CX E own cc nL) (K : KX E tys) (hH : HH E W0 H locs) (isC isR : List Nat) (hC : isC.map (fun i => W0[i]?) = (w σ).map some) (hRr : isR.map (fun i => W0[i]?) = wr.map some) (hnd : va_nd isR = true) (hdis : ∀ i ∈ isR, i ∉ isC) (hndC : va_nd isC = true)
    (hM : CMi E.l y b mL ty fr lo E.D tys w (.ref r0 :: as) σ post) (hw : GoodIn lw_all (wsV own idx y.cls y (ws_ y b mL (some ty)))) (hd : y.cls ≠ "java/lang/invoke/MethodHandle" ∧ y.cls ≠ "java/lang/invoke/VarHandle" ∧ (parseMethodDescriptor y.desc).map (fun d => d.parameters.length) = some as.length) (hrec : (w σ)[0]? = some (r0, .inr (ci, fs))) (hci : vwCl[ci]? = some (y.cls, T, N)) (hR : fr + 1 ≤ E.R.frames ∧ 8 + (mL + 11) + lo ≤ E.R.locals) (hls : ls.size = nL) {st : List Value} (hst : st = as.reverse ++ .ref r0 :: rest) (hrest : (rest.map fun v => v.category).sum ≤ 8) (dg : decode cc pc = .ok (.invokevirtual idx, 3))
    (kk : ∀ (r : Int32) (σ' : St) (H : Heap) (locs : List Loc), HH E (wr ++ w σ') H locs → post r σ' → WE E H locs (pc + 3) ls (.int r :: rest)) : WE E H locs pc ls st := by
  obtain ⟨⟨hx, hb, hml, hown, hts⟩, hc1, hc2⟩ := G
  obtain ⟨hP, hD, hS⟩ := hH
  obtain ⟨hK, hA⟩ := K
  have hFc := va_free (wc := w σ) hD hS hA isC hC
  have hPc : va_P E.D vwCl (w σ) H := hP.sub isC (fm_of hC)
  have hDc : va_D (fun _ => True) (w σ) := (hD.sub isC hndC hC).weaken (fun _ _ _ _ => trivial)
  refine va_calli (va_runV (As := as) (rest := rest) ⟨hx, hb, hml, hown, hts⟩ (hM H.size) (cwV as.length hts hw rfl rfl rfl ⟨rfl, hd⟩ hR) ⟨fun a U g mk q => ?_, va_recv hK hPc hci hrec, fun U hU hW => ⟨rfl, by rw [hU], by rw [hU]; exact hPc, va_K.moved hW.alike hK, hDc⟩⟩ rfl rfl hls hst (lv_room hrest) dg ⟨hc1, hc2⟩) hS (fun q _ h => hFc q h) hFc (fun r u t H1 locs1 ht hvm hpost hB hz1 hk1 hS1 => ?_)
  · obtain ⟨q0, q1, qP, qK, qD⟩ := q
    exact ⟨q0, q1, qP, va_K.moved (u := U) (U := U.calling g mk a) (Vm.Alike.refl U.vm) qK, qD⟩
  · obtain ⟨hP1, hK1, hD1⟩ := hB
    rw [ht] at hP1
    obtain ⟨hP2, hD2⟩ := va_join (wr := wr) (w1 := w u) hP hD isC isR hC hRr hnd hdis hk1 hFc hP1 hD1
    exact kk r u H1 locs1 ⟨hP2, hD2, hS1⟩ hpost
def CMl (l : Launch) (y : MethodName) (b : ByteArray) (mL : Nat)  (fr lo : Nat) (D : va_G) (tys : List (ClassId × FieldType)) (w : St → va_W) (as : List Value) (σ : St) (post : Int64 → St → Prop) : Prop := ∀ sz : Nat, Met l y (ws_ y b mL (some .long)) ({ frames := fr, cells := 0, slots := 0, locals := lo }) (va_Pc as (Cpre D tys (w σ) sz)) (va_Ql post (Cpost D tys (w σ) sz w) (va_A (w σ) sz)) 0 0 (va_A (w σ) sz)
theorem CMl.of {l : Launch} {y : MethodName} {b : ByteArray} {mL : Nat}  {fr lo : Nat} {D : va_G} {tys : List (ClassId × FieldType)} {w : St → va_W} {as : List Value} {σ : St} {post : Int64 → St → Prop} (hy : plainName y.cls = true) (hmL : (lg_sl as).length ≤ mL)
    (body : ∀ (E : Ev) (ls : Array Slot), CX E y.cls b mL → fr ≤ E.R.frames → lo ≤ E.R.locals → KX E tys → HH E (w σ) E.s.heap [] → lv_has ls mL (lv_args 0 as) → (∀ (pc : Nat) (ls : Array Slot) (H : Heap) (locs : List Loc) (r : Int64) (σ' : St), decode b pc = .ok (.lreturn, 1) → HH E (w σ') H locs → post r σ' → WE E H locs pc ls [.long r]) → WE E E.s.heap [] 0 ls []) : CMl l y b mL fr lo D tys w as σ post := by
  intro sz
  refine Met.ofW (cc := b) (maxL := mL) (ret := (some .long)) hy rfl ?_
  intro p e s m args below meth c s₁ B hml hv
  obtain ⟨rfl, hsz, hP, hK, hD0⟩ := hv
  have hts := atoms_spec (ws := ws_ y b mL (some .long)) B.pre
  have hts : ∀ w ∈ lw_all, w.before _ s = true := fun w h => hts w (List.mem_cons_of_mem _ h)
  have hown : s.vm.findClass y.cls = some m.cls := findClass_of_methodNamed B.named
  have hlocks := B.notSynchronized
  subst hsz
  have hD := hD0.self (sz := s.heap.size)
  rw [lg_entry_eq]
  have hl := lv_entry as (n := mL) hmL
  refine body (p, l, e, (headSpec (ws_ y b mL (some .long)) ({ frames := fr, cells := 0, slots := 0, locals := lo })).room, s, m, as.toArray, below, meth, c, 0, 0, MQ below (va_Ql post (Cpost D tys (w σ) s.heap.size w) (va_A (w σ) s.heap.size)) as.toArray s 0 0 (va_A (w σ) s.heap.size), D, va_A (w σ) s.heap.size) _ ⟨⟨B.exec, B.bytes, hml, hown, hts⟩, Nat.zero_le _, Nat.zero_le _⟩ (Nat.le_refl _) (Nat.le_refl _) ⟨hK, fun q h => Or.inr h⟩ ⟨hP, hD, va_S.rf⟩ hl ?_
  intro pc ls H locs r σ' dg hH hpost
  obtain ⟨hP', hD', hS'⟩ := hH
  exact W.lret (v := r) B.exec B.bytes B.returns (fun t ht hW => ⟨⟨r, σ', rfl, hpost, by rw [ht]; exact hP', va_K.moved hW.alike hK, hD'⟩, hS'.F ht⟩) hS'.2.2 dg
theorem call_l {E : Ev} {own : String} {cc : ByteArray} {nL : Nat} {H : Heap} {locs : List Loc} {pc : Nat} {ls : Array Slot} {rest : List Value} {y : MethodName} {b : ByteArray} {mL : Nat}  {fr lo : Nat} {tys : List (ClassId × FieldType)} {w : St → va_W} {as : List Value} {σ : St} {post : Int64 → St → Prop} {idx r0 ci : Nat} {fs : List Value} {T : u_T} {N : Nat} {W0 wr : va_W}
    (G : CX E own cc nL) (K : KX E tys) (hH : HH E W0 H locs) (isC isR : List Nat) (hC : isC.map (fun i => W0[i]?) = (w σ).map some) (hRr : isR.map (fun i => W0[i]?) = wr.map some) (hnd : va_nd isR = true) (hdis : ∀ i ∈ isR, i ∉ isC) (hndC : va_nd isC = true)
    (hM : CMl E.l y b mL fr lo E.D tys w (.ref r0 :: as) σ post) (hw : GoodIn lw_all (wsV own idx y.cls y (ws_ y b mL (some .long)))) (hd : y.cls ≠ "java/lang/invoke/MethodHandle" ∧ y.cls ≠ "java/lang/invoke/VarHandle" ∧ (parseMethodDescriptor y.desc).map (fun d => d.parameters.length) = some as.length) (hrec : (w σ)[0]? = some (r0, .inr (ci, fs))) (hci : vwCl[ci]? = some (y.cls, T, N)) (hR : fr + 1 ≤ E.R.frames ∧ 8 + (mL + 11) + lo ≤ E.R.locals) (hls : ls.size = nL) {st : List Value} (hst : st = as.reverse ++ .ref r0 :: rest) (hrest : (rest.map fun v => v.category).sum ≤ 8) (dg : decode cc pc = .ok (.invokevirtual idx, 3))
    (kk : ∀ (r : Int64) (σ' : St) (H : Heap) (locs : List Loc), HH E (wr ++ w σ') H locs → post r σ' → WE E H locs (pc + 3) ls (.long r :: rest)) : WE E H locs pc ls st := by
  obtain ⟨⟨hx, hb, hml, hown, hts⟩, hc1, hc2⟩ := G
  obtain ⟨hP, hD, hS⟩ := hH
  obtain ⟨hK, hA⟩ := K
  have hFc := va_free (wc := w σ) hD hS hA isC hC
  have hPc : va_P E.D vwCl (w σ) H := hP.sub isC (fm_of hC)
  have hDc : va_D (fun _ => True) (w σ) := (hD.sub isC hndC hC).weaken (fun _ _ _ _ => trivial)
  refine va_calll (va_runV (As := as) (rest := rest) ⟨hx, hb, hml, hown, hts⟩ (hM H.size) (cwV as.length hts hw rfl rfl rfl ⟨rfl, hd⟩ hR) ⟨fun a U g mk q => ?_, va_recv hK hPc hci hrec, fun U hU hW => ⟨rfl, by rw [hU], by rw [hU]; exact hPc, va_K.moved hW.alike hK, hDc⟩⟩ rfl rfl hls hst (lv_room hrest) dg ⟨hc1, hc2⟩) hS (fun q _ h => hFc q h) hFc (fun r u t H1 locs1 ht hvm hpost hB hz1 hk1 hS1 => ?_)
  · obtain ⟨q0, q1, qP, qK, qD⟩ := q
    exact ⟨q0, q1, qP, va_K.moved (u := U) (U := U.calling g mk a) (Vm.Alike.refl U.vm) qK, qD⟩
  · obtain ⟨hP1, hK1, hD1⟩ := hB
    rw [ht] at hP1
    obtain ⟨hP2, hD2⟩ := va_join (wr := wr) (w1 := w u) hP hD isC isR hC hRr hnd hdis hk1 hFc hP1 hD1
    exact kk r u H1 locs1 ⟨hP2, hD2, hS1⟩ hpost
def CMv (l : Launch) (y : MethodName) (b : ByteArray) (mL : Nat)  (fr lo : Nat) (D : va_G) (tys : List (ClassId × FieldType)) (w : St → va_W) (as : List Value) (σ : St) (post : St → Prop) : Prop := ∀ sz : Nat, Met l y (ws_ y b mL none) ({ frames := fr, cells := 0, slots := 0, locals := lo }) (va_Pc as (Cpre D tys (w σ) sz)) (va_Qv post (Cpost D tys (w σ) sz w) (va_A (w σ) sz)) 0 0 (va_A (w σ) sz)
theorem CMv.of {l : Launch} {y : MethodName} {b : ByteArray} {mL : Nat}  {fr lo : Nat} {D : va_G} {tys : List (ClassId × FieldType)} {w : St → va_W} {as : List Value} {σ : St} {post : St → Prop} (hy : plainName y.cls = true) (hmL : (lg_sl as).length ≤ mL)
    (body : ∀ (E : Ev) (ls : Array Slot), CX E y.cls b mL → fr ≤ E.R.frames → lo ≤ E.R.locals → KX E tys → HH E (w σ) E.s.heap [] → lv_has ls mL (lv_args 0 as) → (∀ (pc : Nat) (ls : Array Slot) (H : Heap) (locs : List Loc) (σ' : St), decode b pc = .ok (.return_, 1) → HH E (w σ') H locs → post σ' → WE E H locs pc ls []) → WE E E.s.heap [] 0 ls []) : CMv l y b mL fr lo D tys w as σ post := by
  intro sz
  refine Met.ofW (cc := b) (maxL := mL) (ret := none) hy rfl ?_
  intro p e s m args below meth c s₁ B hml hv
  obtain ⟨rfl, hsz, hP, hK, hD0⟩ := hv
  have hts := atoms_spec (ws := ws_ y b mL none) B.pre
  have hts : ∀ w ∈ lw_all, w.before _ s = true := fun w h => hts w (List.mem_cons_of_mem _ h)
  have hown : s.vm.findClass y.cls = some m.cls := findClass_of_methodNamed B.named
  have hlocks := B.notSynchronized
  subst hsz
  have hD := hD0.self (sz := s.heap.size)
  rw [lg_entry_eq]
  have hl := lv_entry as (n := mL) hmL
  refine body (p, l, e, (headSpec (ws_ y b mL none) ({ frames := fr, cells := 0, slots := 0, locals := lo })).room, s, m, as.toArray, below, meth, c, 0, 0, MQ below (va_Qv post (Cpost D tys (w σ) s.heap.size w) (va_A (w σ) s.heap.size)) as.toArray s 0 0 (va_A (w σ) s.heap.size), D, va_A (w σ) s.heap.size) _ ⟨⟨B.exec, B.bytes, hml, hown, hts⟩, Nat.zero_le _, Nat.zero_le _⟩ (Nat.le_refl _) (Nat.le_refl _) ⟨hK, fun q h => Or.inr h⟩ ⟨hP, hD, va_S.rf⟩ hl ?_
  intro pc ls H locs σ' dg hH hpost
  obtain ⟨hP', hD', hS'⟩ := hH
  exact W.vret B.exec B.bytes B.returns (fun t ht hW => ⟨⟨σ', rfl, hpost, by rw [ht]; exact hP', va_K.moved hW.alike hK, hD'⟩, hS'.F ht⟩) hS'.2.2 dg
theorem call_v {E : Ev} {own : String} {cc : ByteArray} {nL : Nat} {H : Heap} {locs : List Loc} {pc : Nat} {ls : Array Slot} {rest : List Value} {y : MethodName} {b : ByteArray} {mL : Nat}  {fr lo : Nat} {tys : List (ClassId × FieldType)} {w : St → va_W} {as : List Value} {σ : St} {post : St → Prop} {idx r0 ci : Nat} {fs : List Value} {T : u_T} {N : Nat} {W0 wr : va_W}
    (G : CX E own cc nL) (K : KX E tys) (hH : HH E W0 H locs) (isC isR : List Nat) (hC : isC.map (fun i => W0[i]?) = (w σ).map some) (hRr : isR.map (fun i => W0[i]?) = wr.map some) (hnd : va_nd isR = true) (hdis : ∀ i ∈ isR, i ∉ isC) (hndC : va_nd isC = true)
    (hM : CMv E.l y b mL fr lo E.D tys w (.ref r0 :: as) σ post) (hw : GoodIn lw_all (wsV own idx y.cls y (ws_ y b mL none))) (hd : y.cls ≠ "java/lang/invoke/MethodHandle" ∧ y.cls ≠ "java/lang/invoke/VarHandle" ∧ (parseMethodDescriptor y.desc).map (fun d => d.parameters.length) = some as.length) (hrec : (w σ)[0]? = some (r0, .inr (ci, fs))) (hci : vwCl[ci]? = some (y.cls, T, N)) (hR : fr + 1 ≤ E.R.frames ∧ 8 + (mL + 11) + lo ≤ E.R.locals) (hls : ls.size = nL) {st : List Value} (hst : st = as.reverse ++ .ref r0 :: rest) (hrest : (rest.map fun v => v.category).sum ≤ 8) (dg : decode cc pc = .ok (.invokevirtual idx, 3))
    (kk : ∀ (σ' : St) (H : Heap) (locs : List Loc), HH E (wr ++ w σ') H locs → post σ' → WE E H locs (pc + 3) ls rest) : WE E H locs pc ls st := by
  obtain ⟨⟨hx, hb, hml, hown, hts⟩, hc1, hc2⟩ := G
  obtain ⟨hP, hD, hS⟩ := hH
  obtain ⟨hK, hA⟩ := K
  have hFc := va_free (wc := w σ) hD hS hA isC hC
  have hPc : va_P E.D vwCl (w σ) H := hP.sub isC (fm_of hC)
  have hDc : va_D (fun _ => True) (w σ) := (hD.sub isC hndC hC).weaken (fun _ _ _ _ => trivial)
  refine va_callv (va_runV (As := as) (rest := rest) ⟨hx, hb, hml, hown, hts⟩ (hM H.size) (cwV as.length hts hw rfl rfl rfl ⟨rfl, hd⟩ hR) ⟨fun a U g mk q => ?_, va_recv hK hPc hci hrec, fun U hU hW => ⟨rfl, by rw [hU], by rw [hU]; exact hPc, va_K.moved hW.alike hK, hDc⟩⟩ rfl rfl hls hst (lv_room hrest) dg ⟨hc1, hc2⟩) hS (fun q _ h => hFc q h) hFc (fun u t H1 locs1 ht hvm hpost hB hz1 hk1 hS1 => ?_)
  · obtain ⟨q0, q1, qP, qK, qD⟩ := q
    exact ⟨q0, q1, qP, va_K.moved (u := U) (U := U.calling g mk a) (Vm.Alike.refl U.vm) qK, qD⟩
  · obtain ⟨hP1, hK1, hD1⟩ := hB
    rw [ht] at hP1
    obtain ⟨hP2, hD2⟩ := va_join (wr := wr) (w1 := w u) hP hD isC isR hC hRr hnd hdis hk1 hFc hP1 hD1
    exact kk u H1 locs1 ⟨hP2, hD2, hS1⟩ hpost
end
section
set_option maxRecDepth 100000
def xw (a : Nat → Nat) (d : Nat → ClassId) (σ : St) : va_W := [(a 0, .inr (0, [.int (σ.1 0), .ref (a 1), .ref (a 2), .ref (a 3), .ref (a 4), .ref (a 5), .ref (a 6), .int (σ.1 7), .int (σ.1 8), .ref (a 9), .ref (a 10), .ref (a 11), .ref (a 12), .ref (a 13), .ref (a 14), .ref (a 15), .ref (a 16), .ref (a 17), .ref (a 18), .int (σ.1 19), .ref (a 20)])), (a 1, .inl (d 1, 200, .inl (σ.2.1 1))), (a 2, .inl (d 2, 1000, .inl (σ.2.1 2))), (a 3, .inl (d 3, 1000, .inl (σ.2.1 3))), (a 4, .inl (d 4, 1000, .inr (.inl (σ.2.2 4)))), (a 5, .inl (d 5, 1000, .inl (σ.2.1 5))), (a 6, .inl (d 6, 40000, .inl (σ.2.1 6))), (a 9, .inl (d 9, 1000, .inl (σ.2.1 9))), (a 10, .inl (d 10, 200, .inl (σ.2.1 10))), (a 11, .inl (d 11, 200, .inl (σ.2.1 11))), (a 12, .inl (d 12, 200, .inl (σ.2.1 12))), (a 13, .inl (d 13, 200, .inl (σ.2.1 13))), (a 14, .inl (d 14, 200, .inr (.inl (σ.2.2 14)))), (a 15, .inl (d 15, 200, .inl (σ.2.1 15))), (a 16, .inl (d 16, 200, .inl (σ.2.1 16))), (a 17, .inl (d 17, 200, .inl (σ.2.1 17))), (a 18, .inl (d 18, 200, .inl (σ.2.1 18))), (a 20, .inl (d 20, 4, .inr (.inl (σ.2.2 20))))]
def xt (d : Nat → ClassId) : List (ClassId × FieldType) := [(d 1, .boolean), (d 2, .int), (d 3, .int), (d 4, .long), (d 5, .boolean), (d 6, .short), (d 9, .int), (d 10, .int), (d 11, .int), (d 12, .int), (d 13, .boolean), (d 14, .long), (d 15, .int), (d 16, .int), (d 17, .int), (d 18, .int), (d 20, .long)]
abbrev XH (E : Ev) (a : Nat → Nat) (d : Nat → ClassId) (σ : St) (H : Heap) (locs : List Loc) : Prop := HH E (xw a d σ) H locs
section
variable {E : Ev} {a : Nat → Nat} {d : Nat → ClassId} {σ : St} {cc : ByteArray} {nL : Nat} {H : Heap} {locs : List Loc} {pc : Nat} {ls : Array Slot} {rest : List Value}
theorem xg_blocks (G : CX E RX0 cc nL) (K : KX E (xt d)) (hH : XH E a d σ H locs) (h0 : ls[0]? = some (.val (.ref (a 0)))) (d1 : decode cc pc = .ok (.aload_n 0, 1)) (d2 : decode cc (pc + 1) = .ok (.getfield 7, 3)) (kk : WE E H locs (pc + 4) ls (.int (σ.1 0) :: rest)) : WE E H locs pc ls rest := lv_aload_n G.1.1 G.1.2.1 d1 rfl h0 (va_get (D := E.D) (ci := 0) (v := .int (σ.1 0)) (C := RX0) (T := TX0) (N := 21) G.1.1 G.1.2.1 G.1.2.2.2.2 in_X0 G.1.2.2.2.1 K.1 hH.1 0 rfl rfl 0 (by decide) (G.1.2.2.2.2 _ q31) (fun _ h9 => h9) rfl d2 kk)
theorem xgf_blocks (G : CX E RX0 cc nL) (K : KX E (xt d)) (hH : XH E a d σ H locs) (d2 : decode cc pc = .ok (.getfield 7, 3)) (kk : WE E H locs (pc + 3) ls (.int (σ.1 0) :: rest)) : WE E H locs pc ls (.ref (a 0) :: rest) := va_get (D := E.D) (ci := 0) (v := .int (σ.1 0)) (C := RX0) (T := TX0) (N := 21) G.1.1 G.1.2.1 G.1.2.2.2.2 in_X0 G.1.2.2.2.1 K.1 hH.1 0 rfl rfl 0 (by decide) (G.1.2.2.2.2 _ q31) (fun _ h9 => h9) rfl d2 kk
theorem xp_blocks (G : CX E RX0 cc nL) (K : KX E (xt d)) (hH : XH E a d σ H locs) {z : Int32} (dg : decode cc pc = .ok (.putfield 7, 3)) (kk : ∀ (H : Heap) (locs : List Loc), XH E a d (sF σ 0 z) H locs → WE E H locs (pc + 3) ls rest) : WE E H locs pc ls (.int z :: .ref (a 0) :: rest) := va_put (D := E.D) (ci := 0) (v := .int z) (ty := .int) (C := RX0) (T := TX0) (N := 21) G.1.1 G.1.2.1 G.1.2.2.2.2 in_X0 tyX0 tyX0_ok nmX0 G.1.2.2.2.1 K.1 hH.1 hH.2.1 hH.2.2 0 rfl rfl 0 (by decide) (G.1.2.2.2.2 _ q31) (fun _ h9 => h9) rfl (by decide +kernel) rfl rfl (Nat.le_of_ble_eq_true rfl) dg (fun H1 locs1 hP hD hS => kk H1 locs1 ⟨hP, hD, hS⟩)
theorem xg_isHot (G : CX E RX0 cc nL) (K : KX E (xt d)) (hH : XH E a d σ H locs) (h0 : ls[0]? = some (.val (.ref (a 0)))) (d1 : decode cc pc = .ok (.aload_n 0, 1)) (d2 : decode cc (pc + 1) = .ok (.getfield 13, 3)) (kk : WE E H locs (pc + 4) ls (.ref (a 1) :: rest)) : WE E H locs pc ls rest := lv_aload_n G.1.1 G.1.2.1 d1 rfl h0 (va_get (D := E.D) (ci := 0) (v := .ref (a 1)) (C := RX0) (T := TX0) (N := 21) G.1.1 G.1.2.1 G.1.2.2.2.2 in_X0 G.1.2.2.2.1 K.1 hH.1 0 rfl rfl 1 (by decide) (G.1.2.2.2.2 _ q32) (fun _ h9 => h9) rfl d2 kk)
theorem xg_from (G : CX E RX0 cc nL) (K : KX E (xt d)) (hH : XH E a d σ H locs) (h0 : ls[0]? = some (.val (.ref (a 0)))) (d1 : decode cc pc = .ok (.aload_n 0, 1)) (d2 : decode cc (pc + 1) = .ok (.getfield 17, 3)) (kk : WE E H locs (pc + 4) ls (.ref (a 2) :: rest)) : WE E H locs pc ls rest := lv_aload_n G.1.1 G.1.2.1 d1 rfl h0 (va_get (D := E.D) (ci := 0) (v := .ref (a 2)) (C := RX0) (T := TX0) (N := 21) G.1.1 G.1.2.1 G.1.2.2.2.2 in_X0 G.1.2.2.2.1 K.1 hH.1 0 rfl rfl 2 (by decide) (G.1.2.2.2.2 _ q33) (fun _ h9 => h9) rfl d2 kk)
theorem xg_to (G : CX E RX0 cc nL) (K : KX E (xt d)) (hH : XH E a d σ H locs) (h0 : ls[0]? = some (.val (.ref (a 0)))) (d1 : decode cc pc = .ok (.aload_n 0, 1)) (d2 : decode cc (pc + 1) = .ok (.getfield 21, 3)) (kk : WE E H locs (pc + 4) ls (.ref (a 3) :: rest)) : WE E H locs pc ls rest := lv_aload_n G.1.1 G.1.2.1 d1 rfl h0 (va_get (D := E.D) (ci := 0) (v := .ref (a 3)) (C := RX0) (T := TX0) (N := 21) G.1.1 G.1.2.1 G.1.2.2.2.2 in_X0 G.1.2.2.2.1 K.1 hH.1 0 rfl rfl 3 (by decide) (G.1.2.2.2.2 _ q34) (fun _ h9 => h9) rfl d2 kk)
theorem xg_counts (G : CX E RX0 cc nL) (K : KX E (xt d)) (hH : XH E a d σ H locs) (h0 : ls[0]? = some (.val (.ref (a 0)))) (d1 : decode cc pc = .ok (.aload_n 0, 1)) (d2 : decode cc (pc + 1) = .ok (.getfield 24, 3)) (kk : WE E H locs (pc + 4) ls (.ref (a 4) :: rest)) : WE E H locs pc ls rest := lv_aload_n G.1.1 G.1.2.1 d1 rfl h0 (va_get (D := E.D) (ci := 0) (v := .ref (a 4)) (C := RX0) (T := TX0) (N := 21) G.1.1 G.1.2.1 G.1.2.2.2.2 in_X0 G.1.2.2.2.1 K.1 hH.1 0 rfl rfl 4 (by decide) (G.1.2.2.2.2 _ q35) (fun _ h9 => h9) rfl d2 kk)
theorem xg_falls (G : CX E RX0 cc nL) (K : KX E (xt d)) (hH : XH E a d σ H locs) (h0 : ls[0]? = some (.val (.ref (a 0)))) (d1 : decode cc pc = .ok (.aload_n 0, 1)) (d2 : decode cc (pc + 1) = .ok (.getfield 28, 3)) (kk : WE E H locs (pc + 4) ls (.ref (a 5) :: rest)) : WE E H locs pc ls rest := lv_aload_n G.1.1 G.1.2.1 d1 rfl h0 (va_get (D := E.D) (ci := 0) (v := .ref (a 5)) (C := RX0) (T := TX0) (N := 21) G.1.1 G.1.2.1 G.1.2.2.2.2 in_X0 G.1.2.2.2.1 K.1 hH.1 0 rfl rfl 5 (by decide) (G.1.2.2.2.2 _ q36) (fun _ h9 => h9) rfl d2 kk)
theorem xg_wayOf (G : CX E RX0 cc nL) (K : KX E (xt d)) (hH : XH E a d σ H locs) (h0 : ls[0]? = some (.val (.ref (a 0)))) (d1 : decode cc pc = .ok (.aload_n 0, 1)) (d2 : decode cc (pc + 1) = .ok (.getfield 32, 3)) (kk : WE E H locs (pc + 4) ls (.ref (a 6) :: rest)) : WE E H locs pc ls rest := lv_aload_n G.1.1 G.1.2.1 d1 rfl h0 (va_get (D := E.D) (ci := 0) (v := .ref (a 6)) (C := RX0) (T := TX0) (N := 21) G.1.1 G.1.2.1 G.1.2.2.2.2 in_X0 G.1.2.2.2.1 K.1 hH.1 0 rfl rfl 6 (by decide) (G.1.2.2.2.2 _ q37) (fun _ h9 => h9) rfl d2 kk)
theorem xg_ways (G : CX E RX0 cc nL) (K : KX E (xt d)) (hH : XH E a d σ H locs) (h0 : ls[0]? = some (.val (.ref (a 0)))) (d1 : decode cc pc = .ok (.aload_n 0, 1)) (d2 : decode cc (pc + 1) = .ok (.getfield 69, 3)) (kk : WE E H locs (pc + 4) ls (.int (σ.1 7) :: rest)) : WE E H locs pc ls rest := lv_aload_n G.1.1 G.1.2.1 d1 rfl h0 (va_get (D := E.D) (ci := 0) (v := .int (σ.1 7)) (C := RX0) (T := TX0) (N := 21) G.1.1 G.1.2.1 G.1.2.2.2.2 in_X0 G.1.2.2.2.1 K.1 hH.1 0 rfl rfl 7 (by decide) (G.1.2.2.2.2 _ q38) (fun _ h9 => h9) rfl d2 kk)
theorem xgf_ways (G : CX E RX0 cc nL) (K : KX E (xt d)) (hH : XH E a d σ H locs) (d2 : decode cc pc = .ok (.getfield 69, 3)) (kk : WE E H locs (pc + 3) ls (.int (σ.1 7) :: rest)) : WE E H locs pc ls (.ref (a 0) :: rest) := va_get (D := E.D) (ci := 0) (v := .int (σ.1 7)) (C := RX0) (T := TX0) (N := 21) G.1.1 G.1.2.1 G.1.2.2.2.2 in_X0 G.1.2.2.2.1 K.1 hH.1 0 rfl rfl 7 (by decide) (G.1.2.2.2.2 _ q38) (fun _ h9 => h9) rfl d2 kk
theorem xp_ways (G : CX E RX0 cc nL) (K : KX E (xt d)) (hH : XH E a d σ H locs) {z : Int32} (dg : decode cc pc = .ok (.putfield 69, 3)) (kk : ∀ (H : Heap) (locs : List Loc), XH E a d (sF σ 7 z) H locs → WE E H locs (pc + 3) ls rest) : WE E H locs pc ls (.int z :: .ref (a 0) :: rest) := va_put (D := E.D) (ci := 0) (v := .int z) (ty := .int) (C := RX0) (T := TX0) (N := 21) G.1.1 G.1.2.1 G.1.2.2.2.2 in_X0 tyX0 tyX0_ok nmX0 G.1.2.2.2.1 K.1 hH.1 hH.2.1 hH.2.2 0 rfl rfl 7 (by decide) (G.1.2.2.2.2 _ q38) (fun _ h9 => h9) rfl (by decide +kernel) rfl rfl (Nat.le_of_ble_eq_true rfl) dg (fun H1 locs1 hP hD hS => kk H1 locs1 ⟨hP, hD, hS⟩)
theorem xg_isDone (G : CX E RX0 cc nL) (K : KX E (xt d)) (hH : XH E a d σ H locs) (h0 : ls[0]? = some (.val (.ref (a 0)))) (d1 : decode cc pc = .ok (.aload_n 0, 1)) (d2 : decode cc (pc + 1) = .ok (.getfield 72, 3)) (kk : WE E H locs (pc + 4) ls (.int (σ.1 8) :: rest)) : WE E H locs pc ls rest := lv_aload_n G.1.1 G.1.2.1 d1 rfl h0 (va_get (D := E.D) (ci := 0) (v := .int (σ.1 8)) (C := RX0) (T := TX0) (N := 21) G.1.1 G.1.2.1 G.1.2.2.2.2 in_X0 G.1.2.2.2.1 K.1 hH.1 0 rfl rfl 8 (by decide) (G.1.2.2.2.2 _ q39) (fun _ h9 => h9) rfl d2 kk)
theorem xgf_isDone (G : CX E RX0 cc nL) (K : KX E (xt d)) (hH : XH E a d σ H locs) (d2 : decode cc pc = .ok (.getfield 72, 3)) (kk : WE E H locs (pc + 3) ls (.int (σ.1 8) :: rest)) : WE E H locs pc ls (.ref (a 0) :: rest) := va_get (D := E.D) (ci := 0) (v := .int (σ.1 8)) (C := RX0) (T := TX0) (N := 21) G.1.1 G.1.2.1 G.1.2.2.2.2 in_X0 G.1.2.2.2.1 K.1 hH.1 0 rfl rfl 8 (by decide) (G.1.2.2.2.2 _ q39) (fun _ h9 => h9) rfl d2 kk
theorem xp_isDone (G : CX E RX0 cc nL) (K : KX E (xt d)) (hH : XH E a d σ H locs) {z : Int32} (hn : narrow .boolean (.int z) = .int z) (hf : fits .boolean (.int z) = true) (dg : decode cc pc = .ok (.putfield 72, 3)) (kk : ∀ (H : Heap) (locs : List Loc), XH E a d (sF σ 8 z) H locs → WE E H locs (pc + 3) ls rest) : WE E H locs pc ls (.int z :: .ref (a 0) :: rest) := va_put (D := E.D) (ci := 0) (v := .int z) (ty := .boolean) (C := RX0) (T := TX0) (N := 21) G.1.1 G.1.2.1 G.1.2.2.2.2 in_X0 tyX0 tyX0_ok nmX0 G.1.2.2.2.1 K.1 hH.1 hH.2.1 hH.2.2 0 rfl rfl 8 (by decide) (G.1.2.2.2.2 _ q39) (fun _ h9 => h9) rfl (by decide +kernel) hn hf (Nat.le_of_ble_eq_true rfl) dg (fun H1 locs1 hP hD hS => kk H1 locs1 ⟨hP, hD, hS⟩)
theorem xg_sorted (G : CX E RX0 cc nL) (K : KX E (xt d)) (hH : XH E a d σ H locs) (h0 : ls[0]? = some (.val (.ref (a 0)))) (d1 : decode cc pc = .ok (.aload_n 0, 1)) (d2 : decode cc (pc + 1) = .ok (.getfield 36, 3)) (kk : WE E H locs (pc + 4) ls (.ref (a 9) :: rest)) : WE E H locs pc ls rest := lv_aload_n G.1.1 G.1.2.1 d1 rfl h0 (va_get (D := E.D) (ci := 0) (v := .ref (a 9)) (C := RX0) (T := TX0) (N := 21) G.1.1 G.1.2.1 G.1.2.2.2.2 in_X0 G.1.2.2.2.1 K.1 hH.1 0 rfl rfl 9 (by decide) (G.1.2.2.2.2 _ q40) (fun _ h9 => h9) rfl d2 kk)
theorem xg_next (G : CX E RX0 cc nL) (K : KX E (xt d)) (hH : XH E a d σ H locs) (h0 : ls[0]? = some (.val (.ref (a 0)))) (d1 : decode cc pc = .ok (.aload_n 0, 1)) (d2 : decode cc (pc + 1) = .ok (.getfield 39, 3)) (kk : WE E H locs (pc + 4) ls (.ref (a 10) :: rest)) : WE E H locs pc ls rest := lv_aload_n G.1.1 G.1.2.1 d1 rfl h0 (va_get (D := E.D) (ci := 0) (v := .ref (a 10)) (C := RX0) (T := TX0) (N := 21) G.1.1 G.1.2.1 G.1.2.2.2.2 in_X0 G.1.2.2.2.1 K.1 hH.1 0 rfl rfl 10 (by decide) (G.1.2.2.2.2 _ q41) (fun _ h9 => h9) rfl d2 kk)
theorem xg_before (G : CX E RX0 cc nL) (K : KX E (xt d)) (hH : XH E a d σ H locs) (h0 : ls[0]? = some (.val (.ref (a 0)))) (d1 : decode cc pc = .ok (.aload_n 0, 1)) (d2 : decode cc (pc + 1) = .ok (.getfield 42, 3)) (kk : WE E H locs (pc + 4) ls (.ref (a 11) :: rest)) : WE E H locs pc ls rest := lv_aload_n G.1.1 G.1.2.1 d1 rfl h0 (va_get (D := E.D) (ci := 0) (v := .ref (a 11)) (C := RX0) (T := TX0) (N := 21) G.1.1 G.1.2.1 G.1.2.2.2.2 in_X0 G.1.2.2.2.1 K.1 hH.1 0 rfl rfl 11 (by decide) (G.1.2.2.2.2 _ q42) (fun _ h9 => h9) rfl d2 kk)
theorem xg_head (G : CX E RX0 cc nL) (K : KX E (xt d)) (hH : XH E a d σ H locs) (h0 : ls[0]? = some (.val (.ref (a 0)))) (d1 : decode cc pc = .ok (.aload_n 0, 1)) (d2 : decode cc (pc + 1) = .ok (.getfield 45, 3)) (kk : WE E H locs (pc + 4) ls (.ref (a 12) :: rest)) : WE E H locs pc ls rest := lv_aload_n G.1.1 G.1.2.1 d1 rfl h0 (va_get (D := E.D) (ci := 0) (v := .ref (a 12)) (C := RX0) (T := TX0) (N := 21) G.1.1 G.1.2.1 G.1.2.2.2.2 in_X0 G.1.2.2.2.1 K.1 hH.1 0 rfl rfl 12 (by decide) (G.1.2.2.2.2 _ q43) (fun _ h9 => h9) rfl d2 kk)
theorem xg_isPlaced (G : CX E RX0 cc nL) (K : KX E (xt d)) (hH : XH E a d σ H locs) (h0 : ls[0]? = some (.val (.ref (a 0)))) (d1 : decode cc pc = .ok (.aload_n 0, 1)) (d2 : decode cc (pc + 1) = .ok (.getfield 48, 3)) (kk : WE E H locs (pc + 4) ls (.ref (a 13) :: rest)) : WE E H locs pc ls rest := lv_aload_n G.1.1 G.1.2.1 d1 rfl h0 (va_get (D := E.D) (ci := 0) (v := .ref (a 13)) (C := RX0) (T := TX0) (N := 21) G.1.1 G.1.2.1 G.1.2.2.2.2 in_X0 G.1.2.2.2.1 K.1 hH.1 0 rfl rfl 13 (by decide) (G.1.2.2.2.2 _ q44) (fun _ h9 => h9) rfl d2 kk)
theorem xg_score (G : CX E RX0 cc nL) (K : KX E (xt d)) (hH : XH E a d σ H locs) (h0 : ls[0]? = some (.val (.ref (a 0)))) (d1 : decode cc pc = .ok (.aload_n 0, 1)) (d2 : decode cc (pc + 1) = .ok (.getfield 51, 3)) (kk : WE E H locs (pc + 4) ls (.ref (a 14) :: rest)) : WE E H locs pc ls rest := lv_aload_n G.1.1 G.1.2.1 d1 rfl h0 (va_get (D := E.D) (ci := 0) (v := .ref (a 14)) (C := RX0) (T := TX0) (N := 21) G.1.1 G.1.2.1 G.1.2.2.2.2 in_X0 G.1.2.2.2.1 K.1 hH.1 0 rfl rfl 14 (by decide) (G.1.2.2.2.2 _ q45) (fun _ h9 => h9) rfl d2 kk)
theorem xg_byChains (G : CX E RX0 cc nL) (K : KX E (xt d)) (hH : XH E a d σ H locs) (h0 : ls[0]? = some (.val (.ref (a 0)))) (d1 : decode cc pc = .ok (.aload_n 0, 1)) (d2 : decode cc (pc + 1) = .ok (.getfield 54, 3)) (kk : WE E H locs (pc + 4) ls (.ref (a 15) :: rest)) : WE E H locs pc ls rest := lv_aload_n G.1.1 G.1.2.1 d1 rfl h0 (va_get (D := E.D) (ci := 0) (v := .ref (a 15)) (C := RX0) (T := TX0) (N := 21) G.1.1 G.1.2.1 G.1.2.2.2.2 in_X0 G.1.2.2.2.1 K.1 hH.1 0 rfl rfl 15 (by decide) (G.1.2.2.2.2 _ q46) (fun _ h9 => h9) rfl d2 kk)
theorem xg_byNumber (G : CX E RX0 cc nL) (K : KX E (xt d)) (hH : XH E a d σ H locs) (h0 : ls[0]? = some (.val (.ref (a 0)))) (d1 : decode cc pc = .ok (.aload_n 0, 1)) (d2 : decode cc (pc + 1) = .ok (.getfield 57, 3)) (kk : WE E H locs (pc + 4) ls (.ref (a 16) :: rest)) : WE E H locs pc ls rest := lv_aload_n G.1.1 G.1.2.1 d1 rfl h0 (va_get (D := E.D) (ci := 0) (v := .ref (a 16)) (C := RX0) (T := TX0) (N := 21) G.1.1 G.1.2.1 G.1.2.2.2.2 in_X0 G.1.2.2.2.1 K.1 hH.1 0 rfl rfl 16 (by decide) (G.1.2.2.2.2 _ q47) (fun _ h9 => h9) rfl d2 kk)
theorem xg_rowOfBlocks (G : CX E RX0 cc nL) (K : KX E (xt d)) (hH : XH E a d σ H locs) (h0 : ls[0]? = some (.val (.ref (a 0)))) (d1 : decode cc pc = .ok (.aload_n 0, 1)) (d2 : decode cc (pc + 1) = .ok (.getfield 60, 3)) (kk : WE E H locs (pc + 4) ls (.ref (a 17) :: rest)) : WE E H locs pc ls rest := lv_aload_n G.1.1 G.1.2.1 d1 rfl h0 (va_get (D := E.D) (ci := 0) (v := .ref (a 17)) (C := RX0) (T := TX0) (N := 21) G.1.1 G.1.2.1 G.1.2.2.2.2 in_X0 G.1.2.2.2.1 K.1 hH.1 0 rfl rfl 17 (by decide) (G.1.2.2.2.2 _ q48) (fun _ h9 => h9) rfl d2 kk)
theorem xg_place (G : CX E RX0 cc nL) (K : KX E (xt d)) (hH : XH E a d σ H locs) (h0 : ls[0]? = some (.val (.ref (a 0)))) (d1 : decode cc pc = .ok (.aload_n 0, 1)) (d2 : decode cc (pc + 1) = .ok (.getfield 63, 3)) (kk : WE E H locs (pc + 4) ls (.ref (a 18) :: rest)) : WE E H locs pc ls rest := lv_aload_n G.1.1 G.1.2.1 d1 rfl h0 (va_get (D := E.D) (ci := 0) (v := .ref (a 18)) (C := RX0) (T := TX0) (N := 21) G.1.1 G.1.2.1 G.1.2.2.2.2 in_X0 G.1.2.2.2.1 K.1 hH.1 0 rfl rfl 18 (by decide) (G.1.2.2.2.2 _ q49) (fun _ h9 => h9) rfl d2 kk)
theorem xg_hot (G : CX E RX0 cc nL) (K : KX E (xt d)) (hH : XH E a d σ H locs) (h0 : ls[0]? = some (.val (.ref (a 0)))) (d1 : decode cc pc = .ok (.aload_n 0, 1)) (d2 : decode cc (pc + 1) = .ok (.getfield 114, 3)) (kk : WE E H locs (pc + 4) ls (.int (σ.1 19) :: rest)) : WE E H locs pc ls rest := lv_aload_n G.1.1 G.1.2.1 d1 rfl h0 (va_get (D := E.D) (ci := 0) (v := .int (σ.1 19)) (C := RX0) (T := TX0) (N := 21) G.1.1 G.1.2.1 G.1.2.2.2.2 in_X0 G.1.2.2.2.1 K.1 hH.1 0 rfl rfl 19 (by decide) (G.1.2.2.2.2 _ q50) (fun _ h9 => h9) rfl d2 kk)
theorem xgf_hot (G : CX E RX0 cc nL) (K : KX E (xt d)) (hH : XH E a d σ H locs) (d2 : decode cc pc = .ok (.getfield 114, 3)) (kk : WE E H locs (pc + 3) ls (.int (σ.1 19) :: rest)) : WE E H locs pc ls (.ref (a 0) :: rest) := va_get (D := E.D) (ci := 0) (v := .int (σ.1 19)) (C := RX0) (T := TX0) (N := 21) G.1.1 G.1.2.1 G.1.2.2.2.2 in_X0 G.1.2.2.2.1 K.1 hH.1 0 rfl rfl 19 (by decide) (G.1.2.2.2.2 _ q50) (fun _ h9 => h9) rfl d2 kk
theorem xp_hot (G : CX E RX0 cc nL) (K : KX E (xt d)) (hH : XH E a d σ H locs) {z : Int32} (dg : decode cc pc = .ok (.putfield 114, 3)) (kk : ∀ (H : Heap) (locs : List Loc), XH E a d (sF σ 19 z) H locs → WE E H locs (pc + 3) ls rest) : WE E H locs pc ls (.int z :: .ref (a 0) :: rest) := va_put (D := E.D) (ci := 0) (v := .int z) (ty := .int) (C := RX0) (T := TX0) (N := 21) G.1.1 G.1.2.1 G.1.2.2.2.2 in_X0 tyX0 tyX0_ok nmX0 G.1.2.2.2.1 K.1 hH.1 hH.2.1 hH.2.2 0 rfl rfl 19 (by decide) (G.1.2.2.2.2 _ q50) (fun _ h9 => h9) rfl (by decide +kernel) rfl rfl (Nat.le_of_ble_eq_true rfl) dg (fun H1 locs1 hP hD hS => kk H1 locs1 ⟨hP, hD, hS⟩)
theorem xg_weights (G : CX E RX0 cc nL) (K : KX E (xt d)) (hH : XH E a d σ H locs) (h0 : ls[0]? = some (.val (.ref (a 0)))) (d1 : decode cc pc = .ok (.aload_n 0, 1)) (d2 : decode cc (pc + 1) = .ok (.getfield 66, 3)) (kk : WE E H locs (pc + 4) ls (.ref (a 20) :: rest)) : WE E H locs pc ls rest := lv_aload_n G.1.1 G.1.2.1 d1 rfl h0 (va_get (D := E.D) (ci := 0) (v := .ref (a 20)) (C := RX0) (T := TX0) (N := 21) G.1.1 G.1.2.1 G.1.2.2.2.2 in_X0 G.1.2.2.2.1 K.1 hH.1 0 rfl rfl 20 (by decide) (G.1.2.2.2.2 _ q51) (fun _ h9 => h9) rfl d2 kk)
theorem xl_isHot (G : CX E RX0 cc nL) (K : KX E (xt d)) (hH : XH E a d σ H locs) {j : Nat} (hj : j < 200) (dg : decode cc pc = .ok (.baload, 1)) (kk : WE E H locs (pc + 1) ls (.int (σ.2.1 1 j) :: rest)) : WE E H locs pc ls (.int (nI j) :: .ref (a 1) :: rest) := by
  refine va_zald G.1.1 G.1.2.1 K.1 hH.1 1 0 rfl rfl (vp_in_nI hj (by decide)) dg ?_
  rw [nI_clamp (by omega)]
  exact kk
theorem xs_isHot (G : CX E RX0 cc nL) (K : KX E (xt d)) (hH : XH E a d σ H locs) {j : Nat} {z : Int32} (hj : j < 200) (hz : vp_nar .boolean z = z) (dg : decode cc pc = .ok (.bastore, 1)) (kk : ∀ (H : Heap) (locs : List Loc), XH E a d (sI σ 1 (upd (σ.2.1 1) j z)) H locs → WE E H locs (pc + 1) ls rest) : WE E H locs pc ls (.int z :: .int (nI j) :: .ref (a 1) :: rest) := by
  refine va_zast G.1.1 G.1.2.1 K.1 hH.1 hH.2.1 hH.2.2 1 0 rfl rfl (vp_in_nI hj (by decide)) dg (fun H1 locs1 hP hD hS => ?_)
  rw [nI_clamp (by omega), hz] at hP hD
  exact kk H1 locs1 ⟨hP, hD, hS⟩
theorem xl_from (G : CX E RX0 cc nL) (K : KX E (xt d)) (hH : XH E a d σ H locs) {j : Nat} (hj : j < 1000) (dg : decode cc pc = .ok (.iaload, 1)) (kk : WE E H locs (pc + 1) ls (.int (σ.2.1 2 j) :: rest)) : WE E H locs pc ls (.int (nI j) :: .ref (a 2) :: rest) := by
  refine va_iald G.1.1 G.1.2.1 K.1 hH.1 2 1 rfl rfl (vp_in_nI hj (by decide)) dg ?_
  rw [nI_clamp (by omega)]
  exact kk
theorem xs_from (G : CX E RX0 cc nL) (K : KX E (xt d)) (hH : XH E a d σ H locs) {j : Nat} {z : Int32} (hj : j < 1000) (dg : decode cc pc = .ok (.iastore, 1)) (kk : ∀ (H : Heap) (locs : List Loc), XH E a d (sI σ 2 (upd (σ.2.1 2) j z)) H locs → WE E H locs (pc + 1) ls rest) : WE E H locs pc ls (.int z :: .int (nI j) :: .ref (a 2) :: rest) := by
  refine va_iast G.1.1 G.1.2.1 K.1 hH.1 hH.2.1 hH.2.2 2 1 rfl rfl (vp_in_nI hj (by decide)) dg (fun H1 locs1 hP hD hS => ?_)
  rw [nI_clamp (by omega)] at hP hD
  exact kk H1 locs1 ⟨hP, hD, hS⟩
theorem xl_to (G : CX E RX0 cc nL) (K : KX E (xt d)) (hH : XH E a d σ H locs) {j : Nat} (hj : j < 1000) (dg : decode cc pc = .ok (.iaload, 1)) (kk : WE E H locs (pc + 1) ls (.int (σ.2.1 3 j) :: rest)) : WE E H locs pc ls (.int (nI j) :: .ref (a 3) :: rest) := by
  refine va_iald G.1.1 G.1.2.1 K.1 hH.1 3 2 rfl rfl (vp_in_nI hj (by decide)) dg ?_
  rw [nI_clamp (by omega)]
  exact kk
theorem xs_to (G : CX E RX0 cc nL) (K : KX E (xt d)) (hH : XH E a d σ H locs) {j : Nat} {z : Int32} (hj : j < 1000) (dg : decode cc pc = .ok (.iastore, 1)) (kk : ∀ (H : Heap) (locs : List Loc), XH E a d (sI σ 3 (upd (σ.2.1 3) j z)) H locs → WE E H locs (pc + 1) ls rest) : WE E H locs pc ls (.int z :: .int (nI j) :: .ref (a 3) :: rest) := by
  refine va_iast G.1.1 G.1.2.1 K.1 hH.1 hH.2.1 hH.2.2 3 2 rfl rfl (vp_in_nI hj (by decide)) dg (fun H1 locs1 hP hD hS => ?_)
  rw [nI_clamp (by omega)] at hP hD
  exact kk H1 locs1 ⟨hP, hD, hS⟩
theorem xl_counts (G : CX E RX0 cc nL) (K : KX E (xt d)) (hH : XH E a d σ H locs) {j : Nat} (hj : j < 1000) (dg : decode cc pc = .ok (.laload, 1)) (kk : WE E H locs (pc + 1) ls (.long (σ.2.2 4 j) :: rest)) : WE E H locs pc ls (.int (nI j) :: .ref (a 4) :: rest) := by
  refine va_lald G.1.1 G.1.2.1 K.1 hH.1 4 3 rfl rfl (vp_in_nI hj (by decide)) dg ?_
  rw [nI_clamp (by omega)]
  exact kk
theorem xs_counts (G : CX E RX0 cc nL) (K : KX E (xt d)) (hH : XH E a d σ H locs) {j : Nat} {z : Int64} (hj : j < 1000) (dg : decode cc pc = .ok (.lastore, 1)) (kk : ∀ (H : Heap) (locs : List Loc), XH E a d (sL σ 4 (vp_updL (σ.2.2 4) j z)) H locs → WE E H locs (pc + 1) ls rest) : WE E H locs pc ls (.long z :: .int (nI j) :: .ref (a 4) :: rest) := by
  refine va_last G.1.1 G.1.2.1 K.1 hH.1 hH.2.1 hH.2.2 4 3 rfl rfl (vp_in_nI hj (by decide)) dg (fun H1 locs1 hP hD hS => ?_)
  rw [nI_clamp (by omega)] at hP hD
  exact kk H1 locs1 ⟨hP, hD, hS⟩
theorem xl_falls (G : CX E RX0 cc nL) (K : KX E (xt d)) (hH : XH E a d σ H locs) {j : Nat} (hj : j < 1000) (dg : decode cc pc = .ok (.baload, 1)) (kk : WE E H locs (pc + 1) ls (.int (σ.2.1 5 j) :: rest)) : WE E H locs pc ls (.int (nI j) :: .ref (a 5) :: rest) := by
  refine va_zald G.1.1 G.1.2.1 K.1 hH.1 5 4 rfl rfl (vp_in_nI hj (by decide)) dg ?_
  rw [nI_clamp (by omega)]
  exact kk
theorem xs_falls (G : CX E RX0 cc nL) (K : KX E (xt d)) (hH : XH E a d σ H locs) {j : Nat} {z : Int32} (hj : j < 1000) (hz : vp_nar .boolean z = z) (dg : decode cc pc = .ok (.bastore, 1)) (kk : ∀ (H : Heap) (locs : List Loc), XH E a d (sI σ 5 (upd (σ.2.1 5) j z)) H locs → WE E H locs (pc + 1) ls rest) : WE E H locs pc ls (.int z :: .int (nI j) :: .ref (a 5) :: rest) := by
  refine va_zast G.1.1 G.1.2.1 K.1 hH.1 hH.2.1 hH.2.2 5 4 rfl rfl (vp_in_nI hj (by decide)) dg (fun H1 locs1 hP hD hS => ?_)
  rw [nI_clamp (by omega), hz] at hP hD
  exact kk H1 locs1 ⟨hP, hD, hS⟩
theorem xl_wayOf (G : CX E RX0 cc nL) (K : KX E (xt d)) (hH : XH E a d σ H locs) {j : Nat} (hj : j < 40000) (dg : decode cc pc = .ok (.saload, 1)) (kk : WE E H locs (pc + 1) ls (.int (σ.2.1 6 j) :: rest)) : WE E H locs pc ls (.int (nI j) :: .ref (a 6) :: rest) := by
  refine va_sald G.1.1 G.1.2.1 K.1 hH.1 6 5 rfl rfl (vp_in_nI hj (by decide)) dg ?_
  rw [nI_clamp (by omega)]
  exact kk
theorem xs_wayOf (G : CX E RX0 cc nL) (K : KX E (xt d)) (hH : XH E a d σ H locs) {j : Nat} {z : Int32} (hj : j < 40000) (hz : vp_nar .short z = z) (dg : decode cc pc = .ok (.sastore, 1)) (kk : ∀ (H : Heap) (locs : List Loc), XH E a d (sI σ 6 (upd (σ.2.1 6) j z)) H locs → WE E H locs (pc + 1) ls rest) : WE E H locs pc ls (.int z :: .int (nI j) :: .ref (a 6) :: rest) := by
  refine va_sast G.1.1 G.1.2.1 K.1 hH.1 hH.2.1 hH.2.2 6 5 rfl rfl (vp_in_nI hj (by decide)) dg (fun H1 locs1 hP hD hS => ?_)
  rw [nI_clamp (by omega), hz] at hP hD
  exact kk H1 locs1 ⟨hP, hD, hS⟩
theorem xl_sorted (G : CX E RX0 cc nL) (K : KX E (xt d)) (hH : XH E a d σ H locs) {j : Nat} (hj : j < 1000) (dg : decode cc pc = .ok (.iaload, 1)) (kk : WE E H locs (pc + 1) ls (.int (σ.2.1 9 j) :: rest)) : WE E H locs pc ls (.int (nI j) :: .ref (a 9) :: rest) := by
  refine va_iald G.1.1 G.1.2.1 K.1 hH.1 7 6 rfl rfl (vp_in_nI hj (by decide)) dg ?_
  rw [nI_clamp (by omega)]
  exact kk
theorem xs_sorted (G : CX E RX0 cc nL) (K : KX E (xt d)) (hH : XH E a d σ H locs) {j : Nat} {z : Int32} (hj : j < 1000) (dg : decode cc pc = .ok (.iastore, 1)) (kk : ∀ (H : Heap) (locs : List Loc), XH E a d (sI σ 9 (upd (σ.2.1 9) j z)) H locs → WE E H locs (pc + 1) ls rest) : WE E H locs pc ls (.int z :: .int (nI j) :: .ref (a 9) :: rest) := by
  refine va_iast G.1.1 G.1.2.1 K.1 hH.1 hH.2.1 hH.2.2 7 6 rfl rfl (vp_in_nI hj (by decide)) dg (fun H1 locs1 hP hD hS => ?_)
  rw [nI_clamp (by omega)] at hP hD
  exact kk H1 locs1 ⟨hP, hD, hS⟩
theorem xl_next (G : CX E RX0 cc nL) (K : KX E (xt d)) (hH : XH E a d σ H locs) {j : Nat} (hj : j < 200) (dg : decode cc pc = .ok (.iaload, 1)) (kk : WE E H locs (pc + 1) ls (.int (σ.2.1 10 j) :: rest)) : WE E H locs pc ls (.int (nI j) :: .ref (a 10) :: rest) := by
  refine va_iald G.1.1 G.1.2.1 K.1 hH.1 8 7 rfl rfl (vp_in_nI hj (by decide)) dg ?_
  rw [nI_clamp (by omega)]
  exact kk
theorem xs_next (G : CX E RX0 cc nL) (K : KX E (xt d)) (hH : XH E a d σ H locs) {j : Nat} {z : Int32} (hj : j < 200) (dg : decode cc pc = .ok (.iastore, 1)) (kk : ∀ (H : Heap) (locs : List Loc), XH E a d (sI σ 10 (upd (σ.2.1 10) j z)) H locs → WE E H locs (pc + 1) ls rest) : WE E H locs pc ls (.int z :: .int (nI j) :: .ref (a 10) :: rest) := by
  refine va_iast G.1.1 G.1.2.1 K.1 hH.1 hH.2.1 hH.2.2 8 7 rfl rfl (vp_in_nI hj (by decide)) dg (fun H1 locs1 hP hD hS => ?_)
  rw [nI_clamp (by omega)] at hP hD
  exact kk H1 locs1 ⟨hP, hD, hS⟩
theorem xl_before (G : CX E RX0 cc nL) (K : KX E (xt d)) (hH : XH E a d σ H locs) {j : Nat} (hj : j < 200) (dg : decode cc pc = .ok (.iaload, 1)) (kk : WE E H locs (pc + 1) ls (.int (σ.2.1 11 j) :: rest)) : WE E H locs pc ls (.int (nI j) :: .ref (a 11) :: rest) := by
  refine va_iald G.1.1 G.1.2.1 K.1 hH.1 9 8 rfl rfl (vp_in_nI hj (by decide)) dg ?_
  rw [nI_clamp (by omega)]
  exact kk
theorem xs_before (G : CX E RX0 cc nL) (K : KX E (xt d)) (hH : XH E a d σ H locs) {j : Nat} {z : Int32} (hj : j < 200) (dg : decode cc pc = .ok (.iastore, 1)) (kk : ∀ (H : Heap) (locs : List Loc), XH E a d (sI σ 11 (upd (σ.2.1 11) j z)) H locs → WE E H locs (pc + 1) ls rest) : WE E H locs pc ls (.int z :: .int (nI j) :: .ref (a 11) :: rest) := by
  refine va_iast G.1.1 G.1.2.1 K.1 hH.1 hH.2.1 hH.2.2 9 8 rfl rfl (vp_in_nI hj (by decide)) dg (fun H1 locs1 hP hD hS => ?_)
  rw [nI_clamp (by omega)] at hP hD
  exact kk H1 locs1 ⟨hP, hD, hS⟩
theorem xl_head (G : CX E RX0 cc nL) (K : KX E (xt d)) (hH : XH E a d σ H locs) {j : Nat} (hj : j < 200) (dg : decode cc pc = .ok (.iaload, 1)) (kk : WE E H locs (pc + 1) ls (.int (σ.2.1 12 j) :: rest)) : WE E H locs pc ls (.int (nI j) :: .ref (a 12) :: rest) := by
  refine va_iald G.1.1 G.1.2.1 K.1 hH.1 10 9 rfl rfl (vp_in_nI hj (by decide)) dg ?_
  rw [nI_clamp (by omega)]
  exact kk
theorem xs_head (G : CX E RX0 cc nL) (K : KX E (xt d)) (hH : XH E a d σ H locs) {j : Nat} {z : Int32} (hj : j < 200) (dg : decode cc pc = .ok (.iastore, 1)) (kk : ∀ (H : Heap) (locs : List Loc), XH E a d (sI σ 12 (upd (σ.2.1 12) j z)) H locs → WE E H locs (pc + 1) ls rest) : WE E H locs pc ls (.int z :: .int (nI j) :: .ref (a 12) :: rest) := by
  refine va_iast G.1.1 G.1.2.1 K.1 hH.1 hH.2.1 hH.2.2 10 9 rfl rfl (vp_in_nI hj (by decide)) dg (fun H1 locs1 hP hD hS => ?_)
  rw [nI_clamp (by omega)] at hP hD
  exact kk H1 locs1 ⟨hP, hD, hS⟩
theorem xl_isPlaced (G : CX E RX0 cc nL) (K : KX E (xt d)) (hH : XH E a d σ H locs) {j : Nat} (hj : j < 200) (dg : decode cc pc = .ok (.baload, 1)) (kk : WE E H locs (pc + 1) ls (.int (σ.2.1 13 j) :: rest)) : WE E H locs pc ls (.int (nI j) :: .ref (a 13) :: rest) := by
  refine va_zald G.1.1 G.1.2.1 K.1 hH.1 11 10 rfl rfl (vp_in_nI hj (by decide)) dg ?_
  rw [nI_clamp (by omega)]
  exact kk
theorem xs_isPlaced (G : CX E RX0 cc nL) (K : KX E (xt d)) (hH : XH E a d σ H locs) {j : Nat} {z : Int32} (hj : j < 200) (hz : vp_nar .boolean z = z) (dg : decode cc pc = .ok (.bastore, 1)) (kk : ∀ (H : Heap) (locs : List Loc), XH E a d (sI σ 13 (upd (σ.2.1 13) j z)) H locs → WE E H locs (pc + 1) ls rest) : WE E H locs pc ls (.int z :: .int (nI j) :: .ref (a 13) :: rest) := by
  refine va_zast G.1.1 G.1.2.1 K.1 hH.1 hH.2.1 hH.2.2 11 10 rfl rfl (vp_in_nI hj (by decide)) dg (fun H1 locs1 hP hD hS => ?_)
  rw [nI_clamp (by omega), hz] at hP hD
  exact kk H1 locs1 ⟨hP, hD, hS⟩
theorem xl_score (G : CX E RX0 cc nL) (K : KX E (xt d)) (hH : XH E a d σ H locs) {j : Nat} (hj : j < 200) (dg : decode cc pc = .ok (.laload, 1)) (kk : WE E H locs (pc + 1) ls (.long (σ.2.2 14 j) :: rest)) : WE E H locs pc ls (.int (nI j) :: .ref (a 14) :: rest) := by
  refine va_lald G.1.1 G.1.2.1 K.1 hH.1 12 11 rfl rfl (vp_in_nI hj (by decide)) dg ?_
  rw [nI_clamp (by omega)]
  exact kk
theorem xs_score (G : CX E RX0 cc nL) (K : KX E (xt d)) (hH : XH E a d σ H locs) {j : Nat} {z : Int64} (hj : j < 200) (dg : decode cc pc = .ok (.lastore, 1)) (kk : ∀ (H : Heap) (locs : List Loc), XH E a d (sL σ 14 (vp_updL (σ.2.2 14) j z)) H locs → WE E H locs (pc + 1) ls rest) : WE E H locs pc ls (.long z :: .int (nI j) :: .ref (a 14) :: rest) := by
  refine va_last G.1.1 G.1.2.1 K.1 hH.1 hH.2.1 hH.2.2 12 11 rfl rfl (vp_in_nI hj (by decide)) dg (fun H1 locs1 hP hD hS => ?_)
  rw [nI_clamp (by omega)] at hP hD
  exact kk H1 locs1 ⟨hP, hD, hS⟩
theorem xl_byChains (G : CX E RX0 cc nL) (K : KX E (xt d)) (hH : XH E a d σ H locs) {j : Nat} (hj : j < 200) (dg : decode cc pc = .ok (.iaload, 1)) (kk : WE E H locs (pc + 1) ls (.int (σ.2.1 15 j) :: rest)) : WE E H locs pc ls (.int (nI j) :: .ref (a 15) :: rest) := by
  refine va_iald G.1.1 G.1.2.1 K.1 hH.1 13 12 rfl rfl (vp_in_nI hj (by decide)) dg ?_
  rw [nI_clamp (by omega)]
  exact kk
theorem xs_byChains (G : CX E RX0 cc nL) (K : KX E (xt d)) (hH : XH E a d σ H locs) {j : Nat} {z : Int32} (hj : j < 200) (dg : decode cc pc = .ok (.iastore, 1)) (kk : ∀ (H : Heap) (locs : List Loc), XH E a d (sI σ 15 (upd (σ.2.1 15) j z)) H locs → WE E H locs (pc + 1) ls rest) : WE E H locs pc ls (.int z :: .int (nI j) :: .ref (a 15) :: rest) := by
  refine va_iast G.1.1 G.1.2.1 K.1 hH.1 hH.2.1 hH.2.2 13 12 rfl rfl (vp_in_nI hj (by decide)) dg (fun H1 locs1 hP hD hS => ?_)
  rw [nI_clamp (by omega)] at hP hD
  exact kk H1 locs1 ⟨hP, hD, hS⟩
theorem xl_byNumber (G : CX E RX0 cc nL) (K : KX E (xt d)) (hH : XH E a d σ H locs) {j : Nat} (hj : j < 200) (dg : decode cc pc = .ok (.iaload, 1)) (kk : WE E H locs (pc + 1) ls (.int (σ.2.1 16 j) :: rest)) : WE E H locs pc ls (.int (nI j) :: .ref (a 16) :: rest) := by
  refine va_iald G.1.1 G.1.2.1 K.1 hH.1 14 13 rfl rfl (vp_in_nI hj (by decide)) dg ?_
  rw [nI_clamp (by omega)]
  exact kk
theorem xs_byNumber (G : CX E RX0 cc nL) (K : KX E (xt d)) (hH : XH E a d σ H locs) {j : Nat} {z : Int32} (hj : j < 200) (dg : decode cc pc = .ok (.iastore, 1)) (kk : ∀ (H : Heap) (locs : List Loc), XH E a d (sI σ 16 (upd (σ.2.1 16) j z)) H locs → WE E H locs (pc + 1) ls rest) : WE E H locs pc ls (.int z :: .int (nI j) :: .ref (a 16) :: rest) := by
  refine va_iast G.1.1 G.1.2.1 K.1 hH.1 hH.2.1 hH.2.2 14 13 rfl rfl (vp_in_nI hj (by decide)) dg (fun H1 locs1 hP hD hS => ?_)
  rw [nI_clamp (by omega)] at hP hD
  exact kk H1 locs1 ⟨hP, hD, hS⟩
theorem xl_rowOfBlocks (G : CX E RX0 cc nL) (K : KX E (xt d)) (hH : XH E a d σ H locs) {j : Nat} (hj : j < 200) (dg : decode cc pc = .ok (.iaload, 1)) (kk : WE E H locs (pc + 1) ls (.int (σ.2.1 17 j) :: rest)) : WE E H locs pc ls (.int (nI j) :: .ref (a 17) :: rest) := by
  refine va_iald G.1.1 G.1.2.1 K.1 hH.1 15 14 rfl rfl (vp_in_nI hj (by decide)) dg ?_
  rw [nI_clamp (by omega)]
  exact kk
theorem xs_rowOfBlocks (G : CX E RX0 cc nL) (K : KX E (xt d)) (hH : XH E a d σ H locs) {j : Nat} {z : Int32} (hj : j < 200) (dg : decode cc pc = .ok (.iastore, 1)) (kk : ∀ (H : Heap) (locs : List Loc), XH E a d (sI σ 17 (upd (σ.2.1 17) j z)) H locs → WE E H locs (pc + 1) ls rest) : WE E H locs pc ls (.int z :: .int (nI j) :: .ref (a 17) :: rest) := by
  refine va_iast G.1.1 G.1.2.1 K.1 hH.1 hH.2.1 hH.2.2 15 14 rfl rfl (vp_in_nI hj (by decide)) dg (fun H1 locs1 hP hD hS => ?_)
  rw [nI_clamp (by omega)] at hP hD
  exact kk H1 locs1 ⟨hP, hD, hS⟩
theorem xl_place (G : CX E RX0 cc nL) (K : KX E (xt d)) (hH : XH E a d σ H locs) {j : Nat} (hj : j < 200) (dg : decode cc pc = .ok (.iaload, 1)) (kk : WE E H locs (pc + 1) ls (.int (σ.2.1 18 j) :: rest)) : WE E H locs pc ls (.int (nI j) :: .ref (a 18) :: rest) := by
  refine va_iald G.1.1 G.1.2.1 K.1 hH.1 16 15 rfl rfl (vp_in_nI hj (by decide)) dg ?_
  rw [nI_clamp (by omega)]
  exact kk
theorem xs_place (G : CX E RX0 cc nL) (K : KX E (xt d)) (hH : XH E a d σ H locs) {j : Nat} {z : Int32} (hj : j < 200) (dg : decode cc pc = .ok (.iastore, 1)) (kk : ∀ (H : Heap) (locs : List Loc), XH E a d (sI σ 18 (upd (σ.2.1 18) j z)) H locs → WE E H locs (pc + 1) ls rest) : WE E H locs pc ls (.int z :: .int (nI j) :: .ref (a 18) :: rest) := by
  refine va_iast G.1.1 G.1.2.1 K.1 hH.1 hH.2.1 hH.2.2 16 15 rfl rfl (vp_in_nI hj (by decide)) dg (fun H1 locs1 hP hD hS => ?_)
  rw [nI_clamp (by omega)] at hP hD
  exact kk H1 locs1 ⟨hP, hD, hS⟩
theorem xl_weights (G : CX E RX0 cc nL) (K : KX E (xt d)) (hH : XH E a d σ H locs) {j : Nat} (hj : j < 4) (dg : decode cc pc = .ok (.laload, 1)) (kk : WE E H locs (pc + 1) ls (.long (σ.2.2 20 j) :: rest)) : WE E H locs pc ls (.int (nI j) :: .ref (a 20) :: rest) := by
  refine va_lald G.1.1 G.1.2.1 K.1 hH.1 17 16 rfl rfl (vp_in_nI hj (by decide)) dg ?_
  rw [nI_clamp (by omega)]
  exact kk
theorem xs_weights (G : CX E RX0 cc nL) (K : KX E (xt d)) (hH : XH E a d σ H locs) {j : Nat} {z : Int64} (hj : j < 4) (dg : decode cc pc = .ok (.lastore, 1)) (kk : ∀ (H : Heap) (locs : List Loc), XH E a d (sL σ 20 (vp_updL (σ.2.2 20) j z)) H locs → WE E H locs (pc + 1) ls rest) : WE E H locs pc ls (.long z :: .int (nI j) :: .ref (a 20) :: rest) := by
  refine va_last G.1.1 G.1.2.1 K.1 hH.1 hH.2.1 hH.2.2 17 16 rfl rfl (vp_in_nI hj (by decide)) dg (fun H1 locs1 hP hD hS => ?_)
  rw [nI_clamp (by omega)] at hP hD
  exact kk H1 locs1 ⟨hP, hD, hS⟩
theorem xlen_wayOf (G : CX E RX0 cc nL) (K : KX E (xt d)) (hH : XH E a d σ H locs) (dg : decode cc pc = .ok (.arraylength, 1)) (kk : WE E H locs (pc + 1) ls (.int (nI 40000) :: rest)) : WE E H locs pc ls (.ref (a 6) :: rest) := va_alen (v := nI 40000) G.1.1 G.1.2.1 K.1 hH.1 6 5 rfl rfl rfl dg kk
theorem xl_any (G : CX E RX0 cc nL) (K : KX E (xt d)) (hH : XH E a d σ H locs) {j rk q t : Nat} (hq : (xw a d σ)[q]? = some (a rk, .inl (d rk, 200, .inl (σ.2.1 rk)))) (ht : (xt d)[t]? = some (d rk, .int)) (hj : j < 200) (dg : decode cc pc = .ok (.iaload, 1)) (kk : WE E H locs (pc + 1) ls (.int (σ.2.1 rk j) :: rest)) : WE E H locs pc ls (.int (nI j) :: .ref (a rk) :: rest) := by
  refine va_iald G.1.1 G.1.2.1 K.1 hH.1 q t hq ht (vp_in_nI hj (by decide)) dg ?_
  rw [nI_clamp (by omega)]
  exact kk
end
end
section
set_option maxRecDepth 100000
def mw (a : Nat → Nat) (d : Nat → ClassId) (σ : St) : va_W := [(a 0, .inr (1, [.int (σ.1 0), .ref (a 1), .int (σ.1 2), .ref (a 3), .ref (a 4), .ref (a 5), .ref (a 6), .int (σ.1 7), .ref (a 8), .ref (a 9), .ref (a 10), .ref (a 11), .ref (a 12), .int (σ.1 13), .int (σ.1 14), .ref (a 15), .ref (a 16), .ref (a 17)])), (a 1, .inl (d 1, 200, .inl (σ.2.1 1))), (a 3, .inl (d 3, 1000, .inl (σ.2.1 3))), (a 4, .inl (d 4, 1000, .inl (σ.2.1 4))), (a 5, .inl (d 5, 1000, .inr (.inl (σ.2.2 5)))), (a 6, .inl (d 6, 1000, .inl (σ.2.1 6))), (a 8, .inl (d 8, 40000, .inl (σ.2.1 8))), (a 9, .inl (d 9, 200, .inl (σ.2.1 9))), (a 10, .inl (d 10, 200, .inl (σ.2.1 10))), (a 11, .inl (d 11, 200, .inl (σ.2.1 11))), (a 12, .inl (d 12, 200, .inl (σ.2.1 12))), (a 15, .inl (d 15, 1000, .inl (σ.2.1 15))), (a 16, .inl (d 16, 200, .inl (σ.2.1 16))), (a 17, .inl (d 17, 200, .inl (σ.2.1 17)))]
def mt (d : Nat → ClassId) : List (ClassId × FieldType) := [(d 1, .boolean), (d 3, .int), (d 4, .int), (d 5, .long), (d 6, .boolean), (d 8, .int), (d 9, .int), (d 10, .int), (d 11, .int), (d 12, .int), (d 15, .boolean), (d 16, .boolean), (d 17, .int)]
abbrev MH (E : Ev) (a : Nat → Nat) (d : Nat → ClassId) (σ : St) (H : Heap) (locs : List Loc) : Prop := HH E (mw a d σ) H locs
section
variable {E : Ev} {a : Nat → Nat} {d : Nat → ClassId} {σ : St} {cc : ByteArray} {nL : Nat} {H : Heap} {locs : List Loc} {pc : Nat} {ls : Array Slot} {rest : List Value}
theorem mg_blocks (G : CX E RX1 cc nL) (K : KX E (mt d)) (hH : MH E a d σ H locs) (h0 : ls[0]? = some (.val (.ref (a 0)))) (d1 : decode cc pc = .ok (.aload_n 0, 1)) (d2 : decode cc (pc + 1) = .ok (.getfield 7, 3)) (kk : WE E H locs (pc + 4) ls (.int (σ.1 0) :: rest)) : WE E H locs pc ls rest := lv_aload_n G.1.1 G.1.2.1 d1 rfl h0 (va_get (D := E.D) (ci := 1) (v := .int (σ.1 0)) (C := RX1) (T := TX1) (N := 18) G.1.1 G.1.2.1 G.1.2.2.2.2 in_X1 G.1.2.2.2.1 K.1 hH.1 0 rfl rfl 0 (by decide) (G.1.2.2.2.2 _ q186) (fun _ h9 => h9) rfl d2 kk)
theorem mgf_blocks (G : CX E RX1 cc nL) (K : KX E (mt d)) (hH : MH E a d σ H locs) (d2 : decode cc pc = .ok (.getfield 7, 3)) (kk : WE E H locs (pc + 3) ls (.int (σ.1 0) :: rest)) : WE E H locs pc ls (.ref (a 0) :: rest) := va_get (D := E.D) (ci := 1) (v := .int (σ.1 0)) (C := RX1) (T := TX1) (N := 18) G.1.1 G.1.2.1 G.1.2.2.2.2 in_X1 G.1.2.2.2.1 K.1 hH.1 0 rfl rfl 0 (by decide) (G.1.2.2.2.2 _ q186) (fun _ h9 => h9) rfl d2 kk
theorem mp_blocks (G : CX E RX1 cc nL) (K : KX E (mt d)) (hH : MH E a d σ H locs) {z : Int32} (dg : decode cc pc = .ok (.putfield 7, 3)) (kk : ∀ (H : Heap) (locs : List Loc), MH E a d (sF σ 0 z) H locs → WE E H locs (pc + 3) ls rest) : WE E H locs pc ls (.int z :: .ref (a 0) :: rest) := va_put (D := E.D) (ci := 1) (v := .int z) (ty := .int) (C := RX1) (T := TX1) (N := 18) G.1.1 G.1.2.1 G.1.2.2.2.2 in_X1 tyX1 tyX1_ok nmX1 G.1.2.2.2.1 K.1 hH.1 hH.2.1 hH.2.2 0 rfl rfl 0 (by decide) (G.1.2.2.2.2 _ q186) (fun _ h9 => h9) rfl (by decide +kernel) rfl rfl (Nat.le_of_ble_eq_true rfl) dg (fun H1 locs1 hP hD hS => kk H1 locs1 ⟨hP, hD, hS⟩)
theorem mg_hot (G : CX E RX1 cc nL) (K : KX E (mt d)) (hH : MH E a d σ H locs) (h0 : ls[0]? = some (.val (.ref (a 0)))) (d1 : decode cc pc = .ok (.aload_n 0, 1)) (d2 : decode cc (pc + 1) = .ok (.getfield 13, 3)) (kk : WE E H locs (pc + 4) ls (.ref (a 1) :: rest)) : WE E H locs pc ls rest := lv_aload_n G.1.1 G.1.2.1 d1 rfl h0 (va_get (D := E.D) (ci := 1) (v := .ref (a 1)) (C := RX1) (T := TX1) (N := 18) G.1.1 G.1.2.1 G.1.2.2.2.2 in_X1 G.1.2.2.2.1 K.1 hH.1 0 rfl rfl 1 (by decide) (G.1.2.2.2.2 _ q187) (fun _ h9 => h9) rfl d2 kk)
theorem mg_ways (G : CX E RX1 cc nL) (K : KX E (mt d)) (hH : MH E a d σ H locs) (h0 : ls[0]? = some (.val (.ref (a 0)))) (d1 : decode cc pc = .ok (.aload_n 0, 1)) (d2 : decode cc (pc + 1) = .ok (.getfield 56, 3)) (kk : WE E H locs (pc + 4) ls (.int (σ.1 2) :: rest)) : WE E H locs pc ls rest := lv_aload_n G.1.1 G.1.2.1 d1 rfl h0 (va_get (D := E.D) (ci := 1) (v := .int (σ.1 2)) (C := RX1) (T := TX1) (N := 18) G.1.1 G.1.2.1 G.1.2.2.2.2 in_X1 G.1.2.2.2.1 K.1 hH.1 0 rfl rfl 2 (by decide) (G.1.2.2.2.2 _ q188) (fun _ h9 => h9) rfl d2 kk)
theorem mgf_ways (G : CX E RX1 cc nL) (K : KX E (mt d)) (hH : MH E a d σ H locs) (d2 : decode cc pc = .ok (.getfield 56, 3)) (kk : WE E H locs (pc + 3) ls (.int (σ.1 2) :: rest)) : WE E H locs pc ls (.ref (a 0) :: rest) := va_get (D := E.D) (ci := 1) (v := .int (σ.1 2)) (C := RX1) (T := TX1) (N := 18) G.1.1 G.1.2.1 G.1.2.2.2.2 in_X1 G.1.2.2.2.1 K.1 hH.1 0 rfl rfl 2 (by decide) (G.1.2.2.2.2 _ q188) (fun _ h9 => h9) rfl d2 kk
theorem mp_ways (G : CX E RX1 cc nL) (K : KX E (mt d)) (hH : MH E a d σ H locs) {z : Int32} (dg : decode cc pc = .ok (.putfield 56, 3)) (kk : ∀ (H : Heap) (locs : List Loc), MH E a d (sF σ 2 z) H locs → WE E H locs (pc + 3) ls rest) : WE E H locs pc ls (.int z :: .ref (a 0) :: rest) := va_put (D := E.D) (ci := 1) (v := .int z) (ty := .int) (C := RX1) (T := TX1) (N := 18) G.1.1 G.1.2.1 G.1.2.2.2.2 in_X1 tyX1 tyX1_ok nmX1 G.1.2.2.2.1 K.1 hH.1 hH.2.1 hH.2.2 0 rfl rfl 2 (by decide) (G.1.2.2.2.2 _ q188) (fun _ h9 => h9) rfl (by decide +kernel) rfl rfl (Nat.le_of_ble_eq_true rfl) dg (fun H1 locs1 hP hD hS => kk H1 locs1 ⟨hP, hD, hS⟩)
theorem mg_from (G : CX E RX1 cc nL) (K : KX E (mt d)) (hH : MH E a d σ H locs) (h0 : ls[0]? = some (.val (.ref (a 0)))) (d1 : decode cc pc = .ok (.aload_n 0, 1)) (d2 : decode cc (pc + 1) = .ok (.getfield 17, 3)) (kk : WE E H locs (pc + 4) ls (.ref (a 3) :: rest)) : WE E H locs pc ls rest := lv_aload_n G.1.1 G.1.2.1 d1 rfl h0 (va_get (D := E.D) (ci := 1) (v := .ref (a 3)) (C := RX1) (T := TX1) (N := 18) G.1.1 G.1.2.1 G.1.2.2.2.2 in_X1 G.1.2.2.2.1 K.1 hH.1 0 rfl rfl 3 (by decide) (G.1.2.2.2.2 _ q189) (fun _ h9 => h9) rfl d2 kk)
theorem mg_to (G : CX E RX1 cc nL) (K : KX E (mt d)) (hH : MH E a d σ H locs) (h0 : ls[0]? = some (.val (.ref (a 0)))) (d1 : decode cc pc = .ok (.aload_n 0, 1)) (d2 : decode cc (pc + 1) = .ok (.getfield 21, 3)) (kk : WE E H locs (pc + 4) ls (.ref (a 4) :: rest)) : WE E H locs pc ls rest := lv_aload_n G.1.1 G.1.2.1 d1 rfl h0 (va_get (D := E.D) (ci := 1) (v := .ref (a 4)) (C := RX1) (T := TX1) (N := 18) G.1.1 G.1.2.1 G.1.2.2.2.2 in_X1 G.1.2.2.2.1 K.1 hH.1 0 rfl rfl 4 (by decide) (G.1.2.2.2.2 _ q190) (fun _ h9 => h9) rfl d2 kk)
theorem mg_counts (G : CX E RX1 cc nL) (K : KX E (mt d)) (hH : MH E a d σ H locs) (h0 : ls[0]? = some (.val (.ref (a 0)))) (d1 : decode cc pc = .ok (.aload_n 0, 1)) (d2 : decode cc (pc + 1) = .ok (.getfield 24, 3)) (kk : WE E H locs (pc + 4) ls (.ref (a 5) :: rest)) : WE E H locs pc ls rest := lv_aload_n G.1.1 G.1.2.1 d1 rfl h0 (va_get (D := E.D) (ci := 1) (v := .ref (a 5)) (C := RX1) (T := TX1) (N := 18) G.1.1 G.1.2.1 G.1.2.2.2.2 in_X1 G.1.2.2.2.1 K.1 hH.1 0 rfl rfl 5 (by decide) (G.1.2.2.2.2 _ q191) (fun _ h9 => h9) rfl d2 kk)
theorem mg_fall (G : CX E RX1 cc nL) (K : KX E (mt d)) (hH : MH E a d σ H locs) (h0 : ls[0]? = some (.val (.ref (a 0)))) (d1 : decode cc pc = .ok (.aload_n 0, 1)) (d2 : decode cc (pc + 1) = .ok (.getfield 28, 3)) (kk : WE E H locs (pc + 4) ls (.ref (a 6) :: rest)) : WE E H locs pc ls rest := lv_aload_n G.1.1 G.1.2.1 d1 rfl h0 (va_get (D := E.D) (ci := 1) (v := .ref (a 6)) (C := RX1) (T := TX1) (N := 18) G.1.1 G.1.2.1 G.1.2.2.2.2 in_X1 G.1.2.2.2.1 K.1 hH.1 0 rfl rfl 6 (by decide) (G.1.2.2.2.2 _ q192) (fun _ h9 => h9) rfl d2 kk)
theorem mg_isKnown (G : CX E RX1 cc nL) (K : KX E (mt d)) (hH : MH E a d σ H locs) (h0 : ls[0]? = some (.val (.ref (a 0)))) (d1 : decode cc pc = .ok (.aload_n 0, 1)) (d2 : decode cc (pc + 1) = .ok (.getfield 59, 3)) (kk : WE E H locs (pc + 4) ls (.int (σ.1 7) :: rest)) : WE E H locs pc ls rest := lv_aload_n G.1.1 G.1.2.1 d1 rfl h0 (va_get (D := E.D) (ci := 1) (v := .int (σ.1 7)) (C := RX1) (T := TX1) (N := 18) G.1.1 G.1.2.1 G.1.2.2.2.2 in_X1 G.1.2.2.2.1 K.1 hH.1 0 rfl rfl 7 (by decide) (G.1.2.2.2.2 _ q193) (fun _ h9 => h9) rfl d2 kk)
theorem mgf_isKnown (G : CX E RX1 cc nL) (K : KX E (mt d)) (hH : MH E a d σ H locs) (d2 : decode cc pc = .ok (.getfield 59, 3)) (kk : WE E H locs (pc + 3) ls (.int (σ.1 7) :: rest)) : WE E H locs pc ls (.ref (a 0) :: rest) := va_get (D := E.D) (ci := 1) (v := .int (σ.1 7)) (C := RX1) (T := TX1) (N := 18) G.1.1 G.1.2.1 G.1.2.2.2.2 in_X1 G.1.2.2.2.1 K.1 hH.1 0 rfl rfl 7 (by decide) (G.1.2.2.2.2 _ q193) (fun _ h9 => h9) rfl d2 kk
theorem mp_isKnown (G : CX E RX1 cc nL) (K : KX E (mt d)) (hH : MH E a d σ H locs) {z : Int32} (hn : narrow .boolean (.int z) = .int z) (hf : fits .boolean (.int z) = true) (dg : decode cc pc = .ok (.putfield 59, 3)) (kk : ∀ (H : Heap) (locs : List Loc), MH E a d (sF σ 7 z) H locs → WE E H locs (pc + 3) ls rest) : WE E H locs pc ls (.int z :: .ref (a 0) :: rest) := va_put (D := E.D) (ci := 1) (v := .int z) (ty := .boolean) (C := RX1) (T := TX1) (N := 18) G.1.1 G.1.2.1 G.1.2.2.2.2 in_X1 tyX1 tyX1_ok nmX1 G.1.2.2.2.1 K.1 hH.1 hH.2.1 hH.2.2 0 rfl rfl 7 (by decide) (G.1.2.2.2.2 _ q193) (fun _ h9 => h9) rfl (by decide +kernel) hn hf (Nat.le_of_ble_eq_true rfl) dg (fun H1 locs1 hP hD hS => kk H1 locs1 ⟨hP, hD, hS⟩)
theorem mg_table (G : CX E RX1 cc nL) (K : KX E (mt d)) (hH : MH E a d σ H locs) (h0 : ls[0]? = some (.val (.ref (a 0)))) (d1 : decode cc pc = .ok (.aload_n 0, 1)) (d2 : decode cc (pc + 1) = .ok (.getfield 32, 3)) (kk : WE E H locs (pc + 4) ls (.ref (a 8) :: rest)) : WE E H locs pc ls rest := lv_aload_n G.1.1 G.1.2.1 d1 rfl h0 (va_get (D := E.D) (ci := 1) (v := .ref (a 8)) (C := RX1) (T := TX1) (N := 18) G.1.1 G.1.2.1 G.1.2.2.2.2 in_X1 G.1.2.2.2.1 K.1 hH.1 0 rfl rfl 8 (by decide) (G.1.2.2.2.2 _ q194) (fun _ h9 => h9) rfl d2 kk)
theorem mg_many (G : CX E RX1 cc nL) (K : KX E (mt d)) (hH : MH E a d σ H locs) (h0 : ls[0]? = some (.val (.ref (a 0)))) (d1 : decode cc pc = .ok (.aload_n 0, 1)) (d2 : decode cc (pc + 1) = .ok (.getfield 35, 3)) (kk : WE E H locs (pc + 4) ls (.ref (a 9) :: rest)) : WE E H locs pc ls rest := lv_aload_n G.1.1 G.1.2.1 d1 rfl h0 (va_get (D := E.D) (ci := 1) (v := .ref (a 9)) (C := RX1) (T := TX1) (N := 18) G.1.1 G.1.2.1 G.1.2.2.2.2 in_X1 G.1.2.2.2.1 K.1 hH.1 0 rfl rfl 9 (by decide) (G.1.2.2.2.2 _ q195) (fun _ h9 => h9) rfl d2 kk)
theorem mg_chainOf (G : CX E RX1 cc nL) (K : KX E (mt d)) (hH : MH E a d σ H locs) (h0 : ls[0]? = some (.val (.ref (a 0)))) (d1 : decode cc pc = .ok (.aload_n 0, 1)) (d2 : decode cc (pc + 1) = .ok (.getfield 38, 3)) (kk : WE E H locs (pc + 4) ls (.ref (a 10) :: rest)) : WE E H locs pc ls rest := lv_aload_n G.1.1 G.1.2.1 d1 rfl h0 (va_get (D := E.D) (ci := 1) (v := .ref (a 10)) (C := RX1) (T := TX1) (N := 18) G.1.1 G.1.2.1 G.1.2.2.2.2 in_X1 G.1.2.2.2.1 K.1 hH.1 0 rfl rfl 10 (by decide) (G.1.2.2.2.2 _ q196) (fun _ h9 => h9) rfl d2 kk)
theorem mg_byChains (G : CX E RX1 cc nL) (K : KX E (mt d)) (hH : MH E a d σ H locs) (h0 : ls[0]? = some (.val (.ref (a 0)))) (d1 : decode cc pc = .ok (.aload_n 0, 1)) (d2 : decode cc (pc + 1) = .ok (.getfield 41, 3)) (kk : WE E H locs (pc + 4) ls (.ref (a 11) :: rest)) : WE E H locs pc ls rest := lv_aload_n G.1.1 G.1.2.1 d1 rfl h0 (va_get (D := E.D) (ci := 1) (v := .ref (a 11)) (C := RX1) (T := TX1) (N := 18) G.1.1 G.1.2.1 G.1.2.2.2.2 in_X1 G.1.2.2.2.1 K.1 hH.1 0 rfl rfl 11 (by decide) (G.1.2.2.2.2 _ q197) (fun _ h9 => h9) rfl d2 kk)
theorem mg_byNumber (G : CX E RX1 cc nL) (K : KX E (mt d)) (hH : MH E a d σ H locs) (h0 : ls[0]? = some (.val (.ref (a 0)))) (d1 : decode cc pc = .ok (.aload_n 0, 1)) (d2 : decode cc (pc + 1) = .ok (.getfield 44, 3)) (kk : WE E H locs (pc + 4) ls (.ref (a 12) :: rest)) : WE E H locs pc ls rest := lv_aload_n G.1.1 G.1.2.1 d1 rfl h0 (va_get (D := E.D) (ci := 1) (v := .ref (a 12)) (C := RX1) (T := TX1) (N := 18) G.1.1 G.1.2.1 G.1.2.2.2.2 in_X1 G.1.2.2.2.1 K.1 hH.1 0 rfl rfl 12 (by decide) (G.1.2.2.2.2 _ q198) (fun _ h9 => h9) rfl d2 kk)
theorem mg_hots (G : CX E RX1 cc nL) (K : KX E (mt d)) (hH : MH E a d σ H locs) (h0 : ls[0]? = some (.val (.ref (a 0)))) (d1 : decode cc pc = .ok (.aload_n 0, 1)) (d2 : decode cc (pc + 1) = .ok (.getfield 86, 3)) (kk : WE E H locs (pc + 4) ls (.int (σ.1 13) :: rest)) : WE E H locs pc ls rest := lv_aload_n G.1.1 G.1.2.1 d1 rfl h0 (va_get (D := E.D) (ci := 1) (v := .int (σ.1 13)) (C := RX1) (T := TX1) (N := 18) G.1.1 G.1.2.1 G.1.2.2.2.2 in_X1 G.1.2.2.2.1 K.1 hH.1 0 rfl rfl 13 (by decide) (G.1.2.2.2.2 _ q199) (fun _ h9 => h9) rfl d2 kk)
theorem mgf_hots (G : CX E RX1 cc nL) (K : KX E (mt d)) (hH : MH E a d σ H locs) (d2 : decode cc pc = .ok (.getfield 86, 3)) (kk : WE E H locs (pc + 3) ls (.int (σ.1 13) :: rest)) : WE E H locs pc ls (.ref (a 0) :: rest) := va_get (D := E.D) (ci := 1) (v := .int (σ.1 13)) (C := RX1) (T := TX1) (N := 18) G.1.1 G.1.2.1 G.1.2.2.2.2 in_X1 G.1.2.2.2.1 K.1 hH.1 0 rfl rfl 13 (by decide) (G.1.2.2.2.2 _ q199) (fun _ h9 => h9) rfl d2 kk
theorem mp_hots (G : CX E RX1 cc nL) (K : KX E (mt d)) (hH : MH E a d σ H locs) {z : Int32} (dg : decode cc pc = .ok (.putfield 86, 3)) (kk : ∀ (H : Heap) (locs : List Loc), MH E a d (sF σ 13 z) H locs → WE E H locs (pc + 3) ls rest) : WE E H locs pc ls (.int z :: .ref (a 0) :: rest) := va_put (D := E.D) (ci := 1) (v := .int z) (ty := .int) (C := RX1) (T := TX1) (N := 18) G.1.1 G.1.2.1 G.1.2.2.2.2 in_X1 tyX1 tyX1_ok nmX1 G.1.2.2.2.1 K.1 hH.1 hH.2.1 hH.2.2 0 rfl rfl 13 (by decide) (G.1.2.2.2.2 _ q199) (fun _ h9 => h9) rfl (by decide +kernel) rfl rfl (Nat.le_of_ble_eq_true rfl) dg (fun H1 locs1 hP hD hS => kk H1 locs1 ⟨hP, hD, hS⟩)
theorem mg_isBetter (G : CX E RX1 cc nL) (K : KX E (mt d)) (hH : MH E a d σ H locs) (h0 : ls[0]? = some (.val (.ref (a 0)))) (d1 : decode cc pc = .ok (.aload_n 0, 1)) (d2 : decode cc (pc + 1) = .ok (.getfield 99, 3)) (kk : WE E H locs (pc + 4) ls (.int (σ.1 14) :: rest)) : WE E H locs pc ls rest := lv_aload_n G.1.1 G.1.2.1 d1 rfl h0 (va_get (D := E.D) (ci := 1) (v := .int (σ.1 14)) (C := RX1) (T := TX1) (N := 18) G.1.1 G.1.2.1 G.1.2.2.2.2 in_X1 G.1.2.2.2.1 K.1 hH.1 0 rfl rfl 14 (by decide) (G.1.2.2.2.2 _ q200) (fun _ h9 => h9) rfl d2 kk)
theorem mgf_isBetter (G : CX E RX1 cc nL) (K : KX E (mt d)) (hH : MH E a d σ H locs) (d2 : decode cc pc = .ok (.getfield 99, 3)) (kk : WE E H locs (pc + 3) ls (.int (σ.1 14) :: rest)) : WE E H locs pc ls (.ref (a 0) :: rest) := va_get (D := E.D) (ci := 1) (v := .int (σ.1 14)) (C := RX1) (T := TX1) (N := 18) G.1.1 G.1.2.1 G.1.2.2.2.2 in_X1 G.1.2.2.2.1 K.1 hH.1 0 rfl rfl 14 (by decide) (G.1.2.2.2.2 _ q200) (fun _ h9 => h9) rfl d2 kk
theorem mp_isBetter (G : CX E RX1 cc nL) (K : KX E (mt d)) (hH : MH E a d σ H locs) {z : Int32} (hn : narrow .boolean (.int z) = .int z) (hf : fits .boolean (.int z) = true) (dg : decode cc pc = .ok (.putfield 99, 3)) (kk : ∀ (H : Heap) (locs : List Loc), MH E a d (sF σ 14 z) H locs → WE E H locs (pc + 3) ls rest) : WE E H locs pc ls (.int z :: .ref (a 0) :: rest) := va_put (D := E.D) (ci := 1) (v := .int z) (ty := .boolean) (C := RX1) (T := TX1) (N := 18) G.1.1 G.1.2.1 G.1.2.2.2.2 in_X1 tyX1 tyX1_ok nmX1 G.1.2.2.2.1 K.1 hH.1 hH.2.1 hH.2.2 0 rfl rfl 14 (by decide) (G.1.2.2.2.2 _ q200) (fun _ h9 => h9) rfl (by decide +kernel) hn hf (Nat.le_of_ble_eq_true rfl) dg (fun H1 locs1 hP hD hS => kk H1 locs1 ⟨hP, hD, hS⟩)
theorem mg_looked (G : CX E RX1 cc nL) (K : KX E (mt d)) (hH : MH E a d σ H locs) (h0 : ls[0]? = some (.val (.ref (a 0)))) (d1 : decode cc pc = .ok (.aload_n 0, 1)) (d2 : decode cc (pc + 1) = .ok (.getfield 47, 3)) (kk : WE E H locs (pc + 4) ls (.ref (a 15) :: rest)) : WE E H locs pc ls rest := lv_aload_n G.1.1 G.1.2.1 d1 rfl h0 (va_get (D := E.D) (ci := 1) (v := .ref (a 15)) (C := RX1) (T := TX1) (N := 18) G.1.1 G.1.2.1 G.1.2.2.2.2 in_X1 G.1.2.2.2.1 K.1 hH.1 0 rfl rfl 15 (by decide) (G.1.2.2.2.2 _ q201) (fun _ h9 => h9) rfl d2 kk)
theorem mg_isPlaced (G : CX E RX1 cc nL) (K : KX E (mt d)) (hH : MH E a d σ H locs) (h0 : ls[0]? = some (.val (.ref (a 0)))) (d1 : decode cc pc = .ok (.aload_n 0, 1)) (d2 : decode cc (pc + 1) = .ok (.getfield 50, 3)) (kk : WE E H locs (pc + 4) ls (.ref (a 16) :: rest)) : WE E H locs pc ls rest := lv_aload_n G.1.1 G.1.2.1 d1 rfl h0 (va_get (D := E.D) (ci := 1) (v := .ref (a 16)) (C := RX1) (T := TX1) (N := 18) G.1.1 G.1.2.1 G.1.2.2.2.2 in_X1 G.1.2.2.2.1 K.1 hH.1 0 rfl rfl 16 (by decide) (G.1.2.2.2.2 _ q202) (fun _ h9 => h9) rfl d2 kk)
theorem mg_all (G : CX E RX1 cc nL) (K : KX E (mt d)) (hH : MH E a d σ H locs) (h0 : ls[0]? = some (.val (.ref (a 0)))) (d1 : decode cc pc = .ok (.aload_n 0, 1)) (d2 : decode cc (pc + 1) = .ok (.getfield 53, 3)) (kk : WE E H locs (pc + 4) ls (.ref (a 17) :: rest)) : WE E H locs pc ls rest := lv_aload_n G.1.1 G.1.2.1 d1 rfl h0 (va_get (D := E.D) (ci := 1) (v := .ref (a 17)) (C := RX1) (T := TX1) (N := 18) G.1.1 G.1.2.1 G.1.2.2.2.2 in_X1 G.1.2.2.2.1 K.1 hH.1 0 rfl rfl 17 (by decide) (G.1.2.2.2.2 _ q203) (fun _ h9 => h9) rfl d2 kk)
theorem ml_hot (G : CX E RX1 cc nL) (K : KX E (mt d)) (hH : MH E a d σ H locs) {j : Nat} (hj : j < 200) (dg : decode cc pc = .ok (.baload, 1)) (kk : WE E H locs (pc + 1) ls (.int (σ.2.1 1 j) :: rest)) : WE E H locs pc ls (.int (nI j) :: .ref (a 1) :: rest) := by
  refine va_zald G.1.1 G.1.2.1 K.1 hH.1 1 0 rfl rfl (vp_in_nI hj (by decide)) dg ?_
  rw [nI_clamp (by omega)]
  exact kk
theorem ms_hot (G : CX E RX1 cc nL) (K : KX E (mt d)) (hH : MH E a d σ H locs) {j : Nat} {z : Int32} (hj : j < 200) (hz : vp_nar .boolean z = z) (dg : decode cc pc = .ok (.bastore, 1)) (kk : ∀ (H : Heap) (locs : List Loc), MH E a d (sI σ 1 (upd (σ.2.1 1) j z)) H locs → WE E H locs (pc + 1) ls rest) : WE E H locs pc ls (.int z :: .int (nI j) :: .ref (a 1) :: rest) := by
  refine va_zast G.1.1 G.1.2.1 K.1 hH.1 hH.2.1 hH.2.2 1 0 rfl rfl (vp_in_nI hj (by decide)) dg (fun H1 locs1 hP hD hS => ?_)
  rw [nI_clamp (by omega), hz] at hP hD
  exact kk H1 locs1 ⟨hP, hD, hS⟩
theorem ml_from (G : CX E RX1 cc nL) (K : KX E (mt d)) (hH : MH E a d σ H locs) {j : Nat} (hj : j < 1000) (dg : decode cc pc = .ok (.iaload, 1)) (kk : WE E H locs (pc + 1) ls (.int (σ.2.1 3 j) :: rest)) : WE E H locs pc ls (.int (nI j) :: .ref (a 3) :: rest) := by
  refine va_iald G.1.1 G.1.2.1 K.1 hH.1 2 1 rfl rfl (vp_in_nI hj (by decide)) dg ?_
  rw [nI_clamp (by omega)]
  exact kk
theorem ms_from (G : CX E RX1 cc nL) (K : KX E (mt d)) (hH : MH E a d σ H locs) {j : Nat} {z : Int32} (hj : j < 1000) (dg : decode cc pc = .ok (.iastore, 1)) (kk : ∀ (H : Heap) (locs : List Loc), MH E a d (sI σ 3 (upd (σ.2.1 3) j z)) H locs → WE E H locs (pc + 1) ls rest) : WE E H locs pc ls (.int z :: .int (nI j) :: .ref (a 3) :: rest) := by
  refine va_iast G.1.1 G.1.2.1 K.1 hH.1 hH.2.1 hH.2.2 2 1 rfl rfl (vp_in_nI hj (by decide)) dg (fun H1 locs1 hP hD hS => ?_)
  rw [nI_clamp (by omega)] at hP hD
  exact kk H1 locs1 ⟨hP, hD, hS⟩
theorem ml_to (G : CX E RX1 cc nL) (K : KX E (mt d)) (hH : MH E a d σ H locs) {j : Nat} (hj : j < 1000) (dg : decode cc pc = .ok (.iaload, 1)) (kk : WE E H locs (pc + 1) ls (.int (σ.2.1 4 j) :: rest)) : WE E H locs pc ls (.int (nI j) :: .ref (a 4) :: rest) := by
  refine va_iald G.1.1 G.1.2.1 K.1 hH.1 3 2 rfl rfl (vp_in_nI hj (by decide)) dg ?_
  rw [nI_clamp (by omega)]
  exact kk
theorem ms_to (G : CX E RX1 cc nL) (K : KX E (mt d)) (hH : MH E a d σ H locs) {j : Nat} {z : Int32} (hj : j < 1000) (dg : decode cc pc = .ok (.iastore, 1)) (kk : ∀ (H : Heap) (locs : List Loc), MH E a d (sI σ 4 (upd (σ.2.1 4) j z)) H locs → WE E H locs (pc + 1) ls rest) : WE E H locs pc ls (.int z :: .int (nI j) :: .ref (a 4) :: rest) := by
  refine va_iast G.1.1 G.1.2.1 K.1 hH.1 hH.2.1 hH.2.2 3 2 rfl rfl (vp_in_nI hj (by decide)) dg (fun H1 locs1 hP hD hS => ?_)
  rw [nI_clamp (by omega)] at hP hD
  exact kk H1 locs1 ⟨hP, hD, hS⟩
theorem ml_counts (G : CX E RX1 cc nL) (K : KX E (mt d)) (hH : MH E a d σ H locs) {j : Nat} (hj : j < 1000) (dg : decode cc pc = .ok (.laload, 1)) (kk : WE E H locs (pc + 1) ls (.long (σ.2.2 5 j) :: rest)) : WE E H locs pc ls (.int (nI j) :: .ref (a 5) :: rest) := by
  refine va_lald G.1.1 G.1.2.1 K.1 hH.1 4 3 rfl rfl (vp_in_nI hj (by decide)) dg ?_
  rw [nI_clamp (by omega)]
  exact kk
theorem ms_counts (G : CX E RX1 cc nL) (K : KX E (mt d)) (hH : MH E a d σ H locs) {j : Nat} {z : Int64} (hj : j < 1000) (dg : decode cc pc = .ok (.lastore, 1)) (kk : ∀ (H : Heap) (locs : List Loc), MH E a d (sL σ 5 (vp_updL (σ.2.2 5) j z)) H locs → WE E H locs (pc + 1) ls rest) : WE E H locs pc ls (.long z :: .int (nI j) :: .ref (a 5) :: rest) := by
  refine va_last G.1.1 G.1.2.1 K.1 hH.1 hH.2.1 hH.2.2 4 3 rfl rfl (vp_in_nI hj (by decide)) dg (fun H1 locs1 hP hD hS => ?_)
  rw [nI_clamp (by omega)] at hP hD
  exact kk H1 locs1 ⟨hP, hD, hS⟩
theorem ml_fall (G : CX E RX1 cc nL) (K : KX E (mt d)) (hH : MH E a d σ H locs) {j : Nat} (hj : j < 1000) (dg : decode cc pc = .ok (.baload, 1)) (kk : WE E H locs (pc + 1) ls (.int (σ.2.1 6 j) :: rest)) : WE E H locs pc ls (.int (nI j) :: .ref (a 6) :: rest) := by
  refine va_zald G.1.1 G.1.2.1 K.1 hH.1 5 4 rfl rfl (vp_in_nI hj (by decide)) dg ?_
  rw [nI_clamp (by omega)]
  exact kk
theorem ms_fall (G : CX E RX1 cc nL) (K : KX E (mt d)) (hH : MH E a d σ H locs) {j : Nat} {z : Int32} (hj : j < 1000) (hz : vp_nar .boolean z = z) (dg : decode cc pc = .ok (.bastore, 1)) (kk : ∀ (H : Heap) (locs : List Loc), MH E a d (sI σ 6 (upd (σ.2.1 6) j z)) H locs → WE E H locs (pc + 1) ls rest) : WE E H locs pc ls (.int z :: .int (nI j) :: .ref (a 6) :: rest) := by
  refine va_zast G.1.1 G.1.2.1 K.1 hH.1 hH.2.1 hH.2.2 5 4 rfl rfl (vp_in_nI hj (by decide)) dg (fun H1 locs1 hP hD hS => ?_)
  rw [nI_clamp (by omega), hz] at hP hD
  exact kk H1 locs1 ⟨hP, hD, hS⟩
theorem ml_table (G : CX E RX1 cc nL) (K : KX E (mt d)) (hH : MH E a d σ H locs) {j : Nat} (hj : j < 40000) (dg : decode cc pc = .ok (.iaload, 1)) (kk : WE E H locs (pc + 1) ls (.int (σ.2.1 8 j) :: rest)) : WE E H locs pc ls (.int (nI j) :: .ref (a 8) :: rest) := by
  refine va_iald G.1.1 G.1.2.1 K.1 hH.1 6 5 rfl rfl (vp_in_nI hj (by decide)) dg ?_
  rw [nI_clamp (by omega)]
  exact kk
theorem ms_table (G : CX E RX1 cc nL) (K : KX E (mt d)) (hH : MH E a d σ H locs) {j : Nat} {z : Int32} (hj : j < 40000) (dg : decode cc pc = .ok (.iastore, 1)) (kk : ∀ (H : Heap) (locs : List Loc), MH E a d (sI σ 8 (upd (σ.2.1 8) j z)) H locs → WE E H locs (pc + 1) ls rest) : WE E H locs pc ls (.int z :: .int (nI j) :: .ref (a 8) :: rest) := by
  refine va_iast G.1.1 G.1.2.1 K.1 hH.1 hH.2.1 hH.2.2 6 5 rfl rfl (vp_in_nI hj (by decide)) dg (fun H1 locs1 hP hD hS => ?_)
  rw [nI_clamp (by omega)] at hP hD
  exact kk H1 locs1 ⟨hP, hD, hS⟩
theorem ml_many (G : CX E RX1 cc nL) (K : KX E (mt d)) (hH : MH E a d σ H locs) {j : Nat} (hj : j < 200) (dg : decode cc pc = .ok (.iaload, 1)) (kk : WE E H locs (pc + 1) ls (.int (σ.2.1 9 j) :: rest)) : WE E H locs pc ls (.int (nI j) :: .ref (a 9) :: rest) := by
  refine va_iald G.1.1 G.1.2.1 K.1 hH.1 7 6 rfl rfl (vp_in_nI hj (by decide)) dg ?_
  rw [nI_clamp (by omega)]
  exact kk
theorem ms_many (G : CX E RX1 cc nL) (K : KX E (mt d)) (hH : MH E a d σ H locs) {j : Nat} {z : Int32} (hj : j < 200) (dg : decode cc pc = .ok (.iastore, 1)) (kk : ∀ (H : Heap) (locs : List Loc), MH E a d (sI σ 9 (upd (σ.2.1 9) j z)) H locs → WE E H locs (pc + 1) ls rest) : WE E H locs pc ls (.int z :: .int (nI j) :: .ref (a 9) :: rest) := by
  refine va_iast G.1.1 G.1.2.1 K.1 hH.1 hH.2.1 hH.2.2 7 6 rfl rfl (vp_in_nI hj (by decide)) dg (fun H1 locs1 hP hD hS => ?_)
  rw [nI_clamp (by omega)] at hP hD
  exact kk H1 locs1 ⟨hP, hD, hS⟩
theorem ml_chainOf (G : CX E RX1 cc nL) (K : KX E (mt d)) (hH : MH E a d σ H locs) {j : Nat} (hj : j < 200) (dg : decode cc pc = .ok (.iaload, 1)) (kk : WE E H locs (pc + 1) ls (.int (σ.2.1 10 j) :: rest)) : WE E H locs pc ls (.int (nI j) :: .ref (a 10) :: rest) := by
  refine va_iald G.1.1 G.1.2.1 K.1 hH.1 8 7 rfl rfl (vp_in_nI hj (by decide)) dg ?_
  rw [nI_clamp (by omega)]
  exact kk
theorem ms_chainOf (G : CX E RX1 cc nL) (K : KX E (mt d)) (hH : MH E a d σ H locs) {j : Nat} {z : Int32} (hj : j < 200) (dg : decode cc pc = .ok (.iastore, 1)) (kk : ∀ (H : Heap) (locs : List Loc), MH E a d (sI σ 10 (upd (σ.2.1 10) j z)) H locs → WE E H locs (pc + 1) ls rest) : WE E H locs pc ls (.int z :: .int (nI j) :: .ref (a 10) :: rest) := by
  refine va_iast G.1.1 G.1.2.1 K.1 hH.1 hH.2.1 hH.2.2 8 7 rfl rfl (vp_in_nI hj (by decide)) dg (fun H1 locs1 hP hD hS => ?_)
  rw [nI_clamp (by omega)] at hP hD
  exact kk H1 locs1 ⟨hP, hD, hS⟩
theorem ml_byChains (G : CX E RX1 cc nL) (K : KX E (mt d)) (hH : MH E a d σ H locs) {j : Nat} (hj : j < 200) (dg : decode cc pc = .ok (.iaload, 1)) (kk : WE E H locs (pc + 1) ls (.int (σ.2.1 11 j) :: rest)) : WE E H locs pc ls (.int (nI j) :: .ref (a 11) :: rest) := by
  refine va_iald G.1.1 G.1.2.1 K.1 hH.1 9 8 rfl rfl (vp_in_nI hj (by decide)) dg ?_
  rw [nI_clamp (by omega)]
  exact kk
theorem ms_byChains (G : CX E RX1 cc nL) (K : KX E (mt d)) (hH : MH E a d σ H locs) {j : Nat} {z : Int32} (hj : j < 200) (dg : decode cc pc = .ok (.iastore, 1)) (kk : ∀ (H : Heap) (locs : List Loc), MH E a d (sI σ 11 (upd (σ.2.1 11) j z)) H locs → WE E H locs (pc + 1) ls rest) : WE E H locs pc ls (.int z :: .int (nI j) :: .ref (a 11) :: rest) := by
  refine va_iast G.1.1 G.1.2.1 K.1 hH.1 hH.2.1 hH.2.2 9 8 rfl rfl (vp_in_nI hj (by decide)) dg (fun H1 locs1 hP hD hS => ?_)
  rw [nI_clamp (by omega)] at hP hD
  exact kk H1 locs1 ⟨hP, hD, hS⟩
theorem ml_byNumber (G : CX E RX1 cc nL) (K : KX E (mt d)) (hH : MH E a d σ H locs) {j : Nat} (hj : j < 200) (dg : decode cc pc = .ok (.iaload, 1)) (kk : WE E H locs (pc + 1) ls (.int (σ.2.1 12 j) :: rest)) : WE E H locs pc ls (.int (nI j) :: .ref (a 12) :: rest) := by
  refine va_iald G.1.1 G.1.2.1 K.1 hH.1 10 9 rfl rfl (vp_in_nI hj (by decide)) dg ?_
  rw [nI_clamp (by omega)]
  exact kk
theorem ms_byNumber (G : CX E RX1 cc nL) (K : KX E (mt d)) (hH : MH E a d σ H locs) {j : Nat} {z : Int32} (hj : j < 200) (dg : decode cc pc = .ok (.iastore, 1)) (kk : ∀ (H : Heap) (locs : List Loc), MH E a d (sI σ 12 (upd (σ.2.1 12) j z)) H locs → WE E H locs (pc + 1) ls rest) : WE E H locs pc ls (.int z :: .int (nI j) :: .ref (a 12) :: rest) := by
  refine va_iast G.1.1 G.1.2.1 K.1 hH.1 hH.2.1 hH.2.2 10 9 rfl rfl (vp_in_nI hj (by decide)) dg (fun H1 locs1 hP hD hS => ?_)
  rw [nI_clamp (by omega)] at hP hD
  exact kk H1 locs1 ⟨hP, hD, hS⟩
theorem ml_looked (G : CX E RX1 cc nL) (K : KX E (mt d)) (hH : MH E a d σ H locs) {j : Nat} (hj : j < 1000) (dg : decode cc pc = .ok (.baload, 1)) (kk : WE E H locs (pc + 1) ls (.int (σ.2.1 15 j) :: rest)) : WE E H locs pc ls (.int (nI j) :: .ref (a 15) :: rest) := by
  refine va_zald G.1.1 G.1.2.1 K.1 hH.1 11 10 rfl rfl (vp_in_nI hj (by decide)) dg ?_
  rw [nI_clamp (by omega)]
  exact kk
theorem ms_looked (G : CX E RX1 cc nL) (K : KX E (mt d)) (hH : MH E a d σ H locs) {j : Nat} {z : Int32} (hj : j < 1000) (hz : vp_nar .boolean z = z) (dg : decode cc pc = .ok (.bastore, 1)) (kk : ∀ (H : Heap) (locs : List Loc), MH E a d (sI σ 15 (upd (σ.2.1 15) j z)) H locs → WE E H locs (pc + 1) ls rest) : WE E H locs pc ls (.int z :: .int (nI j) :: .ref (a 15) :: rest) := by
  refine va_zast G.1.1 G.1.2.1 K.1 hH.1 hH.2.1 hH.2.2 11 10 rfl rfl (vp_in_nI hj (by decide)) dg (fun H1 locs1 hP hD hS => ?_)
  rw [nI_clamp (by omega), hz] at hP hD
  exact kk H1 locs1 ⟨hP, hD, hS⟩
theorem ml_isPlaced (G : CX E RX1 cc nL) (K : KX E (mt d)) (hH : MH E a d σ H locs) {j : Nat} (hj : j < 200) (dg : decode cc pc = .ok (.baload, 1)) (kk : WE E H locs (pc + 1) ls (.int (σ.2.1 16 j) :: rest)) : WE E H locs pc ls (.int (nI j) :: .ref (a 16) :: rest) := by
  refine va_zald G.1.1 G.1.2.1 K.1 hH.1 12 11 rfl rfl (vp_in_nI hj (by decide)) dg ?_
  rw [nI_clamp (by omega)]
  exact kk
theorem ms_isPlaced (G : CX E RX1 cc nL) (K : KX E (mt d)) (hH : MH E a d σ H locs) {j : Nat} {z : Int32} (hj : j < 200) (hz : vp_nar .boolean z = z) (dg : decode cc pc = .ok (.bastore, 1)) (kk : ∀ (H : Heap) (locs : List Loc), MH E a d (sI σ 16 (upd (σ.2.1 16) j z)) H locs → WE E H locs (pc + 1) ls rest) : WE E H locs pc ls (.int z :: .int (nI j) :: .ref (a 16) :: rest) := by
  refine va_zast G.1.1 G.1.2.1 K.1 hH.1 hH.2.1 hH.2.2 12 11 rfl rfl (vp_in_nI hj (by decide)) dg (fun H1 locs1 hP hD hS => ?_)
  rw [nI_clamp (by omega), hz] at hP hD
  exact kk H1 locs1 ⟨hP, hD, hS⟩
theorem ml_all (G : CX E RX1 cc nL) (K : KX E (mt d)) (hH : MH E a d σ H locs) {j : Nat} (hj : j < 200) (dg : decode cc pc = .ok (.iaload, 1)) (kk : WE E H locs (pc + 1) ls (.int (σ.2.1 17 j) :: rest)) : WE E H locs pc ls (.int (nI j) :: .ref (a 17) :: rest) := by
  refine va_iald G.1.1 G.1.2.1 K.1 hH.1 13 12 rfl rfl (vp_in_nI hj (by decide)) dg ?_
  rw [nI_clamp (by omega)]
  exact kk
theorem ms_all (G : CX E RX1 cc nL) (K : KX E (mt d)) (hH : MH E a d σ H locs) {j : Nat} {z : Int32} (hj : j < 200) (dg : decode cc pc = .ok (.iastore, 1)) (kk : ∀ (H : Heap) (locs : List Loc), MH E a d (sI σ 17 (upd (σ.2.1 17) j z)) H locs → WE E H locs (pc + 1) ls rest) : WE E H locs pc ls (.int z :: .int (nI j) :: .ref (a 17) :: rest) := by
  refine va_iast G.1.1 G.1.2.1 K.1 hH.1 hH.2.1 hH.2.2 13 12 rfl rfl (vp_in_nI hj (by decide)) dg (fun H1 locs1 hP hD hS => ?_)
  rw [nI_clamp (by omega)] at hP hD
  exact kk H1 locs1 ⟨hP, hD, hS⟩
theorem ml_any (G : CX E RX1 cc nL) (K : KX E (mt d)) (hH : MH E a d σ H locs) {j rk q t : Nat} (hq : (mw a d σ)[q]? = some (a rk, .inl (d rk, 200, .inl (σ.2.1 rk)))) (ht : (mt d)[t]? = some (d rk, .int)) (hj : j < 200) (dg : decode cc pc = .ok (.iaload, 1)) (kk : WE E H locs (pc + 1) ls (.int (σ.2.1 rk j) :: rest)) : WE E H locs pc ls (.int (nI j) :: .ref (a rk) :: rest) := by
  refine va_iald G.1.1 G.1.2.1 K.1 hH.1 q t hq ht (vp_in_nI hj (by decide)) dg ?_
  rw [nI_clamp (by omega)]
  exact kk
end
end
section
/-! PLAIN LAW 1: what a script has told (Vw), the sorted ways, sums -/
set_option maxRecDepth 100000
def Vw : Type := Nat × Nat × (Nat → Bool) × (Nat → Nat) × (Nat → Nat) × (Nat → Int64) × (Nat → Bool)
def Vw.nb (v : Vw) : Nat := Prod.fst v
def Vw.nw (v : Vw) : Nat := Prod.fst (Prod.snd v)
def Vw.hot (v : Vw) : Nat → Bool := Prod.fst (Prod.snd (Prod.snd v))
def Vw.fr (v : Vw) : Nat → Nat := Prod.fst (Prod.snd (Prod.snd (Prod.snd v)))
def Vw.ta (v : Vw) : Nat → Nat := Prod.fst (Prod.snd (Prod.snd (Prod.snd (Prod.snd v))))
def Vw.ct (v : Vw) : Nat → Int64 := Prod.fst (Prod.snd (Prod.snd (Prod.snd (Prod.snd (Prod.snd v)))))
def Vw.fa (v : Vw) : Nat → Bool := Prod.snd (Prod.snd (Prod.snd (Prod.snd (Prod.snd (Prod.snd v)))))
/-- bounds; the ways' ends are blocks; no two ways have the same ends -/
def Vw.ok (v : Vw) : Prop := (1 ≤ v.nb ∧ v.nb ≤ 200 ∧ v.nw ≤ 1000) ∧ (∀ k, k < v.nw → v.fr k < v.nb ∧ v.ta k < v.nb ∧ 0 ≤ (v.ct k).toInt ∧ (v.ct k).toInt ≤ 1000000000000000) ∧ ∀ j k, j < v.nw → k < v.nw → v.fr j = v.fr k → v.ta j = v.ta k → j = k
/-- the order of the ways: the greater count first, then the lesser ends -/
def Vw.key (v : Vw) (k : Nat) : Int := (v.fr k : Int) * 200 + (v.ta k : Int) - (v.ct k).toInt * 40000
theorem key_inj {v : Vw} (h : v.ok) {j k : Nat} (hj : j < v.nw) (hk : k < v.nw) (e : v.key j = v.key k) : j = k := by
  obtain ⟨hb, hw, hd⟩ := h
  obtain ⟨a1, a2, a3, a4⟩ := hw j hj
  obtain ⟨b1, b2, b3, b4⟩ := hw k hk
  unfold Vw.key at e
  exact hd j k hj hk (by omega) (by omega)
def Vw.cand (v : Vw) (k : Nat) : Bool := v.fa k && decide (v.ct k ≠ 0) && v.hot (v.fr k) && v.hot (v.ta k)
theorem cand_hot {v : Vw} {k : Nat} (h : v.cand k = true) : v.hot (v.fr k) = true ∧ v.hot (v.ta k) = true := by
  unfold Vw.cand at h
  simp only [Bool.and_eq_true] at h
  exact ⟨h.1.2, h.2⟩
def Vw.sl (v : Vw) : List Nat := ((List.range v.nw).filter v.cand).mergeSort (fun a b => decide (v.key a ≤ v.key b))
def Vw.sn (v : Vw) : Nat := v.sl.length
def Vw.sq (v : Vw) (i : Nat) : Nat := v.sl.getD i 0
/-- s lists n ways: all that may join, in their order -/
def Srt (v : Vw) (s : Nat → Nat) (n : Nat) : Prop := (∀ i, i < n → s i < v.nw ∧ v.cand (s i) = true) ∧ (∀ i j, i < j → j < n → v.key (s i) < v.key (s j)) ∧ ∀ k, k < v.nw → v.cand k = true → ∃ i, i < n ∧ s i = k
theorem srt_sl {v : Vw} (h : v.ok) : Srt v v.sq v.sn := by
  have hp : v.sl.Perm ((List.range v.nw).filter v.cand) := List.mergeSort_perm _ _
  have hs : v.sl.Pairwise (fun a b => decide (v.key a ≤ v.key b) = true) := by
    refine List.pairwise_mergeSort ?_ ?_ _
    · intro a b c h1 h2
      simp only [decide_eq_true_eq] at h1 h2 ⊢
      omega
    · intro a b
      simp only [Bool.or_eq_true, decide_eq_true_eq]
      omega
  have hnd : v.sl.Nodup := hp.nodup_iff.mpr (List.Pairwise.filter _ List.nodup_range)
  have hm : ∀ k, k ∈ v.sl ↔ k < v.nw ∧ v.cand k = true := fun k => by
    rw [hp.mem_iff, List.mem_filter, List.mem_range]
  have hget : ∀ (i : Nat) (hi : i < v.sl.length), v.sq i = v.sl[i] := fun i hi => by
    unfold Vw.sq
    simp [List.getD, hi]
  refine ⟨?_, ?_, ?_⟩
  · intro i hi
    rw [hget i hi]
    exact (hm _).mp (List.getElem_mem hi)
  · intro i j hij hj
    have hi : i < v.sl.length := Nat.lt_trans hij hj
    rw [hget i hi, hget j hj]
    have h1 := List.pairwise_iff_getElem.mp hs i j hi hj hij
    have h2 : v.key v.sl[i] ≤ v.key v.sl[j] := of_decide_eq_true h1
    have h3 : v.sl[i] ≠ v.sl[j] := List.pairwise_iff_getElem.mp hnd i j hi hj hij
    have m1 := (hm _).mp (List.getElem_mem hi)
    have m2 := (hm _).mp (List.getElem_mem hj)
    have h4 : v.key v.sl[i] ≠ v.key v.sl[j] := fun e => h3 (key_inj h m1.1 m2.1 e)
    omega
  · intro k hk hc
    obtain ⟨i, hi, e⟩ := List.getElem_of_mem ((hm k).mpr ⟨hk, hc⟩)
    exact ⟨i, hi, by rw [hget i hi]; exact e⟩
theorem srt_half {v : Vw} {s s' : Nat → Nat} {n n' : Nat} (h : Srt v s n) (h' : Srt v s' n') : ∀ i, i < n → i < n' ∧ s i = s' i := by
  intro i
  induction i using Nat.strongRecOn with
  | ind i ih =>
    intro hi
    obtain ⟨a1, a2, a3⟩ := h
    obtain ⟨b1, b2, b3⟩ := h'
    obtain ⟨j, hj, ej⟩ := b3 (s i) (a1 i hi).1 (a1 i hi).2
    rcases Nat.lt_trichotomy j i with q | q | q
    · have e1 := (ih j q (by omega)).2
      have e2 := a2 j i q hi
      rw [e1, ej] at e2
      omega
    · subst q
      exact ⟨hj, ej.symm⟩
    · have hi' : i < n' := by omega
      obtain ⟨j', hj', ej'⟩ := a3 (s' i) (b1 i hi').1 (b1 i hi').2
      have e2 := b2 i j q hj
      rw [ej] at e2
      rcases Nat.lt_trichotomy j' i with q' | q' | q'
      · have e1 := (ih j' q' (by omega)).2
        have e3 := b2 j' i q' hi'
        rw [← e1, ej'] at e3
        omega
      · rw [← ej', q'] at e2
        omega
      · have e3 := a2 i j' q' hj'
        rw [ej'] at e3
        omega
theorem srt_uniq {v : Vw} {s s' : Nat → Nat} {n n' : Nat} (h : Srt v s n) (h' : Srt v s' n') : n = n' ∧ ∀ i, i < n → s i = s' i := by
  refine ⟨?_, fun i hi => (srt_half h h' i hi).2⟩
  rcases Nat.lt_trichotomy n n' with q | q | q
  · exact absurd (srt_half h' h n q).1 (by omega)
  · exact q
  · exact absurd (srt_half h h' n' q).1 (by omega)
/-! sums -/
def sumI (f : Nat → Int64) : Nat → Int64
  | 0 => 0
  | n + 1 => sumI f n + f n
theorem sumI_congr {f g : Nat → Int64} {n : Nat} (h : ∀ k, k < n → f k = g k) : sumI f n = sumI g n := by
  induction n with
  | zero => rfl
  | succ n ih => rw [sumI, sumI, ih (fun k hk => h k (by omega)), h n (by omega)]
theorem sumI_zero {f : Nat → Int64} {n : Nat} (h : ∀ k, k < n → f k = 0) : sumI f n = 0 := by
  induction n with
  | zero => rfl
  | succ n ih => rw [sumI, ih (fun k hk => h k (by omega)), h n (by omega), Int64.add_zero]
theorem sumI_add {f g e : Nat → Int64} {n : Nat} (h : ∀ k, k < n → g k = f k + e k) : sumI g n = sumI f n + sumI e n := by
  induction n with
  | zero => exact (Int64.add_zero 0).symm
  | succ n ih =>
    rw [sumI, sumI, sumI, ih (fun k hk => h k (by omega)), h n (by omega)]
    rw [Int64.add_assoc, Int64.add_assoc, ← Int64.add_assoc (sumI e n), Int64.add_comm (sumI e n), Int64.add_assoc]
theorem sumI_one {f g : Nat → Int64} {n w : Nat} {x : Int64} (hw : w < n) (h : ∀ k, k < n → k ≠ w → g k = f k) (hx : g w = f w + x) : sumI g n = sumI f n + x := by
  induction n with
  | zero => omega
  | succ n ih =>
    rw [sumI, sumI]
    rcases Nat.lt_or_ge w n with q | q
    · rw [ih q (fun k hk => h k (by omega)), h n (by omega) (by omega), Int64.add_assoc, Int64.add_comm x, ← Int64.add_assoc]
    · have e : w = n := by omega
      subst e
      rw [sumI_congr (fun k hk => h k (by omega) (by omega)), hx, ← Int64.add_assoc]
theorem add_bd {x y : Int64} {a b : Int} (h1 : 0 ≤ x.toInt) (h2 : x.toInt ≤ a) (h3 : 0 ≤ y.toInt) (h4 : y.toInt ≤ b) (hab : a + b < 9223372036854775808) : (x + y).toInt = x.toInt + y.toInt := by
  rw [Int64.toInt_add]
  exact Int.bmod_eq_of_le (by omega) (by omega)
theorem sumI_bd {f : Nat → Int64} {n : Nat} (hn : n ≤ 1000) (h : ∀ k, k < n → 0 ≤ (f k).toInt ∧ (f k).toInt ≤ 1000000000000000) : 0 ≤ (sumI f n).toInt ∧ (sumI f n).toInt ≤ n * 1000000000000000 := by
  induction n with
  | zero =>
    show 0 ≤ (0 : Int64).toInt ∧ (0 : Int64).toInt ≤ ((0 : Nat) : Int) * 1000000000000000
    decide
  | succ n ih =>
    obtain ⟨h1, h2⟩ := ih (by omega) (fun k hk => h k (by omega))
    obtain ⟨h3, h4⟩ := h n (by omega)
    rw [sumI, add_bd h1 h2 h3 h4 (by omega)]
    omega
def sumN (f : Nat → Nat) : Nat → Nat
  | 0 => 0
  | n + 1 => sumN f n + f n
theorem sumN_congr {f g : Nat → Nat} {n : Nat} (h : ∀ k, k < n → f k = g k) : sumN f n = sumN g n := by
  induction n with
  | zero => rfl
  | succ n ih => rw [sumN, sumN, ih (fun k hk => h k (by omega)), h n (by omega)]
theorem sumN_le {f g : Nat → Nat} {n : Nat} (h : ∀ k, k < n → f k ≤ g k) : sumN f n ≤ sumN g n := by
  induction n with
  | zero => exact Nat.le_refl _
  | succ n ih =>
    rw [sumN, sumN]
    have h1 := ih (fun k hk => h k (by omega))
    have h2 := h n (by omega)
    omega
theorem sumN_upd {f g : Nat → Nat} {n c : Nat} (hc : c < n) (h : ∀ k, k < n → k ≠ c → g k = f k) : sumN g n + f c = sumN f n + g c := by
  induction n with
  | zero => omega
  | succ n ih =>
    rw [sumN, sumN]
    rcases Nat.lt_or_ge c n with q | q
    · have h1 := ih q (fun k hk => h k (by omega))
      have h2 := h n (by omega) (by omega)
      omega
    · have e : c = n := by omega
      subst e
      rw [sumN_congr (fun k hk => h k (by omega) (by omega))]
      omega
theorem sumN_two {f g : Nat → Nat} {n c d : Nat} (hc : c < n) (hd : d < n) (hcd : c ≠ d) (h : ∀ k, k < n → k ≠ c → k ≠ d → g k = f k) : sumN g n + f c + f d = sumN f n + g c + g d := by
  obtain ⟨h', hh⟩ : ∃ h' : Nat → Nat, ∀ k, h' k = if k = c then g c else f k := ⟨_, fun _ => rfl⟩
  have h1 := sumN_upd (f := f) (g := h') hc (fun k _ q => by rw [hh, if_neg q])
  have h2 := sumN_upd (f := h') (g := g) hd (fun k hk q => by
    rw [hh]
    by_cases e : k = c
    · rw [if_pos e, e]
    · rw [if_neg e]
      exact h k hk e q)
  rw [hh c, if_pos rfl] at h1
  rw [hh d, if_neg (Ne.symm hcd)] at h2
  omega
theorem sumN_ge {f : Nat → Nat} {n c : Nat} (hc : c < n) : f c ≤ sumN f n := by
  have h := sumN_upd (f := f) (g := fun k => if k = c then 0 else f k) hc (fun k _ q => by simp [q])
  simp at h
  omega
theorem sumN_ge2 {f : Nat → Nat} {n c d : Nat} (hc : c < n) (hd : d < n) (hcd : c ≠ d) : f c + f d ≤ sumN f n := by
  have h := sumN_upd (f := f) (g := fun k => if k = c then 0 else f k) hc (fun k _ q => by simp [q])
  have h2 := sumN_ge (f := fun k => if k = c then 0 else f k) hd
  simp [Ne.symm hcd] at h h2
  omega
end
section
/-! PLAIN LAW 2: chains -/
set_option maxRecDepth 100000
/-- by block its chain (named by its first block) and its place in it; by chain how many, and which blocks -/
def Cs : Type := (Nat → Nat) × (Nat → Nat) × (Nat → Nat) × (Nat → Nat → Nat)
def Cs.co (s : Cs) : Nat → Nat := Prod.fst s
def Cs.ps (s : Cs) : Nat → Nat := Prod.fst (Prod.snd s)
def Cs.mn (s : Cs) : Nat → Nat := Prod.fst (Prod.snd (Prod.snd s))
def Cs.tb (s : Cs) : Nat → Nat → Nat := Prod.snd (Prod.snd (Prod.snd s))
def Cs.ini : Cs := (fun b => b, fun _ => 0, fun _ => 1, fun c _ => c)
def Cs.can (s : Cs) (u w : Nat) : Bool := decide (s.co u ≠ s.co w ∧ s.ps u + 1 = s.mn (s.co u) ∧ s.ps w = 0 ∧ w ≠ 0)
def Cs.jn (s : Cs) (u w : Nat) : Cs :=
  (fun b => if s.co b = s.co w then s.co u else s.co b,
   fun b => if s.co b = s.co w then s.ps b + s.mn (s.co u) else s.ps b,
   fun x => if x = s.co u then s.mn (s.co u) + s.mn (s.co w) else if x = s.co w then 0 else s.mn x,
   fun x i => if x = s.co u ∧ s.mn (s.co u) ≤ i then s.tb (s.co w) (i - s.mn (s.co u)) else s.tb x i)
def Vw.nh (v : Vw) : Nat := sumN (fun b => if v.hot b = true then 1 else 0) v.nb
def CsOk (v : Vw) (s : Cs) : Prop :=
  (∀ b, b < v.nb → s.co b < v.nb ∧ s.ps b < s.mn (s.co b) ∧ s.co (s.co b) = s.co b ∧ s.ps (s.co b) = 0 ∧ s.tb (s.co b) (s.ps b) = b ∧ v.hot (s.co b) = v.hot b) ∧
  (∀ c, c < v.nb → s.co c = c → ∀ i, i < s.mn c → s.tb c i < v.nb ∧ s.co (s.tb c i) = c ∧ s.ps (s.tb c i) = i) ∧
  (∀ c, c < v.nb → s.co c ≠ c → s.mn c = 0) ∧
  sumN (fun c => if v.hot c = true then s.mn c else 0) v.nb = v.nh
theorem CsOk.ini (v : Vw) : CsOk v Cs.ini := by
  refine ⟨fun b hb => ⟨hb, Nat.zero_lt_one, rfl, rfl, rfl, rfl⟩, fun c hc _ i hi => ⟨hc, rfl, ?_⟩, fun c _ h => absurd rfl h, rfl⟩
  have h1 : i < 1 := hi
  show 0 = i
  omega
theorem CsOk.first {v : Vw} {s : Cs} (h : CsOk v s) {b : Nat} (hb : b < v.nb) : s.ps b = 0 ↔ s.co b = b := by
  obtain ⟨h1, h2, h3, h4, h5, -⟩ := h.1 b hb
  obtain ⟨-, -, -, -, k5, -⟩ := h.1 (s.co b) h1
  constructor
  · intro e
    rw [h3, h4] at k5
    rw [e] at h5
    rw [← k5, h5]
  · intro e
    rw [e] at h4
    exact h4
theorem CsOk.inj {v : Vw} {s : Cs} (h : CsOk v s) {b b' : Nat} (hb : b < v.nb) (hb' : b' < v.nb) (e1 : s.co b = s.co b') (e2 : s.ps b = s.ps b') : b = b' := by
  have h1 := (h.1 b hb).2.2.2.2.1
  have h2 := (h.1 b' hb').2.2.2.2.1
  rw [← h1, ← h2, e1, e2]
theorem CsOk.jn {v : Vw} {s : Cs} (h : CsOk v s) {u w : Nat} (hu : u < v.nb) (hw : w < v.nb) (hhu : v.hot u = true) (hhw : v.hot w = true) (hc : s.can u w = true) : CsOk v (s.jn u w) := by
  have hc' := of_decide_eq_true hc
  obtain ⟨hne, hlast, hfirst, -⟩ := hc'
  have hcw : s.co w = w := (h.first hw).mp hfirst
  obtain ⟨u1, u2, u3, u4, u5, u6⟩ := h.1 u hu
  obtain ⟨w1, w2, w3, w4, w5, w6⟩ := h.1 w hw
  obtain ⟨hA, hB, hC, hS⟩ := h
  have eco : ∀ b, (s.jn u w).co b = if s.co b = s.co w then s.co u else s.co b := fun _ => rfl
  have eps : ∀ b, (s.jn u w).ps b = if s.co b = s.co w then s.ps b + s.mn (s.co u) else s.ps b := fun _ => rfl
  have emn : ∀ x, (s.jn u w).mn x = if x = s.co u then s.mn (s.co u) + s.mn (s.co w) else if x = s.co w then 0 else s.mn x := fun _ => rfl
  have etb : ∀ x i, (s.jn u w).tb x i = if x = s.co u ∧ s.mn (s.co u) ≤ i then s.tb (s.co w) (i - s.mn (s.co u)) else s.tb x i := fun _ _ => rfl
  generalize s.jn u w = s' at eco eps emn etb
  generalize hcu : s.co u = cu at *
  generalize hdw : s.co w = dw at *
  have k1 : s'.co cu = cu := by rw [eco, u3, if_neg hne]
  have k2 : s'.mn cu = s.mn cu + s.mn dw := by rw [emn, if_pos rfl]
  have k3 : s'.ps cu = 0 := by rw [eps, u3, if_neg hne, u4]
  refine ⟨?_, ?_, ?_, ?_⟩
  · intro b hb
    obtain ⟨b1, b2, b3, b4, b5, b6⟩ := hA b hb
    by_cases q : s.co b = dw
    · have e1 : s'.co b = cu := by rw [eco, if_pos q]
      have e2 : s'.ps b = s.ps b + s.mn cu := by rw [eps, if_pos q]
      rw [e1, e2, k1, k2, k3, etb, if_pos ⟨rfl, Nat.le_add_left _ _⟩, Nat.add_sub_cancel]
      rw [q] at b2 b5 b6
      exact ⟨u1, by omega, rfl, rfl, b5, by rw [u6, ← b6, w6, hhu, hhw]⟩
    · have e1 : s'.co b = s.co b := by rw [eco, if_neg q]
      have e2 : s'.ps b = s.ps b := by rw [eps, if_neg q]
      have e3 : s'.co (s.co b) = s.co b := by rw [eco, b3, if_neg q]
      have e4 : s'.ps (s.co b) = 0 := by rw [eps, b3, if_neg q, b4]
      rw [e1, e2, e3, e4]
      refine ⟨b1, ?_, rfl, rfl, ?_, b6⟩
      · rw [emn]
        by_cases q2 : s.co b = cu
        · rw [if_pos q2]
          rw [q2] at b2
          omega
        · rw [if_neg q2, if_neg q]
          exact b2
      · rw [etb, if_neg]
        · exact b5
        · rintro ⟨q2, q3⟩
          rw [q2] at b2
          omega
  · intro x hx hr i hi
    rw [eco] at hr
    by_cases q : s.co x = dw
    · rw [if_pos q] at hr
      rw [← hr, u3] at q
      exact absurd q hne
    · rw [if_neg q] at hr
      by_cases q2 : x = cu
      · subst q2
        rw [k2] at hi
        rw [etb]
        by_cases q3 : s.mn x ≤ i
        · rw [if_pos ⟨rfl, q3⟩]
          obtain ⟨t1, t2, t3⟩ := hB dw w1 w3 (i - s.mn x) (by omega)
          rw [eco, eps, t2, if_pos rfl, if_pos rfl, t3]
          exact ⟨t1, rfl, by omega⟩
        · rw [if_neg (fun z => q3 z.2)]
          obtain ⟨t1, t2, t3⟩ := hB x hx hr i (by omega)
          rw [eco, eps, t2, if_neg hne, if_neg hne, t3]
          exact ⟨t1, rfl, rfl⟩
      · have q3 : x ≠ dw := fun z => q (by rw [hr, z])
        rw [emn, if_neg q2, if_neg q3] at hi
        rw [etb, if_neg (fun z => q2 z.1)]
        obtain ⟨t1, t2, t3⟩ := hB x hx hr i hi
        rw [eco, eps, t2, if_neg q3, if_neg q3, t3]
        exact ⟨t1, rfl, rfl⟩
  · intro x hx hr
    rw [eco] at hr
    rw [emn]
    by_cases q2 : x = cu
    · subst q2
      rw [u3, if_neg hne] at hr
      exact absurd rfl hr
    · rw [if_neg q2]
      by_cases q3 : x = dw
      · rw [if_pos q3]
      · rw [if_neg q3]
        refine hC x hx ?_
        by_cases q : s.co x = dw
        · rw [q]
          exact Ne.symm q3
        · rw [if_neg q] at hr
          exact hr
  · rw [← hS]
    have hcl : cu < v.nb := u1
    have h2 := sumN_two (f := fun c => if v.hot c = true then s.mn c else 0) (g := fun c => if v.hot c = true then s'.mn c else 0) u1 w1 hne (fun k _ a1 a2 => by
      show (if v.hot k = true then s'.mn k else 0) = if v.hot k = true then s.mn k else 0
      rw [emn, if_neg a1, if_neg a2])
    have e1 : v.hot cu = true := by rw [u6, hhu]
    have e2 : v.hot dw = true := by rw [w6, hhw]
    have e3 : s'.mn dw = 0 := by rw [emn, if_neg (Ne.symm hne), if_pos rfl]
    simp only [e1, e2, if_true, k2, e3] at h2
    omega
def chs (v : Vw) : Nat → Cs
  | 0 => Cs.ini
  | i + 1 => if (chs v i).can (v.fr (v.sq i)) (v.ta (v.sq i)) = true then (chs v i).jn (v.fr (v.sq i)) (v.ta (v.sq i)) else chs v i
def Vw.cs (v : Vw) : Cs := chs v v.sn
theorem chs_ok {v : Vw} (h : v.ok) : ∀ i, i ≤ v.sn → CsOk v (chs v i) := by
  intro i
  induction i with
  | zero => exact fun _ => CsOk.ini v
  | succ i ih =>
    intro hi
    have h1 := ih (by omega)
    obtain ⟨h2, h3⟩ := (srt_sl h).1 i (by omega)
    obtain ⟨h4, h5, -⟩ := h.2.1 _ h2
    have h6 := cand_hot h3
    rw [chs]
    by_cases q : (chs v i).can (v.fr (v.sq i)) (v.ta (v.sq i)) = true
    · rw [if_pos q]
      exact h1.jn h4 h5 h6.1 h6.2 q
    · rw [if_neg q]
      exact h1
theorem cs_ok {v : Vw} (h : v.ok) : CsOk v v.cs := chs_ok h _ (Nat.le_refl _)
theorem CsOk.room {v : Vw} {s : Cs} (h : CsOk v s) {c d : Nat} (hc : c < v.nb) (hd : d < v.nb) (hcd : c ≠ d) (h1 : v.hot c = true) (h2 : v.hot d = true) : s.mn c + s.mn d ≤ v.nh := by
  have h3 := sumN_ge2 (f := fun c => if v.hot c = true then s.mn c else 0) hc hd hcd
  simp only [h1, h2, if_true, h.2.2.2] at h3
  exact h3
theorem nh_le (v : Vw) : v.nh ≤ v.nb := by
  have h : ∀ n, sumN (fun b => if v.hot b = true then 1 else 0) n ≤ n := by
    intro n
    induction n with
    | zero => exact Nat.le_refl _
    | succ n ih =>
      rw [sumN]
      split <;> omega
  exact h _
end
section
/-! PLAIN LAW 3: the chains' order -/
set_option maxRecDepth 100000
def tmv (v : Vw) (s : Cs) (pl : Nat → Bool) (c k : Nat) : Int64 := if (s.co (v.fr k) = c ∧ pl (v.ta k) = true) ∨ (s.co (v.ta k) = c ∧ pl (v.fr k) = true) then v.ct k else 0
/-- the counts of all ways between a chain and what is placed -/
def sumc (v : Vw) (s : Cs) (pl : Nat → Bool) (c : Nat) : Int64 := sumI (tmv v s pl c) v.nw
theorem sumc_nn {v : Vw} (h : v.ok) (s : Cs) (pl : Nat → Bool) (c : Nat) : 0 ≤ (sumc v s pl c).toInt := by
  refine (sumI_bd h.1.2.2 (fun k hk => ?_)).1
  unfold tmv
  split
  · exact (h.2.1 k hk).2.2
  · exact ⟨by decide, by decide⟩
theorem sumc_none (v : Vw) (s : Cs) (c : Nat) : sumc v s (fun _ => false) c = 0 := by
  refine sumI_zero (fun k hk => ?_)
  unfold tmv
  simp
/-- the chain that comes next, met by its least block first: among the blocks below the given one -/
def bst (v : Vw) (s : Cs) (pl : Nat → Bool) : Nat → Option Nat
  | 0 => none
  | b + 1 => if v.hot b = true ∧ pl b = false then (match bst v s pl b with
      | none => some (s.co b)
      | some q => if sumc v s pl q < sumc v s pl (s.co b) then some (s.co b) else some q) else bst v s pl b
theorem bst_skip {v : Vw} {s : Cs} {pl : Nat → Bool} {b : Nat} (h : ¬ (v.hot b = true ∧ pl b = false)) : bst v s pl (b + 1) = bst v s pl b := by
  rw [bst, if_neg h]
theorem bst_new {v : Vw} {s : Cs} {pl : Nat → Bool} {b : Nat} (h1 : v.hot b = true) (h2 : pl b = false) (e : bst v s pl b = none) : bst v s pl (b + 1) = some (s.co b) := by
  rw [bst, if_pos ⟨h1, h2⟩, e]
theorem bst_up {v : Vw} {s : Cs} {pl : Nat → Bool} {b q : Nat} (h1 : v.hot b = true) (h2 : pl b = false) (e : bst v s pl b = some q) (h3 : sumc v s pl q < sumc v s pl (s.co b)) : bst v s pl (b + 1) = some (s.co b) := by
  rw [bst, if_pos ⟨h1, h2⟩, e]
  simp only [h3, if_true]
theorem bst_stay {v : Vw} {s : Cs} {pl : Nat → Bool} {b q : Nat} (h1 : v.hot b = true) (h2 : pl b = false) (e : bst v s pl b = some q) (h3 : ¬ sumc v s pl q < sumc v s pl (s.co b)) : bst v s pl (b + 1) = some q := by
  rw [bst, if_pos ⟨h1, h2⟩, e]
  simp only [h3, if_false]
/-- n placed, in which order, and whether -/
def Pl : Type := Nat × (Nat → Nat) × (Nat → Bool)
def Pl.n (q : Pl) : Nat := Prod.fst q
def Pl.od (q : Pl) : Nat → Nat := Prod.fst (Prod.snd q)
def Pl.pl (q : Pl) : Nat → Bool := Prod.snd (Prod.snd q)
def Pl.ini : Pl := (0, fun _ => 0, fun _ => false)
def Pl.put (s : Cs) (q : Pl) (c : Nat) : Pl := (q.n + s.mn c, fun i => if i < q.n then q.od i else s.tb c (i - q.n), fun b => q.pl b || decide (s.co b = c))
def plc (v : Vw) (s : Cs) : Nat → Pl
  | 0 => Pl.ini
  | t + 1 => if (plc v s t).n < v.nh then (plc v s t).put s ((bst v s (plc v s t).pl v.nb).getD 0) else plc v s t
def PlOk (v : Vw) (s : Cs) (q : Pl) : Prop :=
  (∀ b, b < v.nb → (q.pl b = true → v.hot b = true) ∧ q.pl (s.co b) = q.pl b) ∧
  q.n = sumN (fun c => if q.pl c = true then s.mn c else 0) v.nb ∧
  (∀ i, i < q.n → q.od i < v.nb ∧ q.pl (q.od i) = true) ∧
  ∀ i j, i < j → j < q.n → q.od i ≠ q.od j
theorem bst_some {v : Vw} {s : Cs} {q : Pl} (h : CsOk v s) (hq : PlOk v s q) : ∀ (B : Nat), B ≤ v.nb → ∀ c, bst v s q.pl B = some c → c < v.nb ∧ s.co c = c ∧ v.hot c = true ∧ q.pl c = false := by
  intro B
  induction B with
  | zero =>
    intro _ c hc
    cases hc
  | succ B ih =>
    intro hB c hc
    have key : v.hot B = true → q.pl B = false → s.co B < v.nb ∧ s.co (s.co B) = s.co B ∧ v.hot (s.co B) = true ∧ q.pl (s.co B) = false := by
      intro a1 a2
      obtain ⟨b1, b2, b3, b4, b5, b6⟩ := h.1 B (by omega)
      exact ⟨b1, b3, by rw [b6, a1], by rw [(hq.1 B (by omega)).2, a2]⟩
    by_cases z : v.hot B = true ∧ q.pl B = false
    · rcases e : bst v s q.pl B with _ | g
      · rw [bst_new z.1 z.2 e] at hc
        cases hc
        exact key z.1 z.2
      · by_cases z3 : sumc v s q.pl g < sumc v s q.pl (s.co B)
        · rw [bst_up z.1 z.2 e z3] at hc
          cases hc
          exact key z.1 z.2
        · rw [bst_stay z.1 z.2 e z3] at hc
          exact ih (by omega) c (by rw [e]; exact hc)
    · rw [bst_skip z] at hc
      exact ih (by omega) c hc
theorem bst_ne {v : Vw} {s : Cs} {pl : Nat → Bool} : ∀ (B b : Nat), b < B → v.hot b = true → pl b = false → ∃ c, bst v s pl B = some c := by
  intro B
  induction B with
  | zero =>
    intro b hb
    omega
  | succ B ih =>
    intro b hb h1 h2
    by_cases z : v.hot B = true ∧ pl B = false
    · rcases e : bst v s pl B with _ | g
      · exact ⟨_, bst_new z.1 z.2 e⟩
      · by_cases z3 : sumc v s pl g < sumc v s pl (s.co B)
        · exact ⟨_, bst_up z.1 z.2 e z3⟩
        · exact ⟨_, bst_stay z.1 z.2 e z3⟩
    · rw [bst_skip z]
      refine ih b ?_ h1 h2
      rcases Nat.lt_or_ge b B with q | q
      · exact q
      · have e : b = B := by omega
        subst e
        exact absurd ⟨h1, h2⟩ z
theorem bst_none {v : Vw} {s : Cs} {pl : Nat → Bool} : ∀ (B : Nat), (∀ b, b < B → ¬ (v.hot b = true ∧ pl b = false)) → bst v s pl B = none := by
  intro B
  induction B with
  | zero => exact fun _ => rfl
  | succ B ih =>
    intro h
    rw [bst_skip (h B (by omega))]
    exact ih (fun b hb => h b (by omega))
/-- nothing is placed: the chain of the first hot block -/
theorem bst_first {v : Vw} {s : Cs} {b0 : Nat} (h0 : v.hot b0 = true) (hl : ∀ b, b < b0 → v.hot b = false) : ∀ B, b0 < B → bst v s (fun _ => false) B = some (s.co b0) := by
  intro B
  induction B with
  | zero =>
    intro h
    omega
  | succ B ih =>
    intro h
    rcases Nat.lt_or_ge b0 B with q | q
    · have e := ih q
      by_cases z : v.hot B = true ∧ (fun _ => false : Nat → Bool) B = false
      · refine bst_stay z.1 z.2 e ?_
        rw [sumc_none, sumc_none]
        decide
      · rw [bst_skip z]
        exact e
    · have e : b0 = B := by omega
      subst e
      refine bst_new h0 rfl (bst_none _ (fun b hb z => ?_))
      rw [hl b hb] at z
      exact absurd z.1 (by decide)
theorem PlOk.ini (v : Vw) (s : Cs) : PlOk v s Pl.ini := by
  refine ⟨fun b _ => ⟨(fun h => by cases h), rfl⟩, ?_, fun i hi => absurd hi (Nat.not_lt_zero i), fun i j _ hj => absurd hj (Nat.not_lt_zero j)⟩
  have h : ∀ n, sumN (fun c => if Pl.ini.pl c = true then s.mn c else 0) n = 0 := by
    intro n
    induction n with
    | zero => rfl
    | succ n ih =>
      rw [sumN, ih]
      rfl
  exact (h _).symm
theorem PlOk.le {v : Vw} {s : Cs} {q : Pl} (h : CsOk v s) (hq : PlOk v s q) : q.n ≤ v.nh := by
  rw [hq.2.1, ← h.2.2.2]
  refine sumN_le (fun k hk => ?_)
  show (if q.pl k = true then s.mn k else 0) ≤ if v.hot k = true then s.mn k else 0
  by_cases z : q.pl k = true
  · rw [if_pos z, if_pos ((hq.1 k hk).1 z)]
    exact Nat.le_refl _
  · rw [if_neg z]
    exact Nat.zero_le _
theorem PlOk.more {v : Vw} {s : Cs} {q : Pl} (h : CsOk v s) (hq : PlOk v s q) (hn : q.n < v.nh) : ∃ b, b < v.nb ∧ v.hot b = true ∧ q.pl b = false := by
  refine Classical.byContradiction (fun hc => ?_)
  have h1 : ∀ b, b < v.nb → v.hot b = true → q.pl b = true := by
    intro b hb hh
    cases e : q.pl b with
    | true => rfl
    | false => exact absurd ⟨b, hb, hh, e⟩ hc
  have h2 : q.n = v.nh := by
    rw [hq.2.1, ← h.2.2.2]
    refine sumN_congr (fun k hk => ?_)
    show (if q.pl k = true then s.mn k else 0) = if v.hot k = true then s.mn k else 0
    by_cases z : v.hot k = true
    · rw [if_pos z, if_pos (h1 k hk z)]
    · rw [if_neg z, if_neg (fun z2 => z ((hq.1 k hk).1 z2))]
  omega
theorem PlOk.put {v : Vw} {s : Cs} {q : Pl} {c : Nat} (h : CsOk v s) (hq : PlOk v s q) (hc : c < v.nb) (hr : s.co c = c) (hh : v.hot c = true) (hp : q.pl c = false) : PlOk v s (q.put s c) := by
  have epl : ∀ b, (q.put s c).pl b = (q.pl b || decide (s.co b = c)) := fun _ => rfl
  have en : (q.put s c).n = q.n + s.mn c := rfl
  have eod : ∀ i, (q.put s c).od i = if i < q.n then q.od i else s.tb c (i - q.n) := fun _ => rfl
  generalize q.put s c = q' at epl en eod
  obtain ⟨h1, h2, h3, h4⟩ := hq
  have hin : ∀ i, q.n ≤ i → i < q'.n → s.tb c (i - q.n) < v.nb ∧ s.co (s.tb c (i - q.n)) = c ∧ s.ps (s.tb c (i - q.n)) = i - q.n := by
    intro i a1 a2
    exact h.2.1 c hc hr (i - q.n) (by omega)
  refine ⟨?_, ?_, ?_, ?_⟩
  · intro b hb
    obtain ⟨a1, a2⟩ := h1 b hb
    obtain ⟨b1, b2, b3, b4, b5, b6⟩ := h.1 b hb
    rw [epl, epl, b3, a2]
    refine ⟨fun z => ?_, rfl⟩
    rw [Bool.or_eq_true] at z
    rcases z with z | z
    · exact a1 z
    · have z := of_decide_eq_true z
      rw [← b6, z, hh]
  · rw [en, h2]
    have e := sumN_upd (f := fun c => if q.pl c = true then s.mn c else 0) (g := fun c => if q'.pl c = true then s.mn c else 0) hc (fun k hk a1 => by
      show (if q'.pl k = true then s.mn k else 0) = if q.pl k = true then s.mn k else 0
      rw [epl]
      by_cases z : s.co k = c
      · rw [h.2.2.1 k hk (by rw [z]; exact Ne.symm a1)]
        simp
      · simp [z])
    have e1 : q'.pl c = true := by rw [epl, hr]; simp
    simp only [e1, hp, if_true] at e
    simp at e
    omega
  · intro i hi
    rw [eod]
    by_cases z : i < q.n
    · rw [if_pos z, epl, (h3 i z).2]
      exact ⟨(h3 i z).1, rfl⟩
    · rw [if_neg z]
      obtain ⟨t1, t2, t3⟩ := hin i (by omega) hi
      rw [epl, t2]
      exact ⟨t1, by simp⟩
  · intro i j hij hj
    rw [eod, eod]
    by_cases z : j < q.n
    · rw [if_pos z, if_pos (by omega)]
      exact h4 i j hij z
    · rw [if_neg z]
      obtain ⟨t1, t2, t3⟩ := hin j (by omega) hj
      by_cases z2 : i < q.n
      · rw [if_pos z2]
        intro e
        have a1 := (h3 i z2).2
        rw [e, ← (h1 _ t1).2, t2, hp] at a1
        exact absurd a1 (by decide)
      · rw [if_neg z2]
        obtain ⟨r1, r2, r3⟩ := hin i (by omega) (by omega)
        intro e
        rw [e, t3] at r3
        omega
/-- one round: which chain comes next -/
theorem plc_step {v : Vw} {s : Cs} {t : Nat} (h : CsOk v s) (hq : PlOk v s (plc v s t)) (hn : (plc v s t).n < v.nh) : ∃ c, bst v s (plc v s t).pl v.nb = some c ∧ c < v.nb ∧ s.co c = c ∧ v.hot c = true ∧ (plc v s t).pl c = false ∧ plc v s (t + 1) = (plc v s t).put s c ∧ 0 < s.mn c ∧ PlOk v s ((plc v s t).put s c) ∧ (plc v s t).n + s.mn c ≤ v.nh := by
  obtain ⟨b, hb, h1, h2⟩ := hq.more h hn
  obtain ⟨c, hc⟩ := bst_ne (v := v) (s := s) (pl := (plc v s t).pl) v.nb b hb h1 h2
  obtain ⟨c1, c2, c3, c4⟩ := bst_some h hq v.nb (Nat.le_refl _) c hc
  have c5 := hq.put h c1 c2 c3 c4
  refine ⟨c, hc, c1, c2, c3, c4, ?_, ?_, c5, c5.le h⟩
  · rw [plc, if_pos hn, hc]
    rfl
  · have := (h.1 c c1).2.1
    rw [c2] at this
    omega
theorem plc_ok {v : Vw} {s : Cs} (h : CsOk v s) : ∀ t, PlOk v s (plc v s t) := by
  intro t
  induction t with
  | zero => exact PlOk.ini v s
  | succ t ih =>
    by_cases z : (plc v s t).n < v.nh
    · obtain ⟨c, -, -, -, -, -, e, -, k, -⟩ := plc_step h ih z
      rw [e]
      exact k
    · rw [plc, if_neg z]
      exact ih
theorem plc_n {v : Vw} {s : Cs} (h : CsOk v s) : ∀ t, t ≤ v.nh → t ≤ (plc v s t).n := by
  intro t
  induction t with
  | zero => exact fun _ => Nat.zero_le _
  | succ t ih =>
    intro ht
    have h1 := ih (by omega)
    by_cases z : (plc v s t).n < v.nh
    · obtain ⟨c, -, -, -, -, -, e, k, -⟩ := plc_step h (plc_ok h t) z
      rw [e]
      show t + 1 ≤ (plc v s t).n + s.mn c
      omega
    · rw [plc, if_neg z]
      omega
theorem plc_rest {v : Vw} {s : Cs} {t : Nat} (h : v.nh ≤ (plc v s t).n) : ∀ j, plc v s (t + j) = plc v s t := by
  intro j
  induction j with
  | zero => rfl
  | succ j ih =>
    rw [← Nat.add_assoc, plc, ih, if_neg (by omega)]
def Vw.pf (v : Vw) : Pl := plc v v.cs v.nh
theorem plc_fin {v : Vw} (h : v.ok) {t : Nat} (ht : v.nh ≤ (plc v v.cs t).n) : plc v v.cs t = v.pf := by
  have h2 : v.nh ≤ (plc v v.cs v.nh).n := plc_n (cs_ok h) v.nh (Nat.le_refl _)
  unfold Vw.pf
  rcases Nat.le_total t v.nh with q | q
  · have e := plc_rest ht (v.nh - t)
    rw [show t + (v.nh - t) = v.nh by omega] at e
    exact e.symm
  · have e := plc_rest h2 (t - v.nh)
    rw [show v.nh + (t - v.nh) = t by omega] at e
    exact e
theorem pf_ok {v : Vw} (h : v.ok) : PlOk v v.cs v.pf ∧ v.pf.n = v.nh := by
  have h1 := plc_ok (cs_ok h) v.nh
  have h2 : v.nh ≤ (plc v v.cs v.nh).n := plc_n (cs_ok h) v.nh (Nat.le_refl _)
  have h3 := h1.le (cs_ok h)
  exact ⟨h1, by show (plc v v.cs v.nh).n = v.nh; omega⟩
/-- what one way adds to a chain's score when the chain h has been placed -/
def gsc (v : Vw) (s : Cs) (pl : Nat → Bool) (h c k : Nat) : Int64 :=
  (if v.hot (v.fr k) = true ∧ v.hot (v.ta k) = true ∧ s.co (v.fr k) = h ∧ pl (v.ta k) = false ∧ s.co (v.ta k) = c then v.ct k else 0) +
  (if v.hot (v.fr k) = true ∧ v.hot (v.ta k) = true ∧ s.co (v.ta k) = h ∧ pl (v.fr k) = false ∧ s.co (v.fr k) = c then v.ct k else 0)
theorem gsc_ok {v : Vw} {s : Cs} {q : Pl} {h c k : Nat} (hv : v.ok) (hs : CsOk v s) (hq : PlOk v s q) (hh : v.hot h = true) (hc : c < v.nb) (hcr : s.co c = c) (hch : v.hot c = true) (hpc : (q.put s h).pl c = false) (hph : q.pl h = false) (hhr : s.co h = h) (hhb : h < v.nb) (hk : k < v.nw) :
    tmv v s (q.put s h).pl c k = tmv v s q.pl c k + gsc v s (q.put s h).pl h c k := by
  obtain ⟨k1, k2, -⟩ := hv.2.1 k hk
  have epl : ∀ b, (q.put s h).pl b = (q.pl b || decide (s.co b = h)) := fun _ => rfl
  have hne : c ≠ h := by
    intro e
    rw [epl, hcr, e] at hpc
    simp at hpc
  have pc : q.pl c = false := by
    rw [epl] at hpc
    simp at hpc
    exact hpc.1
  have pu := (hq.1 _ k1).2
  have pw := (hq.1 _ k2).2
  have hu := (hs.1 _ k1).2.2.2.2.2
  have hw := (hs.1 _ k2).2.2.2.2.2
  unfold tmv gsc
  rw [epl, epl]
  generalize v.fr k = u at *
  generalize v.ta k = w at *
  by_cases a1 : s.co u = c
  · have p1 : q.pl u = false := by rw [← pu, a1, pc]
    have g1 : v.hot u = true := by rw [← hu, a1, hch]
    have a2 : ¬ s.co u = h := by rw [a1]; exact hne
    by_cases a3 : s.co w = h
    · have p2 : q.pl w = false := by rw [← pw, a3, hph]
      have g2 : v.hot w = true := by rw [← hw, a3, hh]
      have a4 : ¬ s.co w = c := by rw [a3]; exact Ne.symm hne
      simp [a1, a3, p1, p2, g1, g2, hne, Ne.symm hne]
    · simp [a1, a3, p1, g1, hne]
  · by_cases a3 : s.co w = c
    · have p2 : q.pl w = false := by rw [← pw, a3, pc]
      have g2 : v.hot w = true := by rw [← hw, a3, hch]
      by_cases a2 : s.co u = h
      · have p1 : q.pl u = false := by rw [← pu, a2, hph]
        have g1 : v.hot u = true := by rw [← hu, a2, hh]
        simp [a2, a3, p1, p2, g1, g2, hne, Ne.symm hne]
      · simp [a1, a2, a3, p2, hne]
    · simp [a1, a3]
theorem gsc_sum {v : Vw} {s : Cs} {q : Pl} {h c : Nat} (hv : v.ok) (hs : CsOk v s) (hq : PlOk v s q) (hh : v.hot h = true) (hc : c < v.nb) (hcr : s.co c = c) (hch : v.hot c = true) (hpc : (q.put s h).pl c = false) (hph : q.pl h = false) (hhr : s.co h = h) (hhb : h < v.nb) :
    sumc v s (q.put s h).pl c = sumc v s q.pl c + sumI (gsc v s (q.put s h).pl h c) v.nw :=
  sumI_add (fun k hk => gsc_ok hv hs hq hh hc hcr hch hpc hph hhr hhb hk)
end
section
/-! PLAIN LAW 4: the rows and their weights; the answers -/
set_option maxRecDepth 100000
def adj (row : Nat → Nat) (m x y : Nat) : Bool := (List.range m).any (fun i => decide (row i = x ∧ row (i + 1) = y))
theorem adj_iff {row : Nat → Nat} {m x y : Nat} : adj row m x y = true ↔ ∃ i, i < m ∧ row i = x ∧ row (i + 1) = y := by
  unfold adj
  rw [List.any_eq_true]
  constructor
  · rintro ⟨i, hi, e⟩
    exact ⟨i, List.mem_range.mp hi, of_decide_eq_true e⟩
  · rintro ⟨i, hi, e⟩
    exact ⟨i, List.mem_range.mpr hi, decide_eq_true e⟩
def wtm (v : Vw) (row : Nat → Nat) (m k : Nat) : Int64 := if v.fa k = true ∧ adj row m (v.fr k) (v.ta k) = true then v.ct k else 0
def wsm (v : Vw) (row : Nat → Nat) (m : Nat) : Int64 := sumI (wtm v row m) v.nw
/-- the weight of a row of n blocks -/
def wst (v : Vw) (row : Nat → Nat) (n : Nat) : Int64 := wsm v row (n - 1)
theorem adj_0 (row : Nat → Nat) (x y : Nat) : adj row 0 x y = false := rfl
theorem wsm_0 (v : Vw) (row : Nat → Nat) : wsm v row 0 = 0 := sumI_zero (fun k _ => by unfold wtm; rw [adj_0]; simp)
theorem adj_s {row : Nat → Nat} {m x y : Nat} : adj row (m + 1) x y = true ↔ adj row m x y = true ∨ (row m = x ∧ row (m + 1) = y) := by
  rw [adj_iff, adj_iff]
  constructor
  · rintro ⟨i, hi, e⟩
    rcases Nat.lt_or_ge i m with q | q
    · exact Or.inl ⟨i, q, e⟩
    · have z : i = m := by omega
      subst z
      exact Or.inr e
  · rintro (⟨i, hi, e⟩ | e)
    · exact ⟨i, by omega, e⟩
    · exact ⟨m, by omega, e⟩
theorem wsm_no {v : Vw} {row : Nat → Nat} {m : Nat} (h : ∀ k, k < v.nw → v.fr k = row m → v.ta k = row (m + 1) → v.fa k = false) : wsm v row (m + 1) = wsm v row m := by
  refine sumI_congr (fun k hk => ?_)
  unfold wtm
  by_cases a : v.fa k = true
  · have e : adj row (m + 1) (v.fr k) (v.ta k) = true ↔ adj row m (v.fr k) (v.ta k) = true := by
      rw [adj_s]
      refine ⟨fun z => z.elim id (fun z => ?_), Or.inl⟩
      rw [h k hk z.1.symm z.2.symm] at a
      exact absurd a (by decide)
    simp only [a, e]
  · simp [a]
theorem wsm_yes {v : Vw} {row : Nat → Nat} {m w : Nat} (hv : v.ok) (hw : w < v.nw) (h1 : v.fr w = row m) (h2 : v.ta w = row (m + 1)) (h3 : v.fa w = true) (hd : ∀ i, i < m → row i ≠ row m) : wsm v row (m + 1) = wsm v row m + v.ct w := by
  refine sumI_one hw (fun k hk hne => ?_) ?_
  · unfold wtm
    have e : adj row (m + 1) (v.fr k) (v.ta k) = true ↔ adj row m (v.fr k) (v.ta k) = true := by
      rw [adj_s]
      refine ⟨fun z => z.elim id (fun z => ?_), Or.inl⟩
      exact absurd (hv.2.2 k w hk hw (by rw [h1, z.1]) (by rw [h2, z.2])) hne
    simp only [e]
  · unfold wtm
    have e1 : adj row (m + 1) (v.fr w) (v.ta w) = true := adj_s.mpr (Or.inr ⟨h1.symm, h2.symm⟩)
    have e2 : ¬ adj row m (v.fr w) (v.ta w) = true := by
      rw [adj_iff]
      rintro ⟨i, hi, e, -⟩
      exact hd i hi (by rw [e, h1])
    rw [if_pos ⟨h3, e1⟩, if_neg (fun z => e2 z.2), Int64.zero_add]
/-- hot blocks below b; by number -/
def hc (v : Vw) : Nat → Nat := sumN (fun b => if v.hot b = true then 1 else 0)
theorem hc_s {v : Vw} {b : Nat} : hc v (b + 1) = if v.hot b = true then hc v b + 1 else hc v b := by
  show sumN _ b + (if v.hot b = true then 1 else 0) = _
  split <;> rfl
def bnf (v : Vw) : Nat → Nat → Nat
  | 0 => fun _ => 0
  | b + 1 => if v.hot b = true then va_up (bnf v b) (hc v b) b else bnf v b
def Vw.bn (v : Vw) : Nat → Nat := bnf v v.nb
theorem bnf_ok (v : Vw) : ∀ b, (∀ i, i < hc v b → bnf v b i < b ∧ v.hot (bnf v b i) = true) ∧ (∀ i j, i < j → j < hc v b → bnf v b i < bnf v b j) ∧ hc v b ≤ b := by
  intro b
  induction b with
  | zero => exact ⟨fun i hi => absurd hi (Nat.not_lt_zero i), fun i j _ hj => absurd hj (Nat.not_lt_zero j), Nat.le_refl _⟩
  | succ b ih =>
    obtain ⟨h1, h2, h3⟩ := ih
    rw [hc_s, bnf]
    by_cases q : v.hot b = true
    · simp only [if_pos q]
      refine ⟨fun i hi => ?_, fun i j hij hj => ?_, by omega⟩
      · unfold va_up
        by_cases z : i = hc v b
        · rw [if_pos z]
          exact ⟨by omega, q⟩
        · rw [if_neg z]
          obtain ⟨a1, a2⟩ := h1 i (by omega)
          exact ⟨by omega, a2⟩
      · unfold va_up
        rw [if_neg (show ¬ i = hc v b by omega)]
        by_cases z : j = hc v b
        · rw [if_pos z]
          exact (h1 i (by omega)).1
        · rw [if_neg z]
          exact h2 i j hij (by omega)
    · simp only [if_neg q]
      exact ⟨fun i hi => ⟨by have := (h1 i hi).1; omega, (h1 i hi).2⟩, h2, by omega⟩
theorem hc_nb (v : Vw) : hc v v.nb = v.nh := rfl
theorem bn_ok (v : Vw) : (∀ i, i < v.nh → v.bn i < v.nb ∧ v.hot (v.bn i) = true) ∧ ∀ i j, i < j → j < v.nh → v.bn i < v.bn j := by
  obtain ⟨h1, h2, -⟩ := bnf_ok v v.nb
  exact ⟨h1, h2⟩
/-- the first hot block -/
theorem bnf_first (v : Vw) : ∀ b, 0 < hc v b → ∀ x, x < bnf v b 0 → v.hot x = false := by
  intro b
  induction b with
  | zero =>
    intro h
    exact absurd h (Nat.lt_irrefl 0)
  | succ b ih =>
    intro h x hx
    rw [hc_s] at h
    rw [bnf] at hx
    by_cases q : v.hot b = true
    · rw [if_pos q] at hx
      unfold va_up at hx
      by_cases z : 0 = hc v b
      · rw [if_pos z] at hx
        cases e : v.hot x with
        | false => rfl
        | true =>
          have h9 : (fun c => if v.hot c = true then 1 else 0 : Nat → Nat) x ≤ sumN (fun c => if v.hot c = true then 1 else 0) b := sumN_ge (f := fun c => if v.hot c = true then 1 else 0) hx
          have h8 : sumN (fun c => if v.hot c = true then 1 else 0) b = 0 := z.symm
          simp only [e, if_true] at h9
          omega
      · rw [if_neg z] at hx
        exact ih (by omega) x hx
    · rw [if_neg q] at h hx
      exact ih h x hx
def Vw.bc (v : Vw) : Nat → Nat := v.pf.od
def Vw.w1 (v : Vw) : Int64 := wst v v.bn v.nh
def Vw.w2 (v : Vw) : Int64 := wst v (fun i => i) v.nb
def Vw.w3 (v : Vw) : Int64 := wst v v.bc v.nh
def Vw.bet (v : Vw) : Bool := decide (v.w1 < v.w3)
def Vw.rw (v : Vw) (k : Nat) : Nat := if v.bet = true then v.bc k else v.bn k
def Vw.w0 (v : Vw) : Int64 := if v.bet = true then v.w3 else v.w1
end
section
/-! how an object's cells stand for a Vw; calls inside a class -/
set_option maxRecDepth 100000
theorem dec1 (k : Nat) : nI k + Int32.ofInt (-1) = nI k - nI 1 := by
  rw [Int32.sub_eq_add_neg]
  rfl
theorem pred1 (k : Nat) : nI (k + 1) - nI 1 = nI k := nI_pred k
theorem va_up_up {α : Type} (f : Nat → α) (k : Nat) (x y : α) : va_up (va_up f k x) k y = va_up f k y := by
  funext j
  unfold va_up
  split <;> rfl
theorem va_up_me {α : Type} (f : Nat → α) (k : Nat) : va_up f k (f k) = f := by
  funext j
  unfold va_up
  split
  · next h => rw [h]
  · rfl
theorem va_up_sw {α : Type} (f : Nat → α) {k j : Nat} (x y : α) (h : k ≠ j) : va_up (va_up f k x) j y = va_up (va_up f j y) k x := by
  funext i
  unfold va_up
  by_cases e : i = k
  · subst e
    rw [if_neg h, if_pos rfl, if_pos rfl]
  · rw [if_neg e, if_neg e]
theorem sI_sI (σ : St) (k : Nat) (f g : Nat → Int32) : sI (sI σ k f) k g = sI σ k g := by
  unfold sI
  rw [va_up_up]
theorem sI_me (σ : St) (k : Nat) : sI σ k (σ.2.1 k) = σ := by
  unfold sI
  rw [va_up_me]
theorem sL_sL (σ : St) (k : Nat) (f g : Nat → Int64) : sL (sL σ k f) k g = sL σ k g := by
  unfold sL
  rw [va_up_up]
theorem sL_me (σ : St) (k : Nat) : sL σ k (σ.2.2 k) = σ := by
  unfold sL
  rw [va_up_me]
theorem sI_sL (σ : St) (k j : Nat) (f : Nat → Int64) (g : Nat → Int32) : sI (sL σ k f) j g = sL (sI σ j g) k f := rfl
theorem sI_sw (σ : St) {k j : Nat} (f g : Nat → Int32) (h : k ≠ j) : sI (sI σ k f) j g = sI (sI σ j g) k f := by
  unfold sI
  rw [va_up_sw σ.2.1 f g h]
theorem upd_me (f : Nat → Int32) (k : Nat) (x : Int32) : upd f k x k = x := by
  unfold upd
  rw [if_pos rfl]
theorem upd_ne {f : Nat → Int32} {k j : Nat} {x : Int32} (h : j ≠ k) : upd f k x j = f j := by
  unfold upd
  rw [if_neg h]
theorem updL_me (f : Nat → Int64) (k : Nat) (x : Int64) : vp_updL f k x k = x := by
  unfold vp_updL
  rw [if_pos rfl]
theorem updL_ne {f : Nat → Int64} {k j : Nat} {x : Int64} (h : j ≠ k) : vp_updL f k x j = f j := by
  unfold vp_updL
  rw [if_neg h]
/-- a run of cells filled by rising index -/
theorem upd_run {f : Nat → Int32} {n : Nat} {x : Int32} {g : Nat → Int32} (h : ∀ i, i < n → f i = g i) (hx : x = g n) : ∀ i, i < n + 1 → upd f n x i = g i := by
  intro i hi
  by_cases e : i = n
  · subst e
    rw [upd_me, hx]
  · rw [upd_ne e]
    exact h i (by omega)
theorem updL_run {f : Nat → Int64} {n : Nat} {x : Int64} {g : Nat → Int64} (h : ∀ i, i < n → f i = g i) (hx : x = g n) : ∀ i, i < n + 1 → vp_updL f n x i = g i := by
  intro i hi
  by_cases e : i = n
  · subst e
    rw [updL_me, hx]
  · rw [updL_ne e]
    exact h i (by omega)
theorem xcall_i {E : Ev} {a : Nat → Nat} {d : Nat → ClassId} {σ : St} {cc : ByteArray} {nL : Nat} {H : Heap} {locs : List Loc} {pc : Nat} {ls : Array Slot} {rest : List Value} {y : MethodName} {b : ByteArray} {mL : Nat} {ty : FieldType} {fr lo : Nat} {as : List Value} {post : Int32 → St → Prop} {idx : Nat}
    (G : CX E RX0 cc nL) (K : KX E (xt d)) (hH : XH E a d σ H locs) (hy : y.cls = RX0) (hM : CMi E.l y b mL ty fr lo E.D (xt d) (xw a d) (.ref (a 0) :: as) σ post) (q1 : Cond.methodLink RX0 idx y ∈ lw_all) (q2 : Cond.instanceMethod y ∈ lw_all) (q3 : Cond.selects RX0 y y ∈ lw_all) (q5 : Cond.code y b mL (some ty) ∈ lw_all) (hd : (parseMethodDescriptor y.desc).map (fun d => d.parameters.length) = some as.length)
    (hR : fr + 1 ≤ E.R.frames ∧ 8 + (mL + 11) + lo ≤ E.R.locals) (hls : ls.size = nL) {st : List Value} (hst : st = as.reverse ++ .ref (a 0) :: rest) (hrest : (rest.map fun v => v.category).sum ≤ 8) (dg : decode cc pc = .ok (.invokevirtual idx, 3))
    (kk : ∀ (r : Int32) (σ' : St) (H : Heap) (locs : List Loc), XH E a d σ' H locs → post r σ' → WE E H locs (pc + 3) ls (.int r :: rest)) : WE E H locs pc ls st := by
  have hh : y.cls ≠ "java/lang/invoke/MethodHandle" ∧ y.cls ≠ "java/lang/invoke/VarHandle" := by
    rw [hy]
    exact ⟨by decide +kernel, by decide +kernel⟩
  refine call_i (wr := []) (ci := 0) (T := TX0) (N := 21) (fs := ((xw a d σ).head?.elim [] (fun q => match q.2 with
    | .inr z => z.2
    | .inl _ => []))) G K hH [0, 1, 2, 3, 4, 5, 6, 7, 8, 9, 10, 11, 12, 13, 14, 15, 16, 17] [] rfl rfl rfl (by decide) rfl hM (lw_V q1 q2 (by rw [hy]; exact q3) (by rw [hy]; exact q19) q5) ⟨hh.1, hh.2, hd⟩ rfl (by rw [hy]; rfl) hR hls hst hrest dg (fun r σ' H locs hH hp => kk r σ' H locs hH hp)
theorem xcall_l {E : Ev} {a : Nat → Nat} {d : Nat → ClassId} {σ : St} {cc : ByteArray} {nL : Nat} {H : Heap} {locs : List Loc} {pc : Nat} {ls : Array Slot} {rest : List Value} {y : MethodName} {b : ByteArray} {mL : Nat}  {fr lo : Nat} {as : List Value} {post : Int64 → St → Prop} {idx : Nat}
    (G : CX E RX0 cc nL) (K : KX E (xt d)) (hH : XH E a d σ H locs) (hy : y.cls = RX0) (hM : CMl E.l y b mL fr lo E.D (xt d) (xw a d) (.ref (a 0) :: as) σ post) (q1 : Cond.methodLink RX0 idx y ∈ lw_all) (q2 : Cond.instanceMethod y ∈ lw_all) (q3 : Cond.selects RX0 y y ∈ lw_all) (q5 : Cond.code y b mL (some .long) ∈ lw_all) (hd : (parseMethodDescriptor y.desc).map (fun d => d.parameters.length) = some as.length)
    (hR : fr + 1 ≤ E.R.frames ∧ 8 + (mL + 11) + lo ≤ E.R.locals) (hls : ls.size = nL) {st : List Value} (hst : st = as.reverse ++ .ref (a 0) :: rest) (hrest : (rest.map fun v => v.category).sum ≤ 8) (dg : decode cc pc = .ok (.invokevirtual idx, 3))
    (kk : ∀ (r : Int64) (σ' : St) (H : Heap) (locs : List Loc), XH E a d σ' H locs → post r σ' → WE E H locs (pc + 3) ls (.long r :: rest)) : WE E H locs pc ls st := by
  have hh : y.cls ≠ "java/lang/invoke/MethodHandle" ∧ y.cls ≠ "java/lang/invoke/VarHandle" := by
    rw [hy]
    exact ⟨by decide +kernel, by decide +kernel⟩
  refine call_l (wr := []) (ci := 0) (T := TX0) (N := 21) (fs := ((xw a d σ).head?.elim [] (fun q => match q.2 with
    | .inr z => z.2
    | .inl _ => []))) G K hH [0, 1, 2, 3, 4, 5, 6, 7, 8, 9, 10, 11, 12, 13, 14, 15, 16, 17] [] rfl rfl rfl (by decide) rfl hM (lw_V q1 q2 (by rw [hy]; exact q3) (by rw [hy]; exact q19) q5) ⟨hh.1, hh.2, hd⟩ rfl (by rw [hy]; rfl) hR hls hst hrest dg (fun r σ' H locs hH hp => kk r σ' H locs hH hp)
theorem xcall_v {E : Ev} {a : Nat → Nat} {d : Nat → ClassId} {σ : St} {cc : ByteArray} {nL : Nat} {H : Heap} {locs : List Loc} {pc : Nat} {ls : Array Slot} {rest : List Value} {y : MethodName} {b : ByteArray} {mL : Nat}  {fr lo : Nat} {as : List Value} {post : St → Prop} {idx : Nat}
    (G : CX E RX0 cc nL) (K : KX E (xt d)) (hH : XH E a d σ H locs) (hy : y.cls = RX0) (hM : CMv E.l y b mL fr lo E.D (xt d) (xw a d) (.ref (a 0) :: as) σ post) (q1 : Cond.methodLink RX0 idx y ∈ lw_all) (q2 : Cond.instanceMethod y ∈ lw_all) (q3 : Cond.selects RX0 y y ∈ lw_all) (q5 : Cond.code y b mL none ∈ lw_all) (hd : (parseMethodDescriptor y.desc).map (fun d => d.parameters.length) = some as.length)
    (hR : fr + 1 ≤ E.R.frames ∧ 8 + (mL + 11) + lo ≤ E.R.locals) (hls : ls.size = nL) {st : List Value} (hst : st = as.reverse ++ .ref (a 0) :: rest) (hrest : (rest.map fun v => v.category).sum ≤ 8) (dg : decode cc pc = .ok (.invokevirtual idx, 3))
    (kk : ∀ (σ' : St) (H : Heap) (locs : List Loc), XH E a d σ' H locs → post σ' → WE E H locs (pc + 3) ls rest) : WE E H locs pc ls st := by
  have hh : y.cls ≠ "java/lang/invoke/MethodHandle" ∧ y.cls ≠ "java/lang/invoke/VarHandle" := by
    rw [hy]
    exact ⟨by decide +kernel, by decide +kernel⟩
  refine call_v (wr := []) (ci := 0) (T := TX0) (N := 21) (fs := ((xw a d σ).head?.elim [] (fun q => match q.2 with
    | .inr z => z.2
    | .inl _ => []))) G K hH [0, 1, 2, 3, 4, 5, 6, 7, 8, 9, 10, 11, 12, 13, 14, 15, 16, 17] [] rfl rfl rfl (by decide) rfl hM (lw_V q1 q2 (by rw [hy]; exact q3) (by rw [hy]; exact q19) q5) ⟨hh.1, hh.2, hd⟩ rfl (by rw [hy]; rfl) hR hls hst hrest dg (fun σ' H locs hH hp => kk σ' H locs hH hp)
theorem mcall_i {E : Ev} {a : Nat → Nat} {d : Nat → ClassId} {σ : St} {cc : ByteArray} {nL : Nat} {H : Heap} {locs : List Loc} {pc : Nat} {ls : Array Slot} {rest : List Value} {y : MethodName} {b : ByteArray} {mL : Nat} {ty : FieldType} {fr lo : Nat} {as : List Value} {post : Int32 → St → Prop} {idx : Nat}
    (G : CX E RX1 cc nL) (K : KX E (mt d)) (hH : MH E a d σ H locs) (hy : y.cls = RX1) (hM : CMi E.l y b mL ty fr lo E.D (mt d) (mw a d) (.ref (a 0) :: as) σ post) (q1 : Cond.methodLink RX1 idx y ∈ lw_all) (q2 : Cond.instanceMethod y ∈ lw_all) (q3 : Cond.selects RX1 y y ∈ lw_all) (q5 : Cond.code y b mL (some ty) ∈ lw_all) (hd : (parseMethodDescriptor y.desc).map (fun d => d.parameters.length) = some as.length)
    (hR : fr + 1 ≤ E.R.frames ∧ 8 + (mL + 11) + lo ≤ E.R.locals) (hls : ls.size = nL) {st : List Value} (hst : st = as.reverse ++ .ref (a 0) :: rest) (hrest : (rest.map fun v => v.category).sum ≤ 8) (dg : decode cc pc = .ok (.invokevirtual idx, 3))
    (kk : ∀ (r : Int32) (σ' : St) (H : Heap) (locs : List Loc), MH E a d σ' H locs → post r σ' → WE E H locs (pc + 3) ls (.int r :: rest)) : WE E H locs pc ls st := by
  have hh : y.cls ≠ "java/lang/invoke/MethodHandle" ∧ y.cls ≠ "java/lang/invoke/VarHandle" := by
    rw [hy]
    exact ⟨by decide +kernel, by decide +kernel⟩
  refine call_i (wr := []) (ci := 1) (T := TX1) (N := 18) (fs := ((mw a d σ).head?.elim [] (fun q => match q.2 with
    | .inr z => z.2
    | .inl _ => []))) G K hH [0, 1, 2, 3, 4, 5, 6, 7, 8, 9, 10, 11, 12, 13] [] rfl rfl rfl (by decide) rfl hM (lw_V q1 q2 (by rw [hy]; exact q3) (by rw [hy]; exact q20) q5) ⟨hh.1, hh.2, hd⟩ rfl (by rw [hy]; rfl) hR hls hst hrest dg (fun r σ' H locs hH hp => kk r σ' H locs hH hp)
theorem mcall_l {E : Ev} {a : Nat → Nat} {d : Nat → ClassId} {σ : St} {cc : ByteArray} {nL : Nat} {H : Heap} {locs : List Loc} {pc : Nat} {ls : Array Slot} {rest : List Value} {y : MethodName} {b : ByteArray} {mL : Nat}  {fr lo : Nat} {as : List Value} {post : Int64 → St → Prop} {idx : Nat}
    (G : CX E RX1 cc nL) (K : KX E (mt d)) (hH : MH E a d σ H locs) (hy : y.cls = RX1) (hM : CMl E.l y b mL fr lo E.D (mt d) (mw a d) (.ref (a 0) :: as) σ post) (q1 : Cond.methodLink RX1 idx y ∈ lw_all) (q2 : Cond.instanceMethod y ∈ lw_all) (q3 : Cond.selects RX1 y y ∈ lw_all) (q5 : Cond.code y b mL (some .long) ∈ lw_all) (hd : (parseMethodDescriptor y.desc).map (fun d => d.parameters.length) = some as.length)
    (hR : fr + 1 ≤ E.R.frames ∧ 8 + (mL + 11) + lo ≤ E.R.locals) (hls : ls.size = nL) {st : List Value} (hst : st = as.reverse ++ .ref (a 0) :: rest) (hrest : (rest.map fun v => v.category).sum ≤ 8) (dg : decode cc pc = .ok (.invokevirtual idx, 3))
    (kk : ∀ (r : Int64) (σ' : St) (H : Heap) (locs : List Loc), MH E a d σ' H locs → post r σ' → WE E H locs (pc + 3) ls (.long r :: rest)) : WE E H locs pc ls st := by
  have hh : y.cls ≠ "java/lang/invoke/MethodHandle" ∧ y.cls ≠ "java/lang/invoke/VarHandle" := by
    rw [hy]
    exact ⟨by decide +kernel, by decide +kernel⟩
  refine call_l (wr := []) (ci := 1) (T := TX1) (N := 18) (fs := ((mw a d σ).head?.elim [] (fun q => match q.2 with
    | .inr z => z.2
    | .inl _ => []))) G K hH [0, 1, 2, 3, 4, 5, 6, 7, 8, 9, 10, 11, 12, 13] [] rfl rfl rfl (by decide) rfl hM (lw_V q1 q2 (by rw [hy]; exact q3) (by rw [hy]; exact q20) q5) ⟨hh.1, hh.2, hd⟩ rfl (by rw [hy]; rfl) hR hls hst hrest dg (fun r σ' H locs hH hp => kk r σ' H locs hH hp)
theorem mcall_v {E : Ev} {a : Nat → Nat} {d : Nat → ClassId} {σ : St} {cc : ByteArray} {nL : Nat} {H : Heap} {locs : List Loc} {pc : Nat} {ls : Array Slot} {rest : List Value} {y : MethodName} {b : ByteArray} {mL : Nat}  {fr lo : Nat} {as : List Value} {post : St → Prop} {idx : Nat}
    (G : CX E RX1 cc nL) (K : KX E (mt d)) (hH : MH E a d σ H locs) (hy : y.cls = RX1) (hM : CMv E.l y b mL fr lo E.D (mt d) (mw a d) (.ref (a 0) :: as) σ post) (q1 : Cond.methodLink RX1 idx y ∈ lw_all) (q2 : Cond.instanceMethod y ∈ lw_all) (q3 : Cond.selects RX1 y y ∈ lw_all) (q5 : Cond.code y b mL none ∈ lw_all) (hd : (parseMethodDescriptor y.desc).map (fun d => d.parameters.length) = some as.length)
    (hR : fr + 1 ≤ E.R.frames ∧ 8 + (mL + 11) + lo ≤ E.R.locals) (hls : ls.size = nL) {st : List Value} (hst : st = as.reverse ++ .ref (a 0) :: rest) (hrest : (rest.map fun v => v.category).sum ≤ 8) (dg : decode cc pc = .ok (.invokevirtual idx, 3))
    (kk : ∀ (σ' : St) (H : Heap) (locs : List Loc), MH E a d σ' H locs → post σ' → WE E H locs (pc + 3) ls rest) : WE E H locs pc ls st := by
  have hh : y.cls ≠ "java/lang/invoke/MethodHandle" ∧ y.cls ≠ "java/lang/invoke/VarHandle" := by
    rw [hy]
    exact ⟨by decide +kernel, by decide +kernel⟩
  refine call_v (wr := []) (ci := 1) (T := TX1) (N := 18) (fs := ((mw a d σ).head?.elim [] (fun q => match q.2 with
    | .inr z => z.2
    | .inl _ => []))) G K hH [0, 1, 2, 3, 4, 5, 6, 7, 8, 9, 10, 11, 12, 13] [] rfl rfl rfl (by decide) rfl hM (lw_V q1 q2 (by rw [hy]; exact q3) (by rw [hy]; exact q20) q5) ⟨hh.1, hh.2, hd⟩ rfl (by rw [hy]; rfl) hR hls hst hrest dg (fun σ' H locs hH hp => kk σ' H locs hH hp)
/-- the table of ways between blocks: one more than the way, or 0 -/
def WyOk (v : Vw) (f : Nat → Int32) : Prop := ∀ u w, u < v.nb → w < v.nb → (∃ k, k < v.nw ∧ v.fr k = u ∧ v.ta k = w ∧ f (u * 200 + w) = nI (k + 1)) ∨ ((∀ k, k < v.nw → v.fr k = u → v.ta k = w → False) ∧ f (u * 200 + w) = nI 0)
def XR (σ : St) (v : Vw) : Prop := v.ok ∧ σ.1 0 = nI v.nb ∧ σ.1 7 = nI v.nw ∧ (∀ b, b < v.nb → σ.2.1 1 b = bI (v.hot b)) ∧ (∀ k, k < v.nw → σ.2.1 2 k = nI (v.fr k)) ∧ (∀ k, k < v.nw → σ.2.1 3 k = nI (v.ta k)) ∧ (∀ k, k < v.nw → σ.2.2 4 k = v.ct k) ∧ (∀ k, k < v.nw → σ.2.1 5 k = bI (v.fa k)) ∧ WyOk v (σ.2.1 6)
theorem XR.ok {σ : St} {v : Vw} (h : XR σ v) : v.ok := h.1
theorem XR.nb {σ : St} {v : Vw} (h : XR σ v) : σ.1 0 = nI v.nb := h.2.1
theorem XR.nw {σ : St} {v : Vw} (h : XR σ v) : σ.1 7 = nI v.nw := h.2.2.1
theorem XR.hot {σ : St} {v : Vw} (h : XR σ v) {b : Nat} (hb : b < v.nb) : σ.2.1 1 b = bI (v.hot b) := h.2.2.2.1 b hb
theorem XR.fr {σ : St} {v : Vw} (h : XR σ v) {k : Nat} (hk : k < v.nw) : σ.2.1 2 k = nI (v.fr k) := h.2.2.2.2.1 k hk
theorem XR.ta {σ : St} {v : Vw} (h : XR σ v) {k : Nat} (hk : k < v.nw) : σ.2.1 3 k = nI (v.ta k) := h.2.2.2.2.2.1 k hk
theorem XR.ct {σ : St} {v : Vw} (h : XR σ v) {k : Nat} (hk : k < v.nw) : σ.2.2 4 k = v.ct k := h.2.2.2.2.2.2.1 k hk
theorem XR.fa {σ : St} {v : Vw} (h : XR σ v) {k : Nat} (hk : k < v.nw) : σ.2.1 5 k = bI (v.fa k) := h.2.2.2.2.2.2.2.1 k hk
def MR (σ : St) (v : Vw) : Prop := v.ok ∧ σ.1 0 = nI v.nb ∧ σ.1 2 = nI v.nw ∧ (∀ b, b < v.nb → σ.2.1 1 b = bI (v.hot b)) ∧ (∀ k, k < v.nw → σ.2.1 3 k = nI (v.fr k)) ∧ (∀ k, k < v.nw → σ.2.1 4 k = nI (v.ta k)) ∧ (∀ k, k < v.nw → σ.2.2 5 k = v.ct k) ∧ (∀ k, k < v.nw → σ.2.1 6 k = bI (v.fa k))
theorem MR.ok {σ : St} {v : Vw} (h : MR σ v) : v.ok := h.1
theorem MR.nb {σ : St} {v : Vw} (h : MR σ v) : σ.1 0 = nI v.nb := h.2.1
theorem MR.nw {σ : St} {v : Vw} (h : MR σ v) : σ.1 2 = nI v.nw := h.2.2.1
theorem MR.hot {σ : St} {v : Vw} (h : MR σ v) {b : Nat} (hb : b < v.nb) : σ.2.1 1 b = bI (v.hot b) := h.2.2.2.1 b hb
theorem MR.fr {σ : St} {v : Vw} (h : MR σ v) {k : Nat} (hk : k < v.nw) : σ.2.1 3 k = nI (v.fr k) := h.2.2.2.2.1 k hk
theorem MR.ta {σ : St} {v : Vw} (h : MR σ v) {k : Nat} (hk : k < v.nw) : σ.2.1 4 k = nI (v.ta k) := h.2.2.2.2.2.1 k hk
theorem MR.ct {σ : St} {v : Vw} (h : MR σ v) {k : Nat} (hk : k < v.nw) : σ.2.2 5 k = v.ct k := h.2.2.2.2.2.2.1 k hk
theorem MR.fa {σ : St} {v : Vw} (h : MR σ v) {k : Nat} (hk : k < v.nw) : σ.2.1 6 k = bI (v.fa k) := h.2.2.2.2.2.2.2 k hk
theorem XR.way {σ : St} {v : Vw} (h : XR σ v) : WyOk v (σ.2.1 6) := h.2.2.2.2.2.2.2.2
theorem Vw.ok.bd {v : Vw} (h : v.ok) : 1 ≤ v.nb ∧ v.nb ≤ 200 ∧ v.nw ≤ 1000 := h.1
theorem Vw.ok.frb {v : Vw} (h : v.ok) {k : Nat} (hk : k < v.nw) : v.fr k < v.nb := (h.2.1 k hk).1
theorem Vw.ok.tab {v : Vw} (h : v.ok) {k : Nat} (hk : k < v.nw) : v.ta k < v.nb := (h.2.1 k hk).2.1
/-- is a number one of the blocks -/
def inB (nb : Nat) (b : Int32) : Bool := decide (0 ≤ b.toInt ∧ b.toInt < nb)
theorem inB_nI {nb j : Nat} (hj : j < 2147483648) : inB nb (nI j) = decide (j < nb) := by
  unfold inB
  rw [nI_toInt hj]
  by_cases h : j < nb
  · rw [decide_eq_true h]
    exact decide_eq_true ⟨by omega, by omega⟩
  · rw [decide_eq_false h]
    exact decide_eq_false (fun z => h (by omega))
theorem inB_neg {nb : Nat} {b : Int32} (h : b < 0) : inB nb b = false := by
  have h1 := Int32.lt_iff_toInt_lt.mp h
  rw [Int32.toInt_zero] at h1
  exact decide_eq_false (fun z => by omega)
theorem inB_t {nb : Nat} {b : Int32} (h : inB nb b = true) : ∃ j, j < nb ∧ b = nI j := by
  have h1 := of_decide_eq_true h
  have h2 : ¬ b < 0 := by
    intro z
    have z1 := Int32.lt_iff_toInt_lt.mp z
    rw [Int32.toInt_zero] at z1
    omega
  obtain ⟨j, hj, e⟩ := nI_of h2
  rw [e, nI_toInt hj] at h1
  exact ⟨j, by omega, e⟩
end
section
/-! PLAIN LAW 5: sorting by a heap -/
set_option maxRecDepth 100000
def Prm (n : Nat) (s s' : Nat → Nat) : Prop := (∀ i, i < n → ∃ j, j < n ∧ s' i = s j) ∧ (∀ j, j < n → ∃ i, i < n ∧ s' i = s j) ∧ ((∀ i j, i < n → j < n → s i = s j → i = j) → ∀ i j, i < n → j < n → s' i = s' j → i = j) ∧ ∀ i, n ≤ i → s' i = s i
theorem Prm.refl (n : Nat) (s : Nat → Nat) : Prm n s s := ⟨fun i hi => ⟨i, hi, rfl⟩, fun i hi => ⟨i, hi, rfl⟩, fun h => h, fun _ _ => rfl⟩
theorem Prm.trans {n : Nat} {s s' s'' : Nat → Nat} (h : Prm n s s') (h' : Prm n s' s'') : Prm n s s'' := by
  obtain ⟨a1, a2, a3, a4⟩ := h
  obtain ⟨b1, b2, b3, b4⟩ := h'
  refine ⟨fun i hi => ?_, fun j hj => ?_, fun z => b3 (a3 z), fun i hi => by rw [b4 i hi, a4 i hi]⟩
  · obtain ⟨j, hj, e⟩ := b1 i hi
    obtain ⟨k, hk, e2⟩ := a1 j hj
    exact ⟨k, hk, by rw [e, e2]⟩
  · obtain ⟨i, hi, e⟩ := a2 j hj
    obtain ⟨k, hk, e2⟩ := b2 i hi
    exact ⟨k, hk, by rw [e2, e]⟩
theorem Prm.mono {n m : Nat} {s s' : Nat → Nat} (h : Prm n s s') (hm : n ≤ m) : Prm m s s' := by
  obtain ⟨a1, a2, a3, a4⟩ := h
  refine ⟨fun i hi => ?_, fun j hj => ?_, fun z => ?_, fun i hi => a4 i (by omega)⟩
  · rcases Nat.lt_or_ge i n with q | q
    · obtain ⟨j, hj, e⟩ := a1 i q
      exact ⟨j, by omega, e⟩
    · exact ⟨i, hi, a4 i q⟩
  · rcases Nat.lt_or_ge j n with q | q
    · obtain ⟨i, hi, e⟩ := a2 j q
      exact ⟨i, by omega, e⟩
    · exact ⟨j, hj, a4 j q⟩
  · intro i j hi hj e
    rcases Nat.lt_or_ge i n with q | q
    · rcases Nat.lt_or_ge j n with q2 | q2
      · exact a3 (fun i j hi hj => z i j (by omega) (by omega)) i j q q2 e
      · obtain ⟨k, hk, e2⟩ := a1 i q
        rw [e2, a4 j q2] at e
        have := z k j (by omega) hj e
        omega
    · rcases Nat.lt_or_ge j n with q2 | q2
      · obtain ⟨k, hk, e2⟩ := a1 j q2
        rw [e2, a4 i q] at e
        have := z i k hi (by omega) e
        omega
      · rw [a4 i q, a4 j q2] at e
        exact z i j hi hj e
def swp (s : Nat → Nat) (k c : Nat) : Nat → Nat := fun i => if i = c then s k else if i = k then s c else s i
theorem swp_c (s : Nat → Nat) (k c : Nat) : swp s k c c = s k := by
  unfold swp
  rw [if_pos rfl]
theorem swp_k (s : Nat → Nat) (k c : Nat) : swp s k c k = s c := by
  unfold swp
  by_cases e : k = c
  · rw [if_pos e, e]
  · rw [if_neg e, if_pos rfl]
theorem swp_n {s : Nat → Nat} {k c i : Nat} (h1 : i ≠ k) (h2 : i ≠ c) : swp s k c i = s i := by
  unfold swp
  rw [if_neg h2, if_neg h1]
theorem Prm.swp {n k c : Nat} (s : Nat → Nat) (hk : k < n) (hc : c < n) : Prm n s (swp s k c) := by
  refine ⟨fun i hi => ?_, fun i hi => ?_, fun z i j hi hj e => ?_, fun i hi => swp_n (by omega) (by omega)⟩
  · by_cases e1 : i = c
    · exact ⟨k, hk, by rw [e1, swp_c]⟩
    · by_cases e2 : i = k
      · exact ⟨c, hc, by rw [e2, swp_k]⟩
      · exact ⟨i, hi, swp_n e2 e1⟩
  · by_cases e1 : i = c
    · exact ⟨k, hk, by rw [e1, swp_k]⟩
    · by_cases e2 : i = k
      · exact ⟨c, hc, by rw [e2, swp_c]⟩
      · exact ⟨i, hi, swp_n e2 e1⟩
  · by_cases e1 : i = c
    · by_cases f1 : j = c
      · omega
      · rw [e1, swp_c] at e
        by_cases f2 : j = k
        · rw [f2, swp_k] at e
          have := z k c hk hc e
          omega
        · rw [swp_n f2 f1] at e
          have := z k j hk hj e
          omega
    · by_cases e2 : i = k
      · rw [e2, swp_k] at e
        by_cases f1 : j = c
        · rw [f1, swp_c] at e
          have := z c k hc hk e
          omega
        · by_cases f2 : j = k
          · omega
          · rw [swp_n f2 f1] at e
            have := z c j hc hj e
            omega
      · rw [swp_n e2 e1] at e
        by_cases f1 : j = c
        · rw [f1, swp_c] at e
          have := z i k hi hk e
          omega
        · by_cases f2 : j = k
          · rw [f2, swp_k] at e
            have := z i c hi hc e
            omega
          · rw [swp_n f2 f1] at e
            exact z i j hi hj e
def Heapy (v : Vw) (s : Nat → Nat) (n lo : Nat) : Prop := ∀ i c, lo ≤ i → c < n → (c = 2 * i + 1 ∨ c = 2 * i + 2) → v.key (s c) ≤ v.key (s i)
theorem Heapy.top {v : Vw} {s : Nat → Nat} {n : Nat} (h : Heapy v s n 0) : ∀ i, i < n → v.key (s i) ≤ v.key (s 0) := by
  intro i
  induction i using Nat.strongRecOn with
  | ind i ih =>
    intro hi
    rcases Nat.eq_zero_or_pos i with e | e
    · rw [e]
      exact Int.le_refl _
    · have h1 := ih ((i - 1) / 2) (by omega) (by omega)
      have h2 := h ((i - 1) / 2) i (Nat.zero_le _) hi (by omega)
      omega
/-- the sinking loop: s0, f0 at its start; the one at place k may be out of order -/
def SkI (v : Vw) (s0 s : Nat → Nat) (f0 f : Nat → Int32) (n lo k : Nat) (m : Bool) : Prop :=
  lo ≤ k ∧ k < n ∧ (∀ i, i < n → f i = nI (s i)) ∧ (∀ i, n ≤ i → f i = f0 i) ∧ Prm n s0 s ∧
  (∀ i c, lo ≤ i → i ≠ k → c < n → (c = 2 * i + 1 ∨ c = 2 * i + 2) → v.key (s c) ≤ v.key (s i)) ∧
  (∀ i, lo ≤ i → (k = 2 * i + 1 ∨ k = 2 * i + 2) → ∀ c, c < n → (c = 2 * k + 1 ∨ c = 2 * k + 2) → v.key (s c) ≤ v.key (s i)) ∧
  (m = true → 2 * k + 1 < n) ∧ (m = false → ∀ c, c < n → (c = 2 * k + 1 ∨ c = 2 * k + 2) → v.key (s c) ≤ v.key (s k))
theorem SkI.start {v : Vw} {s : Nat → Nat} {f : Nat → Int32} {n lo : Nat} {m : Bool} (hlo : lo < n) (hf : ∀ i, i < n → f i = nI (s i)) (hh : Heapy v s n (lo + 1)) (hm : m = true ↔ 2 * lo + 1 < n) : SkI v s s f f n lo lo m := by
  refine ⟨Nat.le_refl _, hlo, hf, fun _ _ => rfl, Prm.refl _ _, fun i c h1 h2 => hh i c (by omega), fun i h1 h2 => by omega, hm.mp, fun e c h1 h2 => ?_⟩
  have : ¬ 2 * lo + 1 < n := fun z => by rw [hm.mpr z] at e; cases e
  omega
theorem SkI.stop {v : Vw} {s0 s : Nat → Nat} {f0 f : Nat → Int32} {n lo k c : Nat} {m : Bool} (h : SkI v s0 s f0 f n lo k m) (hmax : ∀ e, e < n → (e = 2 * k + 1 ∨ e = 2 * k + 2) → v.key (s e) ≤ v.key (s c)) (hk : ¬ v.key (s k) < v.key (s c)) : SkI v s0 s f0 f n lo k false := by
  obtain ⟨h1, h2, h3, h4, h5, h6, h7, -, -⟩ := h
  refine ⟨h1, h2, h3, h4, h5, h6, h7, (fun z => by cases z), fun _ e he hc => ?_⟩
  have := hmax e he hc
  omega
theorem SkI.done {v : Vw} {s0 s : Nat → Nat} {f0 f : Nat → Int32} {n lo k : Nat} (h : SkI v s0 s f0 f n lo k false) : Heapy v s n lo := by
  obtain ⟨h1, h2, h3, h4, h5, h6, h7, -, h9⟩ := h
  intro i c hi hc hch
  by_cases e : i = k
  · subst e
    exact h9 rfl c hc hch
  · exact h6 i c hi e hc hch
theorem SkI.step {v : Vw} {s0 s : Nat → Nat} {f0 f : Nat → Int32} {n lo k c : Nat} {m m' : Bool} (h : SkI v s0 s f0 f n lo k m) (hc : c < n) (hch : c = 2 * k + 1 ∨ c = 2 * k + 2) (hmax : ∀ e, e < n → (e = 2 * k + 1 ∨ e = 2 * k + 2) → v.key (s e) ≤ v.key (s c)) (hk : v.key (s k) < v.key (s c)) (hm : m' = true ↔ 2 * c + 1 < n) : SkI v s0 (swp s k c) f0 (upd (upd f k (nI (s c))) c (nI (s k))) n lo c m' := by
  obtain ⟨h1, h2, h3, h4, h5, h6, h7, -, -⟩ := h
  refine ⟨by omega, hc, fun i hi => ?_, fun i hi => ?_, h5.trans (Prm.swp s h2 hc), fun i e hi hne he hce => ?_, fun i hi hci e he hce => ?_, hm.mp, fun z e h8 h9 => ?_⟩
  · by_cases e1 : i = c
    · rw [e1, upd_me, swp_c]
    · rw [upd_ne e1]
      by_cases e2 : i = k
      · rw [e2, upd_me, swp_k]
      · rw [upd_ne e2, swp_n e2 e1]
        exact h3 i hi
  · rw [upd_ne (by omega), upd_ne (by omega)]
    exact h4 i hi
  · by_cases e1 : i = k
    · subst e1
      rw [swp_k]
      by_cases e2 : e = c
      · rw [e2, swp_c]
        omega
      · rw [swp_n (by omega) e2]
        exact hmax e he hce
    · rw [swp_n e1 hne]
      by_cases e2 : e = k
      · rw [e2, swp_k]
        exact h7 i hi (by omega) c hc hch
      · rw [swp_n e2 (by omega)]
        exact h6 i e hi e1 he hce
  · have e1 : i = k := by omega
    subst e1
    rw [swp_k, swp_n (by omega) (by omega)]
    exact h6 c e (by omega) (by omega) he hce
  · have : ¬ 2 * c + 1 < n := fun q => by rw [hm.mpr q] at z; cases z
    omega
/-- the candidates below k, collected -/
def CoI (v : Vw) (s : Nat → Nat) (f : Nat → Int32) (n k : Nat) : Prop := n ≤ k ∧ (∀ i, i < n → f i = nI (s i)) ∧ (∀ i, i < n → s i < k ∧ v.cand (s i) = true) ∧ (∀ i j, i < j → j < n → s i < s j) ∧ ∀ x, x < k → v.cand x = true → ∃ i, i < n ∧ s i = x
theorem CoI.zero (v : Vw) (f : Nat → Int32) : CoI v (fun _ => 0) f 0 0 := ⟨Nat.le_refl _, fun i hi => absurd hi (Nat.not_lt_zero i), fun i hi => absurd hi (Nat.not_lt_zero i), fun i j _ hj => absurd hj (Nat.not_lt_zero j), fun x hx => absurd hx (Nat.not_lt_zero x)⟩
theorem CoI.skip {v : Vw} {s : Nat → Nat} {f : Nat → Int32} {n k : Nat} (h : CoI v s f n k) (hc : v.cand k = false) : CoI v s f n (k + 1) := by
  obtain ⟨h1, h2, h3, h4, h5⟩ := h
  refine ⟨by omega, h2, fun i hi => ⟨by have := (h3 i hi).1; omega, (h3 i hi).2⟩, h4, fun x hx hx2 => ?_⟩
  by_cases e : x = k
  · rw [e, hc] at hx2
    cases hx2
  · exact h5 x (by omega) hx2
theorem CoI.add {v : Vw} {s : Nat → Nat} {f : Nat → Int32} {n k : Nat} (h : CoI v s f n k) (hc : v.cand k = true) : CoI v (fun i => if i = n then k else s i) (upd f n (nI k)) (n + 1) (k + 1) := by
  obtain ⟨h1, h2, h3, h4, h5⟩ := h
  have es : ∀ i, (fun i => if i = n then k else s i) i = if i = n then k else s i := fun _ => rfl
  generalize (fun i => if i = n then k else s i) = s' at es ⊢
  refine ⟨by omega, fun i hi => ?_, fun i hi => ?_, fun i j hij hj => ?_, fun x hx hx2 => ?_⟩
  · by_cases e : i = n
    · rw [e, upd_me, es, if_pos rfl]
    · rw [upd_ne e, es, if_neg e]
      exact h2 i (by omega)
  · by_cases e : i = n
    · rw [es, if_pos e]
      exact ⟨by omega, hc⟩
    · rw [es, if_neg e]
      have := h3 i (by omega)
      exact ⟨by omega, this.2⟩
  · rw [es i, es j, if_neg (show ¬ i = n by omega)]
    by_cases e : j = n
    · rw [if_pos e]
      exact (h3 i (by omega)).1
    · rw [if_neg e]
      exact h4 i j hij (by omega)
  · by_cases e : x = k
    · exact ⟨n, by omega, by rw [es, if_pos rfl, e]⟩
    · obtain ⟨i, hi, ei⟩ := h5 x (by omega) hx2
      exact ⟨i, by omega, by rw [es, if_neg (by omega)]; exact ei⟩
/-- in the sorting's second half: the heap has q, behind it all is in order; s1 is what was collected -/
def HsI (v : Vw) (s1 s : Nat → Nat) (f : Nat → Int32) (n q : Nat) : Prop := q ≤ n ∧ (∀ i, i < n → f i = nI (s i)) ∧ Prm n s1 s ∧ Heapy v s q 0 ∧ ∀ i j, i < j → q ≤ j → j < n → v.key (s i) < v.key (s j)
theorem HsI.fin {v : Vw} {s1 s : Nat → Nat} {f f1 : Nat → Int32} {n q : Nat} (hv : v.ok) (h0 : CoI v s1 f1 n v.nw) (h : HsI v s1 s f n q) (hq : q ≤ 1) : n = v.sn ∧ ∀ i, i < n → f i = nI (v.sq i) := by
  obtain ⟨h1, h2, h3, h4, h5⟩ := h
  obtain ⟨g1, g2, g3, g4, g5⟩ := h0
  have hS : Srt v s n := by
    refine ⟨fun i hi => ?_, fun i j hij hj => h5 i j hij (by omega) hj, fun k hk hc => ?_⟩
    · obtain ⟨j, hj, e⟩ := h3.1 i hi
      rw [e]
      exact g3 j hj
    · obtain ⟨j, hj, e⟩ := g5 k hk hc
      obtain ⟨i, hi, e2⟩ := h3.2.1 j hj
      exact ⟨i, hi, by rw [e2, e]⟩
  obtain ⟨u1, u2⟩ := srt_uniq hS (srt_sl hv)
  exact ⟨u1, fun i hi => by rw [h2 i hi, u2 i hi]⟩
/-- one round: the first and the last of the heap change places, the new first sinks -/
theorem HsI.pre {v : Vw} {s1 s : Nat → Nat} {f : Nat → Int32} {n m : Nat} (h : HsI v s1 s f n (m + 1)) (hm : 0 < m) : (∀ i, i < n → upd (upd f 0 (nI (s m))) m (nI (s 0)) i = nI (swp s 0 m i)) ∧ Heapy v (swp s 0 m) m 1 := by
  obtain ⟨h1, h2, h3, h4, h5⟩ := h
  refine ⟨fun i hi => ?_, fun i c hi hc hch => ?_⟩
  · by_cases e1 : i = m
    · rw [e1, upd_me, swp_c]
    · rw [upd_ne e1]
      by_cases e2 : i = 0
      · rw [e2, upd_me, swp_k]
      · rw [upd_ne e2, swp_n e2 e1]
        exact h2 i hi
  · rw [swp_n (by omega) (by omega), swp_n (by omega) (by omega)]
    exact h4 i c (Nat.zero_le _) (by omega) hch
theorem HsI.next {v : Vw} {s1 s s2 : Nat → Nat} {f f1 f2 : Nat → Int32} {n m : Nat} (hv : v.ok) (h0 : CoI v s1 f1 n v.nw) (h : HsI v s1 s f n (m + 1)) (hm : 0 < m) (hp : Prm m (swp s 0 m) s2) (hh : Heapy v s2 m 0) (hf : ∀ i, i < m → f2 i = nI (s2 i)) (hf2 : ∀ i, m ≤ i → f2 i = upd (upd f 0 (nI (s m))) m (nI (s 0)) i) : HsI v s1 s2 f2 n m := by
  have hpre := (h.pre hm).1
  obtain ⟨h1, h2, h3, h4, h5⟩ := h
  have p1 : Prm n s1 s2 := (h3.trans (Prm.swp s (by omega) (by omega))).trans (hp.mono (by omega))
  obtain ⟨g1, g2, g3, g4, g5⟩ := h0
  have inj1 : ∀ i j, i < n → j < n → s1 i = s1 j → i = j := by
    intro i j hi hj e
    rcases Nat.lt_trichotomy i j with q | q | q
    · have := g4 i j q hj
      omega
    · exact q
    · have := g4 j i q hi
      omega
  have inj := h3.2.2.1 inj1
  have back : ∀ i, i < m → ∃ x, x ≤ m ∧ 0 < x ∧ s2 i = s x := by
    intro i hi
    obtain ⟨j, hj, e⟩ := hp.1 i hi
    by_cases z : j = 0
    · exact ⟨m, Nat.le_refl _, hm, by rw [e, z, swp_k]⟩
    · exact ⟨j, by omega, by omega, by rw [e, swp_n z (by omega)]⟩
  have same : ∀ j, m < j → s2 j = s j := by
    intro j hj
    rw [hp.2.2.2 j (by omega), swp_n (by omega) (by omega)]
  have atm : s2 m = s 0 := by rw [hp.2.2.2 m (Nat.le_refl _), swp_c]
  refine ⟨by omega, fun i hi => ?_, p1, hh, fun i j hij hj hjn => ?_⟩
  · rcases Nat.lt_or_ge i m with q | q
    · exact hf i q
    · rw [hf2 i q, hpre i hi, hp.2.2.2 i q]
  · by_cases e : j = m
    · subst e
      rw [atm]
      obtain ⟨x, x1, x2, x3⟩ := back i hij
      rw [x3]
      have t := h4.top x (by omega)
      have ne : v.key (s x) ≠ v.key (s 0) := by
        intro z
        have w1 := h3.1 x (by omega)
        have w2 := h3.1 0 (by omega)
        obtain ⟨y1, z1, z2⟩ := w1
        obtain ⟨y2, z3, z4⟩ := w2
        have b1 : s x < v.nw := by rw [z2]; exact (g3 y1 z1).1
        have b2 : s 0 < v.nw := by rw [z4]; exact (g3 y2 z3).1
        have := inj x 0 (by omega) (by omega) (key_inj hv b1 b2 z)
        omega
      omega
    · rw [same j (by omega)]
      rcases Nat.lt_trichotomy i m with q | q | q
      · obtain ⟨x, x1, x2, x3⟩ := back i q
        rw [x3]
        exact h5 x j (by omega) (by omega) hjn
      · subst q
        rw [atm]
        exact h5 0 j (by omega) (by omega) hjn
      · rw [same i q]
        exact h5 i j hij (by omega) hjn
end
section
/-! PLAIN LAW 6: chains as the class keeps them: next, before, head -/
set_option maxRecDepth 100000
/-- heads: each block's points to an earlier one of its chain, or it is the first -/
def UF (v : Vw) (s : Cs) (f : Nat → Int32) : Prop := ∀ b, b < v.nb → ∃ j, j < v.nb ∧ f b = nI j ∧ s.co j = s.co b ∧ (s.ps j < s.ps b ∨ (j = b ∧ s.ps b = 0))
theorem UF.half {v : Vw} {s : Cs} {f : Nat → Int32} (h : UF v s f) (hnb : v.nb ≤ 200) {b j i : Nat} (hb : b < v.nb) (hj : j < v.nb) (ej : f b = nI j) (hi : i < v.nb) (ei : f j = nI i) : UF v s (upd f b (nI i)) := by
  intro x hx
  by_cases e : x = b
  · subst e
    rw [upd_me]
    obtain ⟨j', hj', e1, e2, e3⟩ := h x hx
    have z1 : j' = j := (nI_eq (by omega) (by omega)).mp (e1.symm.trans ej)
    subst z1
    obtain ⟨i', hi', f1, f2, f3⟩ := h j' hj
    have z2 : i' = i := (nI_eq (by omega) (by omega)).mp (f1.symm.trans ei)
    subst z2
    refine ⟨i', hi, rfl, f2.trans e2, ?_⟩
    rcases e3 with e3 | ⟨e3, e4⟩
    · rcases f3 with f3 | ⟨f3, f4⟩
      · exact Or.inl (by omega)
      · exact Or.inl (by rw [f3]; exact e3)
    · rw [e3] at f3
      rcases f3 with f3 | ⟨f3, f4⟩
      · omega
      · exact Or.inr ⟨f3, e4⟩
  · rw [upd_ne e]
    exact h x hx
def NxOk (v : Vw) (s : Cs) (f : Nat → Int32) : Prop := ∀ b, b < v.nb → (s.ps b + 1 < s.mn (s.co b) ∧ f b = nI (s.tb (s.co b) (s.ps b + 1))) ∨ (s.ps b + 1 = s.mn (s.co b) ∧ f b = -1)
def BfOk (v : Vw) (s : Cs) (f : Nat → Int32) : Prop := ∀ b, b < v.nb → (s.ps b = 0 ∧ f b = -1) ∨ (0 < s.ps b ∧ ∃ j, j < v.nb ∧ f b = nI j)
def CsX (v : Vw) (s : Cs) (nx bf hd : Nat → Int32) : Prop := NxOk v s nx ∧ BfOk v s bf ∧ UF v s hd
theorem CsX.ini {v : Vw} {nx bf hd : Nat → Int32} (h1 : ∀ b, b < v.nb → nx b = -1) (h2 : ∀ b, b < v.nb → bf b = -1) (h3 : ∀ b, b < v.nb → hd b = nI b) : CsX v Cs.ini nx bf hd :=
  ⟨fun b hb => Or.inr ⟨rfl, h1 b hb⟩, fun b hb => Or.inl ⟨rfl, h2 b hb⟩, fun b hb => ⟨b, hb, h3 b hb, rfl, Or.inr ⟨rfl, rfl⟩⟩⟩
theorem CsX.jn {v : Vw} {s : Cs} {nx bf hd : Nat → Int32} {u w : Nat} (hs : CsOk v s) (h : CsX v s nx bf hd) (hu : u < v.nb) (hw : w < v.nb) (hc : s.can u w = true) : CsX v (s.jn u w) (upd nx u (nI w)) (upd bf w (nI u)) (upd hd w (nI (s.co u))) := by
  have hc' := of_decide_eq_true hc
  obtain ⟨hne, hlast, hfirst, -⟩ := hc'
  have hcw : s.co w = w := (hs.first hw).mp hfirst
  obtain ⟨u1, u2, u3, u4, u5, u6⟩ := hs.1 u hu
  obtain ⟨w1, w2, w3, w4, w5, w6⟩ := hs.1 w hw
  have eco : ∀ b, (s.jn u w).co b = if s.co b = s.co w then s.co u else s.co b := fun _ => rfl
  have eps : ∀ b, (s.jn u w).ps b = if s.co b = s.co w then s.ps b + s.mn (s.co u) else s.ps b := fun _ => rfl
  have emn : ∀ x, (s.jn u w).mn x = if x = s.co u then s.mn (s.co u) + s.mn (s.co w) else if x = s.co w then 0 else s.mn x := fun _ => rfl
  have etb : ∀ x i, (s.jn u w).tb x i = if x = s.co u ∧ s.mn (s.co u) ≤ i then s.tb (s.co w) (i - s.mn (s.co u)) else s.tb x i := fun _ _ => rfl
  generalize s.jn u w = s' at eco eps emn etb ⊢
  have k2 : s'.mn (s.co u) = s.mn (s.co u) + s.mn (s.co w) := by rw [emn, if_pos rfl]
  obtain ⟨hN, hB, hU⟩ := h
  refine ⟨fun b hb => ?_, fun b hb => ?_, fun b hb => ?_⟩
  · obtain ⟨b1, b2, b3, b4, b5, b6⟩ := hs.1 b hb
    by_cases z : b = u
    · subst z
      have e1 : s'.co b = s.co b := by rw [eco, if_neg hne]
      have e2 : s'.ps b = s.ps b := by rw [eps, if_neg hne]
      rw [e1, e2, k2, upd_me, etb, if_pos ⟨rfl, by omega⟩, hlast, Nat.sub_self]
      rw [hfirst] at w5 w2
      exact Or.inl ⟨by omega, by rw [w5]⟩
    · rw [upd_ne z]
      by_cases q : s.co b = s.co w
      · have e1 : s'.co b = s.co u := by rw [eco, if_pos q]
        have e2 : s'.ps b = s.ps b + s.mn (s.co u) := by rw [eps, if_pos q]
        rw [e1, e2, k2, etb, if_pos ⟨rfl, by omega⟩, show s.ps b + s.mn (s.co u) + 1 - s.mn (s.co u) = s.ps b + 1 by omega]
        have h0 := hN b hb
        rw [q] at h0
        rcases h0 with ⟨h1, h2⟩ | ⟨h1, h2⟩
        · exact Or.inl ⟨by omega, h2⟩
        · exact Or.inr ⟨by omega, h2⟩
      · have e1 : s'.co b = s.co b := by rw [eco, if_neg q]
        have e2 : s'.ps b = s.ps b := by rw [eps, if_neg q]
        rw [e1, e2]
        by_cases q2 : s.co b = s.co u
        · have q3 : s.ps b ≠ s.ps u := fun e => z (hs.inj hb hu q2 e)
          rw [q2, k2]
          have h0 := hN b hb
          rw [q2] at h0 b2
          rcases h0 with ⟨h1, h2⟩ | ⟨h1, h2⟩
          · rw [etb, if_neg (fun e => by have := e.2; omega)]
            exact Or.inl ⟨by omega, h2⟩
          · omega
        · rw [emn, if_neg q2, if_neg q, etb, if_neg (fun e => q2 e.1)]
          exact hN b hb
  · by_cases z : b = w
    · subst z
      rw [upd_me, eps, if_pos rfl]
      exact Or.inr ⟨by omega, u, hu, rfl⟩
    · rw [upd_ne z, eps]
      by_cases q : s.co b = s.co w
      · rw [if_pos q]
        rcases hB b hb with ⟨h1, h2⟩ | ⟨h1, h2⟩
        · exact absurd (hs.inj hb hw q (by rw [h1, hfirst])) z
        · exact Or.inr ⟨by omega, h2⟩
      · rw [if_neg q]
        exact hB b hb
  · by_cases z : b = w
    · subst z
      rw [upd_me]
      refine ⟨s.co u, u1, rfl, ?_, Or.inl ?_⟩
      · rw [eco, eco, u3, if_neg hne, if_pos rfl]
      · rw [eps, eps, u3, if_neg hne, if_pos rfl, u4]
        omega
    · rw [upd_ne z]
      obtain ⟨j, hj, e1, e2, e3⟩ := hU b hb
      refine ⟨j, hj, e1, by rw [eco, eco, e2], ?_⟩
      rw [eps, eps, e2]
      by_cases q : s.co b = s.co w
      · rw [if_pos q, if_pos q]
        rcases e3 with e3 | ⟨e3, e4⟩
        · exact Or.inl (by omega)
        · exact absurd (hs.inj hb hw q (by rw [e4, hfirst])) z
      · rw [if_neg q, if_neg q]
        exact e3
theorem chs_no {v : Vw} {k : Nat} (h : ¬ ((chs v k).co (v.fr (v.sq k)) ≠ (chs v k).co (v.ta (v.sq k)) ∧ (chs v k).ps (v.fr (v.sq k)) + 1 = (chs v k).mn ((chs v k).co (v.fr (v.sq k))) ∧ (chs v k).ps (v.ta (v.sq k)) = 0 ∧ v.ta (v.sq k) ≠ 0)) : chs v (k + 1) = chs v k := by
  rw [chs, if_neg]
  exact fun z => h (of_decide_eq_true z)
theorem chs_yes {v : Vw} {k : Nat} (h : (chs v k).can (v.fr (v.sq k)) (v.ta (v.sq k)) = true) : chs v (k + 1) = (chs v k).jn (v.fr (v.sq k)) (v.ta (v.sq k)) := by
  rw [chs, if_pos h]
end
section
/-! PLAIN LAW 7: what the walks of put, weigh need -/
set_option maxRecDepth 100000
theorem sn_le (v : Vw) : v.sn ≤ v.nw := by
  unfold Vw.sn Vw.sl
  rw [List.length_mergeSort]
  exact Nat.le_trans (List.length_filter_le _ _) (by rw [List.length_range]; exact Nat.le_refl _)
theorem PlOk.hd {v : Vw} {s : Cs} {q : Pl} (hs : CsOk v s) (hq : PlOk v s q) {b : Nat} (hb : b < v.nb) (h1 : v.hot b = true) (h2 : q.pl b = false) : s.co b < v.nb ∧ s.co (s.co b) = s.co b ∧ v.hot (s.co b) = true ∧ q.pl (s.co b) = false := by
  obtain ⟨b1, b2, b3, b4, b5, b6⟩ := hs.1 b hb
  exact ⟨b1, b3, by rw [b6, h1], by rw [(hq.1 b hb).2, h2]⟩
/-- placed while a chain is put, up to its i-th -/
def plg (s : Cs) (q : Pl) (h i b : Nat) : Bool := q.pl b || (decide (s.co b = h) && decide (s.ps b < i))
theorem plg_0 (s : Cs) (q : Pl) (h b : Nat) : plg s q h 0 b = q.pl b := by
  unfold plg
  simp
theorem plg_all {v : Vw} {s : Cs} {q : Pl} (hs : CsOk v s) {h b : Nat} (hb : b < v.nb) : plg s q h (s.mn h) b = (q.put s h).pl b := by
  show (q.pl b || (decide (s.co b = h) && decide (s.ps b < s.mn h))) = (q.pl b || decide (s.co b = h))
  by_cases e : s.co b = h
  · have h1 := (hs.1 b hb).2.1
    rw [e] at h1
    simp [e, h1]
  · simp [e]
theorem plg_s {v : Vw} {s : Cs} {q : Pl} (hs : CsOk v s) {h i b : Nat} (hh : h < v.nb) (hr : s.co h = h) (hi : i < s.mn h) (hb : b < v.nb) {f : Nat → Int32} (hf : f b = bI (plg s q h i b)) : upd f (s.tb h i) (nI 1) b = bI (plg s q h (i + 1) b) := by
  obtain ⟨t1, t2, t3⟩ := hs.2.1 h hh hr i hi
  by_cases e : b = s.tb h i
  · rw [e, upd_me]
    unfold plg
    rw [t2, t3]
    simp
    rfl
  · rw [upd_ne e, hf]
    congr 1
    unfold plg
    by_cases e2 : s.co b = h
    · have ne : s.ps b ≠ i := fun z => e (hs.inj hb t1 (by rw [e2, t2]) (by rw [z, t3]))
      have e3 : decide (s.ps b < i) = decide (s.ps b < i + 1) := by
        by_cases z : s.ps b < i
        · rw [decide_eq_true z, decide_eq_true (by omega)]
        · rw [decide_eq_false z, decide_eq_false (by omega)]
      rw [e3]
    · simp [e2]
theorem put_od {s : Cs} {q : Pl} {h i : Nat} : (q.put s h).od (q.n + i) = s.tb h i := by
  show (if q.n + i < q.n then q.od (q.n + i) else s.tb h (q.n + i - q.n)) = s.tb h i
  rw [if_neg (by omega), Nat.add_sub_cancel_left]
theorem put_od0 {s : Cs} {q : Pl} {h i : Nat} (hi : i < q.n) : (q.put s h).od i = q.od i := by
  show (if i < q.n then q.od i else s.tb h (i - q.n)) = q.od i
  rw [if_pos hi]
/-- one way's first and second share of a chain's score -/
def gs1 (v : Vw) (s : Cs) (pl : Nat → Bool) (h c k : Nat) : Int64 := if v.hot (v.fr k) = true ∧ v.hot (v.ta k) = true ∧ s.co (v.fr k) = h ∧ pl (v.ta k) = false ∧ s.co (v.ta k) = c then v.ct k else 0
def gs2 (v : Vw) (s : Cs) (pl : Nat → Bool) (h c k : Nat) : Int64 := if v.hot (v.fr k) = true ∧ v.hot (v.ta k) = true ∧ s.co (v.ta k) = h ∧ pl (v.fr k) = false ∧ s.co (v.fr k) = c then v.ct k else 0
theorem gsc_12 (v : Vw) (s : Cs) (pl : Nat → Bool) (h c k : Nat) : gsc v s pl h c k = gs1 v s pl h c k + gs2 v s pl h c k := rfl
theorem sumI_s (f : Nat → Int64) (k : Nat) : sumI f (k + 1) = sumI f k + f k := rfl
theorem gsc_s (v : Vw) (s : Cs) (pl : Nat → Bool) (h c k : Nat) (x : Int64) : x + sumI (gsc v s pl h c) k + gs1 v s pl h c k + gs2 v s pl h c k = x + sumI (gsc v s pl h c) (k + 1) := by
  rw [sumI_s, gsc_12, ← Int64.add_assoc, ← Int64.add_assoc]
theorem gs1_no {v : Vw} {s : Cs} {pl : Nat → Bool} {h c k : Nat} (hn : ¬ (v.hot (v.fr k) = true ∧ v.hot (v.ta k) = true ∧ s.co (v.fr k) = h ∧ pl (v.ta k) = false)) (x : Int64) : x + gs1 v s pl h c k = x := by
  unfold gs1
  rw [if_neg (fun z => hn ⟨z.1, z.2.1, z.2.2.1, z.2.2.2.1⟩), Int64.add_zero]
theorem gs2_no {v : Vw} {s : Cs} {pl : Nat → Bool} {h c k : Nat} (hn : ¬ (v.hot (v.fr k) = true ∧ v.hot (v.ta k) = true ∧ s.co (v.ta k) = h ∧ pl (v.fr k) = false)) (x : Int64) : x + gs2 v s pl h c k = x := by
  unfold gs2
  rw [if_neg (fun z => hn ⟨z.1, z.2.1, z.2.2.1, z.2.2.2.1⟩), Int64.add_zero]
theorem gs1_yes {v : Vw} {s : Cs} {pl : Nat → Bool} {h k : Nat} (h1 : v.hot (v.fr k) = true) (h2 : v.hot (v.ta k) = true) (h3 : s.co (v.fr k) = h) (h4 : pl (v.ta k) = false) (f : Nat → Int64) (c : Nat) : vp_updL f (s.co (v.ta k)) (f (s.co (v.ta k)) + v.ct k) c = f c + gs1 v s pl h c k := by
  unfold gs1
  by_cases e : s.co (v.ta k) = c
  · rw [if_pos ⟨h1, h2, h3, h4, e⟩, ← e, updL_me]
  · rw [if_neg (fun z => e z.2.2.2.2), updL_ne (Ne.symm e), Int64.add_zero]
theorem gs2_yes {v : Vw} {s : Cs} {pl : Nat → Bool} {h k : Nat} (h1 : v.hot (v.fr k) = true) (h2 : v.hot (v.ta k) = true) (h3 : s.co (v.ta k) = h) (h4 : pl (v.fr k) = false) (f : Nat → Int64) (c : Nat) : vp_updL f (s.co (v.fr k)) (f (s.co (v.fr k)) + v.ct k) c = f c + gs2 v s pl h c k := by
  unfold gs2
  by_cases e : s.co (v.fr k) = c
  · rw [if_pos ⟨h1, h2, h3, h4, e⟩, ← e, updL_me]
  · rw [if_neg (fun z => e z.2.2.2.2), updL_ne (Ne.symm e), Int64.add_zero]
/-! places told by an array -/
def WgI (v : Vw) (row : Nat → Nat) (k : Nat) (f : Nat → Int32) : Prop := ∀ b, b < v.nb → (∃ j, j < k ∧ row j = b ∧ f b = nI j) ∨ ((∀ j, j < k → row j ≠ b) ∧ f b = -2)
theorem WgI.s {v : Vw} {row : Nat → Nat} {k : Nat} {f : Nat → Int32} (h : WgI v row k f) : WgI v row (k + 1) (upd f (row k) (nI k)) := by
  intro b hb
  by_cases e : b = row k
  · exact Or.inl ⟨k, by omega, e.symm, by rw [e, upd_me]⟩
  · rw [upd_ne e]
    rcases h b hb with ⟨j, h1, h2, h3⟩ | ⟨h1, h2⟩
    · exact Or.inl ⟨j, by omega, h2, h3⟩
    · refine Or.inr ⟨fun j hj => ?_, h2⟩
      by_cases e2 : j = k
      · rw [e2]
        exact Ne.symm e
      · exact h1 j (by omega)
/-- a row of n blocks, all different -/
def RowOk (v : Vw) (row : Nat → Nat) (n : Nat) : Prop := (∀ i, i < n → row i < v.nb) ∧ ∀ i j, i < j → j < n → row i ≠ row j
theorem RowOk.inj {v : Vw} {row : Nat → Nat} {n : Nat} (h : RowOk v row n) {i j : Nat} (hi : i < n) (hj : j < n) (e : row i = row j) : i = j := by
  rcases Nat.lt_trichotomy i j with q | q | q
  · exact absurd e (h.2 i j q hj)
  · exact q
  · exact absurd e.symm (h.2 j i q hi)
theorem wtm_fa {v : Vw} {row : Nat → Nat} {m k : Nat} (h : v.fa k = false) (x : Int64) : x + wtm v row m k = x := by
  unfold wtm
  rw [if_neg (fun z => by rw [h] at z; exact absurd z.1 (by decide)), Int64.add_zero]
theorem wtm_no {v : Vw} {row : Nat → Nat} {m k : Nat} (h : ∀ i, i < m → row i = v.fr k → row (i + 1) = v.ta k → False) (x : Int64) : x + wtm v row m k = x := by
  unfold wtm
  rw [if_neg, Int64.add_zero]
  rintro ⟨-, z⟩
  obtain ⟨i, hi, e1, e2⟩ := adj_iff.mp z
  exact h i hi e1 e2
theorem wtm_yes {v : Vw} {row : Nat → Nat} {m k i : Nat} (h : v.fa k = true) (hi : i < m) (e1 : row i = v.fr k) (e2 : row (i + 1) = v.ta k) (x : Int64) : x + wtm v row m k = x + v.ct k := by
  unfold wtm
  rw [if_pos ⟨h, adj_iff.mpr ⟨i, hi, e1, e2⟩⟩]
end
section
/-! PLAIN LAW 8: what work and the answers need -/
set_option maxRecDepth 100000
theorem bnf_hot {v : Vw} {b : Nat} (h : v.hot b = true) : hc v (b + 1) = hc v b + 1 ∧ (∀ i, i < hc v b → bnf v (b + 1) i = bnf v b i) ∧ bnf v (b + 1) (hc v b) = b := by
  refine ⟨by rw [hc_s, if_pos h], fun i hi => ?_, ?_⟩
  · rw [bnf, if_pos h]
    unfold va_up
    rw [if_neg (by omega)]
  · rw [bnf, if_pos h]
    unfold va_up
    rw [if_pos rfl]
theorem bnf_cold {v : Vw} {b : Nat} (h : v.hot b = false) : hc v (b + 1) = hc v b ∧ bnf v (b + 1) = bnf v b := by
  have h1 : ¬ v.hot b = true := by
    rw [h]
    decide
  exact ⟨by rw [hc_s, if_neg h1], by rw [bnf, if_neg h1]⟩
theorem hc_le (v : Vw) (b : Nat) : hc v b ≤ b := (bnf_ok v b).2.2
theorem bn_row (v : Vw) : RowOk v v.bn v.nh := by
  obtain ⟨h1, h2⟩ := bn_ok v
  refine ⟨fun i hi => (h1 i hi).1, fun i j hij hj e => ?_⟩
  have := h2 i j hij hj
  omega
theorem bc_row {v : Vw} (h : v.ok) : RowOk v v.bc v.nh := by
  obtain ⟨⟨h1, h2, h3, h4⟩, h5⟩ := pf_ok h
  rw [h5] at h3 h4
  exact ⟨fun i hi => (h3 i hi).1, h4⟩
theorem id_row (v : Vw) : RowOk v (fun i => i) v.nb := ⟨fun _ hi => hi, fun i j hij _ => by show i ≠ j; omega⟩
theorem first_c {v : Vw} {t : Nat} (ht : t = 0) (hn : 0 < v.nh) : bst v v.cs (plc v v.cs t).pl v.nb = some (v.cs.co (v.bn 0)) := by
  subst ht
  obtain ⟨h1, h2⟩ := (bn_ok v).1 0 hn
  exact bst_first h2 (bnf_first v v.nb hn) v.nb h1
def Vw.wt (v : Vw) (j : Nat) : Int64 := if j = 0 then v.w0 else if j = 1 then v.w1 else if j = 2 then v.w2 else v.w3
theorem wt_0 (v : Vw) : v.wt 0 = v.w0 := rfl
theorem wt_1 (v : Vw) : v.wt 1 = v.w1 := rfl
theorem wt_2 (v : Vw) : v.wt 2 = v.w2 := rfl
theorem wt_3 (v : Vw) : v.wt 3 = v.w3 := rfl
theorem wt_all {v : Vw} {f : Nat → Int64} (h0 : f 0 = v.w0) (h1 : f 1 = v.w1) (h2 : f 2 = v.w2) (h3 : f 3 = v.w3) : ∀ j, j < 4 → f j = v.wt j := by
  intro j hj
  rcases Nat.lt_or_ge j 1 with q | q
  · have e : j = 0 := by omega
    rw [e]
    exact h0
  · rcases Nat.lt_or_ge j 2 with q | q
    · have e : j = 1 := by omega
      rw [e]
      exact h1
    · rcases Nat.lt_or_ge j 3 with q | q
      · have e : j = 2 := by omega
        rw [e]
        exact h2
      · have e : j = 3 := by omega
        rw [e]
        exact h3
/-- a number as a place -/
def nN (x : Int32) : Nat := x.toInt.toNat
theorem nN_nI {j : Nat} (h : j < 2147483648) : nN (nI j) = j := by
  unfold nN
  rw [nI_toInt h]
  rfl
def aRow (v : Vw) (k : Int32) : Int32 := if inB v.nh k = true then nI (v.rw (nN k)) else -1
def aWt (v : Vw) (k : Int32) : Int64 := if inB 4 k = true then v.wt (nN k) else -1
def aCh (v : Vw) (b : Int32) : Int32 := if inB v.nb b = true ∧ v.hot (nN b) = true then nI (v.cs.co (nN b)) else -1
theorem aRow_t {v : Vw} {j : Nat} (hj : j < v.nh) (hb : j < 2147483648) : aRow v (nI j) = nI (v.rw j) := by
  unfold aRow
  rw [inB_nI hb, decide_eq_true hj, if_pos rfl, nN_nI hb]
theorem aRow_f {v : Vw} {j : Nat} (hj : v.nh ≤ j) (hb : j < 2147483648) : aRow v (nI j) = -1 := by
  unfold aRow
  rw [inB_nI hb, decide_eq_false (by omega), if_neg (by decide)]
theorem aRow_n {v : Vw} {k : Int32} (h : k < 0) : aRow v k = -1 := by
  unfold aRow
  rw [inB_neg h, if_neg (by decide)]
theorem aWt_t {v : Vw} {j : Nat} (hj : j < 4) : aWt v (nI j) = v.wt j := by
  unfold aWt
  rw [inB_nI (by omega), decide_eq_true hj, if_pos rfl, nN_nI (by omega)]
theorem aWt_f {v : Vw} {j : Nat} (hj : 4 ≤ j) (hb : j < 2147483648) : aWt v (nI j) = -1 := by
  unfold aWt
  rw [inB_nI hb, decide_eq_false (by omega), if_neg (by decide)]
theorem aWt_n {v : Vw} {k : Int32} (h : k < 0) : aWt v k = -1 := by
  unfold aWt
  rw [inB_neg h, if_neg (by decide)]
theorem aCh_t {v : Vw} {j : Nat} (hj : j < v.nb) (hb : j < 2147483648) (h : v.hot j = true) : aCh v (nI j) = nI (v.cs.co j) := by
  unfold aCh
  rw [inB_nI hb, nN_nI hb, if_pos ⟨decide_eq_true hj, h⟩]
theorem aCh_f {v : Vw} {j : Nat} (hb : j < 2147483648) (h : v.hot j = false) : aCh v (nI j) = -1 := by
  unfold aCh
  rw [nN_nI hb, if_neg]
  rw [h]
  exact fun z => absurd z.2 (by decide)
theorem aCh_n {v : Vw} {b : Int32} (h : inB v.nb b = false) : aCh v b = -1 := by
  unfold aCh
  rw [h, if_neg]
  exact fun z => absurd z.1 (by decide)
end
section
set_option maxRecDepth 100000
theorem bI_t {Q : Prop} [Decidable Q] (h : Q) : nI 1 = bI (decide Q) := by rw [decide_eq_true h]; rfl
theorem bI_f {Q : Prop} [Decidable Q] (h : ¬ Q) : nI 0 = bI (decide Q) := by rw [decide_eq_false h]; rfl
theorem key_gt {v : Vw} {j k : Nat} (h : v.ok) (hj : j < v.nw) (hk : k < v.nw) (c : v.ct k < v.ct j) : v.key j < v.key k := by
  have h1 := Int64.lt_iff_toInt_lt.mp c
  obtain ⟨a1, a2, a3, a4⟩ := h.2.1 j hj
  obtain ⟨b1, b2, b3, b4⟩ := h.2.1 k hk
  have := h.1
  unfold Vw.key
  omega
theorem key_fr {v : Vw} {j k : Nat} (h : v.ok) (hj : j < v.nw) (hk : k < v.nw) (e : v.ct j = v.ct k) (c : v.fr j < v.fr k) : v.key j < v.key k := by
  obtain ⟨a1, a2, a3, a4⟩ := h.2.1 j hj
  obtain ⟨b1, b2, b3, b4⟩ := h.2.1 k hk
  have := h.1
  unfold Vw.key
  rw [e]
  omega
theorem key_ta {v : Vw} {j k : Nat} (e : v.ct j = v.ct k) (c : v.fr j = v.fr k) : v.key j < v.key k ↔ v.ta j < v.ta k := by
  unfold Vw.key
  rw [e, c]
  omega
theorem key_le {v : Vw} {j k : Nat} (h : v.ok) (hj : j < v.nw) (hk : k < v.nw) (c : v.ct j ≤ v.ct k) (ne : ¬ v.ct j = v.ct k) : ¬ v.key j < v.key k := by
  have h1 := Int64.le_iff_toInt_le.mp c
  have h2 : (v.ct j).toInt ≠ (v.ct k).toInt := fun z => ne (Int64.toInt_inj.mp z)
  have h3 := key_gt h hk hj (Int64.lt_iff_toInt_lt.mpr (by omega))
  omega
set_option maxHeartbeats 4000000 in
theorem X_sooner (l : Launch) (D : va_G) (a : Nat → Nat) (d : Nat → ClassId) {σ : St} {v : Vw} {j k : Nat} (hR : XR σ v) (hj : j < v.nw) (hk : k < v.nw) : CMi l yX0_isSooner cX0_isSooner 3 .boolean 0 0 D (xt d) (xw a d) [.ref (a 0), .int (nI j), .int (nI k)] σ (fun r σ' => r = bI (decide (v.key j < v.key k)) ∧ σ' = σ) := by
  refine CMi.of (by decide) (Nat.le_of_ble_eq_true rfl) ?_
  intro E ls G hfr hlo K hH hl hret
  have hl : lv_has ls 3 [(0, .ref (a 0)), (1, .int (nI j)), (2, .int (nI k))] := hl
  have G : CX E RX0 cX0_isSooner 3 := G
  have hv := hR.ok
  have hbd := hv.bd
  refine xg_counts G K hH (lv_at hl 0 rfl) dX0_isSooner_0 dX0_isSooner_1 ?_
  refine r_iload_n G dX0_isSooner_4 rfl (lv_at hl 1 rfl) ?_
  refine xl_counts G K hH (by omega) dX0_isSooner_5 ?_
  refine r_tol (y := (v.ct j)) (hR.ct (by omega)) ?_
  refine xg_counts G K hH (lv_at hl 0 rfl) dX0_isSooner_6 dX0_isSooner_7 ?_
  refine r_iload_n G dX0_isSooner_10 rfl (lv_at hl 2 rfl) ?_
  refine xl_counts G K hH (by omega) dX0_isSooner_11 ?_
  refine r_tol (y := (v.ct k)) (hR.ct (by omega)) ?_
  refine l_cmp_eq G 38 dX0_isSooner_12 dX0_isSooner_13 (by decide) (fun c12 => ?_) (fun c12 => ?_)
  · refine xg_from G K hH (lv_at hl 0 rfl) dX0_isSooner_38 dX0_isSooner_39 ?_
    refine r_iload_n G dX0_isSooner_42 rfl (lv_at hl 1 rfl) ?_
    refine xl_from G K hH (by omega) dX0_isSooner_43 ?_
    refine r_toi (y := nI (v.fr j)) (hR.fr (by omega)) ?_
    have := hv.frb (k := j) (by omega)
    refine xg_from G K hH (lv_at hl 0 rfl) dX0_isSooner_44 dX0_isSooner_45 ?_
    refine r_iload_n G dX0_isSooner_48 rfl (lv_at hl 2 rfl) ?_
    refine xl_from G K hH (by omega) dX0_isSooner_49 ?_
    refine r_toi (y := nI (v.fr k)) (hR.fr (by omega)) ?_
    have := hv.frb (k := k) (by omega)
    refine n_icmp_eq G (by omega) (by omega) 76 dX0_isSooner_50 (by decide) (fun c50 => ?_) (fun c50 => ?_)
    · refine xg_to G K hH (lv_at hl 0 rfl) dX0_isSooner_76 dX0_isSooner_77 ?_
      refine r_iload_n G dX0_isSooner_80 rfl (lv_at hl 1 rfl) ?_
      refine xl_to G K hH (by omega) dX0_isSooner_81 ?_
      refine r_toi (y := nI (v.ta j)) (hR.ta (by omega)) ?_
      have := hv.tab (k := j) (by omega)
      refine xg_to G K hH (lv_at hl 0 rfl) dX0_isSooner_82 dX0_isSooner_83 ?_
      refine r_iload_n G dX0_isSooner_86 rfl (lv_at hl 2 rfl) ?_
      refine xl_to G K hH (by omega) dX0_isSooner_87 ?_
      refine r_toi (y := nI (v.ta k)) (hR.ta (by omega)) ?_
      have := hv.tab (k := k) (by omega)
      refine n_icmp_ge G (by omega) (by omega) 95 dX0_isSooner_88 (by decide) (fun c88 => ?_) (fun c88 => ?_)
      · refine r_iconst G (nI 0) dX0_isSooner_95 (by decide) ?_
        exact hret _ _ _ _ _ _ dX0_isSooner_96 rfl hH ⟨bI_f (by rw [key_ta c12 c50]; omega), rfl⟩
      · refine r_iconst G (nI 1) dX0_isSooner_91 (by decide) ?_
        refine r_goto G 96 dX0_isSooner_92 (by decide) ?_
        exact hret _ _ _ _ _ _ dX0_isSooner_96 rfl hH ⟨bI_t (by rw [key_ta c12 c50]; exact c88), rfl⟩
    · refine xg_from G K hH (lv_at hl 0 rfl) dX0_isSooner_53 dX0_isSooner_54 ?_
      refine r_iload_n G dX0_isSooner_57 rfl (lv_at hl 1 rfl) ?_
      refine xl_from G K hH (by omega) dX0_isSooner_58 ?_
      refine r_toi (y := nI (v.fr j)) (hR.fr (by omega)) ?_
      have := hv.frb (k := j) (by omega)
      refine xg_from G K hH (lv_at hl 0 rfl) dX0_isSooner_59 dX0_isSooner_60 ?_
      refine r_iload_n G dX0_isSooner_63 rfl (lv_at hl 2 rfl) ?_
      refine xl_from G K hH (by omega) dX0_isSooner_64 ?_
      refine r_toi (y := nI (v.fr k)) (hR.fr (by omega)) ?_
      have := hv.frb (k := k) (by omega)
      refine n_icmp_ge G (by omega) (by omega) 72 dX0_isSooner_65 (by decide) (fun c65 => ?_) (fun c65 => ?_)
      · refine r_iconst G (nI 0) dX0_isSooner_72 (by decide) ?_
        refine r_goto G 96 dX0_isSooner_73 (by decide) ?_
        exact hret _ _ _ _ _ _ dX0_isSooner_96 rfl hH ⟨bI_f (by have := key_fr hv hk hj c12.symm (Nat.lt_of_le_of_ne c65 (Ne.symm c50)); omega), rfl⟩
      · refine r_iconst G (nI 1) dX0_isSooner_68 (by decide) ?_
        refine r_goto G 96 dX0_isSooner_69 (by decide) ?_
        exact hret _ _ _ _ _ _ dX0_isSooner_96 rfl hH ⟨bI_t (key_fr hv hj hk c12 c65), rfl⟩
  · refine xg_counts G K hH (lv_at hl 0 rfl) dX0_isSooner_16 dX0_isSooner_17 ?_
    refine r_iload_n G dX0_isSooner_20 rfl (lv_at hl 1 rfl) ?_
    refine xl_counts G K hH (by omega) dX0_isSooner_21 ?_
    refine r_tol (y := (v.ct j)) (hR.ct (by omega)) ?_
    refine xg_counts G K hH (lv_at hl 0 rfl) dX0_isSooner_22 dX0_isSooner_23 ?_
    refine r_iload_n G dX0_isSooner_26 rfl (lv_at hl 2 rfl) ?_
    refine xl_counts G K hH (by omega) dX0_isSooner_27 ?_
    refine r_tol (y := (v.ct k)) (hR.ct (by omega)) ?_
    refine l_cmp_le G 36 dX0_isSooner_28 dX0_isSooner_29 (by decide) (fun c28 => ?_) (fun c28 => ?_)
    · refine r_iconst G (nI 0) dX0_isSooner_36 (by decide) ?_
      exact hret _ _ _ _ _ _ dX0_isSooner_37 rfl hH ⟨bI_f (key_le hv hj hk c28 c12), rfl⟩
    · refine r_iconst G (nI 1) dX0_isSooner_32 (by decide) ?_
      refine r_goto G 37 dX0_isSooner_33 (by decide) ?_
      exact hret _ _ _ _ _ _ dX0_isSooner_37 rfl hH ⟨bI_t (key_gt hv hj hk (Int64.not_le.mp c28)), rfl⟩
set_option maxHeartbeats 4000000 in
theorem M_sooner (l : Launch) (D : va_G) (a : Nat → Nat) (d : Nat → ClassId) {σ : St} {v : Vw} {j k : Nat} (hR : MR σ v) (hj : j < v.nw) (hk : k < v.nw) : CMi l yX1_comesBefore cX1_comesBefore 3 .boolean 0 0 D (mt d) (mw a d) [.ref (a 0), .int (nI j), .int (nI k)] σ (fun r σ' => r = bI (decide (v.key j < v.key k)) ∧ σ' = σ) := by
  refine CMi.of (by decide) (Nat.le_of_ble_eq_true rfl) ?_
  intro E ls G hfr hlo K hH hl hret
  have hl : lv_has ls 3 [(0, .ref (a 0)), (1, .int (nI j)), (2, .int (nI k))] := hl
  have G : CX E RX1 cX1_comesBefore 3 := G
  have hv := hR.ok
  have hbd := hv.bd
  refine mg_counts G K hH (lv_at hl 0 rfl) dX1_comesBefore_0 dX1_comesBefore_1 ?_
  refine r_iload_n G dX1_comesBefore_4 rfl (lv_at hl 1 rfl) ?_
  refine ml_counts G K hH (by omega) dX1_comesBefore_5 ?_
  refine r_tol (y := (v.ct j)) (hR.ct (by omega)) ?_
  refine mg_counts G K hH (lv_at hl 0 rfl) dX1_comesBefore_6 dX1_comesBefore_7 ?_
  refine r_iload_n G dX1_comesBefore_10 rfl (lv_at hl 2 rfl) ?_
  refine ml_counts G K hH (by omega) dX1_comesBefore_11 ?_
  refine r_tol (y := (v.ct k)) (hR.ct (by omega)) ?_
  refine l_cmp_eq G 38 dX1_comesBefore_12 dX1_comesBefore_13 (by decide) (fun c12 => ?_) (fun c12 => ?_)
  · refine mg_from G K hH (lv_at hl 0 rfl) dX1_comesBefore_38 dX1_comesBefore_39 ?_
    refine r_iload_n G dX1_comesBefore_42 rfl (lv_at hl 1 rfl) ?_
    refine ml_from G K hH (by omega) dX1_comesBefore_43 ?_
    refine r_toi (y := nI (v.fr j)) (hR.fr (by omega)) ?_
    have := hv.frb (k := j) (by omega)
    refine mg_from G K hH (lv_at hl 0 rfl) dX1_comesBefore_44 dX1_comesBefore_45 ?_
    refine r_iload_n G dX1_comesBefore_48 rfl (lv_at hl 2 rfl) ?_
    refine ml_from G K hH (by omega) dX1_comesBefore_49 ?_
    refine r_toi (y := nI (v.fr k)) (hR.fr (by omega)) ?_
    have := hv.frb (k := k) (by omega)
    refine n_icmp_eq G (by omega) (by omega) 76 dX1_comesBefore_50 (by decide) (fun c50 => ?_) (fun c50 => ?_)
    · refine mg_to G K hH (lv_at hl 0 rfl) dX1_comesBefore_76 dX1_comesBefore_77 ?_
      refine r_iload_n G dX1_comesBefore_80 rfl (lv_at hl 1 rfl) ?_
      refine ml_to G K hH (by omega) dX1_comesBefore_81 ?_
      refine r_toi (y := nI (v.ta j)) (hR.ta (by omega)) ?_
      have := hv.tab (k := j) (by omega)
      refine mg_to G K hH (lv_at hl 0 rfl) dX1_comesBefore_82 dX1_comesBefore_83 ?_
      refine r_iload_n G dX1_comesBefore_86 rfl (lv_at hl 2 rfl) ?_
      refine ml_to G K hH (by omega) dX1_comesBefore_87 ?_
      refine r_toi (y := nI (v.ta k)) (hR.ta (by omega)) ?_
      have := hv.tab (k := k) (by omega)
      refine n_icmp_ge G (by omega) (by omega) 95 dX1_comesBefore_88 (by decide) (fun c88 => ?_) (fun c88 => ?_)
      · refine r_iconst G (nI 0) dX1_comesBefore_95 (by decide) ?_
        exact hret _ _ _ _ _ _ dX1_comesBefore_96 rfl hH ⟨bI_f (by rw [key_ta c12 c50]; omega), rfl⟩
      · refine r_iconst G (nI 1) dX1_comesBefore_91 (by decide) ?_
        refine r_goto G 96 dX1_comesBefore_92 (by decide) ?_
        exact hret _ _ _ _ _ _ dX1_comesBefore_96 rfl hH ⟨bI_t (by rw [key_ta c12 c50]; exact c88), rfl⟩
    · refine mg_from G K hH (lv_at hl 0 rfl) dX1_comesBefore_53 dX1_comesBefore_54 ?_
      refine r_iload_n G dX1_comesBefore_57 rfl (lv_at hl 1 rfl) ?_
      refine ml_from G K hH (by omega) dX1_comesBefore_58 ?_
      refine r_toi (y := nI (v.fr j)) (hR.fr (by omega)) ?_
      have := hv.frb (k := j) (by omega)
      refine mg_from G K hH (lv_at hl 0 rfl) dX1_comesBefore_59 dX1_comesBefore_60 ?_
      refine r_iload_n G dX1_comesBefore_63 rfl (lv_at hl 2 rfl) ?_
      refine ml_from G K hH (by omega) dX1_comesBefore_64 ?_
      refine r_toi (y := nI (v.fr k)) (hR.fr (by omega)) ?_
      have := hv.frb (k := k) (by omega)
      refine n_icmp_ge G (by omega) (by omega) 72 dX1_comesBefore_65 (by decide) (fun c65 => ?_) (fun c65 => ?_)
      · refine r_iconst G (nI 0) dX1_comesBefore_72 (by decide) ?_
        refine r_goto G 96 dX1_comesBefore_73 (by decide) ?_
        exact hret _ _ _ _ _ _ dX1_comesBefore_96 rfl hH ⟨bI_f (by have := key_fr hv hk hj c12.symm (Nat.lt_of_le_of_ne c65 (Ne.symm c50)); omega), rfl⟩
      · refine r_iconst G (nI 1) dX1_comesBefore_68 (by decide) ?_
        refine r_goto G 96 dX1_comesBefore_69 (by decide) ?_
        exact hret _ _ _ _ _ _ dX1_comesBefore_96 rfl hH ⟨bI_t (key_fr hv hj hk c12 c65), rfl⟩
  · refine mg_counts G K hH (lv_at hl 0 rfl) dX1_comesBefore_16 dX1_comesBefore_17 ?_
    refine r_iload_n G dX1_comesBefore_20 rfl (lv_at hl 1 rfl) ?_
    refine ml_counts G K hH (by omega) dX1_comesBefore_21 ?_
    refine r_tol (y := (v.ct j)) (hR.ct (by omega)) ?_
    refine mg_counts G K hH (lv_at hl 0 rfl) dX1_comesBefore_22 dX1_comesBefore_23 ?_
    refine r_iload_n G dX1_comesBefore_26 rfl (lv_at hl 2 rfl) ?_
    refine ml_counts G K hH (by omega) dX1_comesBefore_27 ?_
    refine r_tol (y := (v.ct k)) (hR.ct (by omega)) ?_
    refine l_cmp_le G 36 dX1_comesBefore_28 dX1_comesBefore_29 (by decide) (fun c28 => ?_) (fun c28 => ?_)
    · refine r_iconst G (nI 0) dX1_comesBefore_36 (by decide) ?_
      exact hret _ _ _ _ _ _ dX1_comesBefore_37 rfl hH ⟨bI_f (key_le hv hj hk c28 c12), rfl⟩
    · refine r_iconst G (nI 1) dX1_comesBefore_32 (by decide) ?_
      refine r_goto G 37 dX1_comesBefore_33 (by decide) ?_
      exact hret _ _ _ _ _ _ dX1_comesBefore_37 rfl hH ⟨bI_t (key_gt hv hj hk (Int64.not_le.mp c28)), rfl⟩
set_option maxHeartbeats 4000000 in
theorem X_isBlock (l : Launch) (D : va_G) (a : Nat → Nat) (d : Nat → ClassId) {σ : St} {v : Vw} {b : Int32} (hR : XR σ v) : CMi l yX0_isBlock cX0_isBlock 2 .boolean 0 0 D (xt d) (xw a d) [.ref (a 0), .int b] σ (fun r σ' => r = bI (inB v.nb b) ∧ σ' = σ) := by
  refine CMi.of (by decide) (Nat.le_of_ble_eq_true rfl) ?_
  intro E ls G hfr hlo K hH hl hret
  have hl : lv_has ls 2 [(0, .ref (a 0)), (1, .int b)] := hl
  have G : CX E RX0 cX0_isBlock 2 := G
  have hv := hR.ok
  have hbd := hv.bd
  refine r_iload_n G dX0_isBlock_0 rfl (lv_at hl 1 rfl) ?_
  refine r_if_lt G 16 dX0_isBlock_1 (by decide) (fun c1 => ?_) (fun c1 => ?_)
  · refine r_iconst G (nI 0) dX0_isBlock_16 (by decide) ?_
    exact hret _ _ _ _ _ _ dX0_isBlock_17 rfl hH ⟨by rw [inB_neg c1]; rfl, rfl⟩
  · obtain ⟨j, hj, rfl⟩ := nI_of c1
    refine r_iload_n G dX0_isBlock_4 rfl (lv_at hl 1 rfl) ?_
    refine xg_blocks G K hH (lv_at hl 0 rfl) dX0_isBlock_5 dX0_isBlock_6 ?_
    refine r_toi (y := nI v.nb) (hR.nb) ?_
    refine n_icmp_ge G (by omega) (by omega) 16 dX0_isBlock_9 (by decide) (fun c9 => ?_) (fun c9 => ?_)
    · refine r_iconst G (nI 0) dX0_isBlock_16 (by decide) ?_
      exact hret _ _ _ _ _ _ dX0_isBlock_17 rfl hH ⟨by rw [inB_nI hj]; exact bI_f (by omega), rfl⟩
    · refine r_iconst G (nI 1) dX0_isBlock_12 (by decide) ?_
      refine r_goto G 17 dX0_isBlock_13 (by decide) ?_
      exact hret _ _ _ _ _ _ dX0_isBlock_17 rfl hH ⟨by rw [inB_nI hj]; exact bI_t c9, rfl⟩
set_option maxHeartbeats 4000000 in
theorem M_isBlock (l : Launch) (D : va_G) (a : Nat → Nat) (d : Nat → ClassId) {σ : St} {v : Vw} {b : Int32} (hR : MR σ v) : CMi l yX1_isBlock cX1_isBlock 2 .boolean 0 0 D (mt d) (mw a d) [.ref (a 0), .int b] σ (fun r σ' => r = bI (inB v.nb b) ∧ σ' = σ) := by
  refine CMi.of (by decide) (Nat.le_of_ble_eq_true rfl) ?_
  intro E ls G hfr hlo K hH hl hret
  have hl : lv_has ls 2 [(0, .ref (a 0)), (1, .int b)] := hl
  have G : CX E RX1 cX1_isBlock 2 := G
  have hv := hR.ok
  have hbd := hv.bd
  refine r_iload_n G dX1_isBlock_0 rfl (lv_at hl 1 rfl) ?_
  refine r_if_lt G 16 dX1_isBlock_1 (by decide) (fun c1 => ?_) (fun c1 => ?_)
  · refine r_iconst G (nI 0) dX1_isBlock_16 (by decide) ?_
    exact hret _ _ _ _ _ _ dX1_isBlock_17 rfl hH ⟨by rw [inB_neg c1]; rfl, rfl⟩
  · obtain ⟨j, hj, rfl⟩ := nI_of c1
    refine r_iload_n G dX1_isBlock_4 rfl (lv_at hl 1 rfl) ?_
    refine mg_blocks G K hH (lv_at hl 0 rfl) dX1_isBlock_5 dX1_isBlock_6 ?_
    refine r_toi (y := nI v.nb) (hR.nb) ?_
    refine n_icmp_ge G (by omega) (by omega) 16 dX1_isBlock_9 (by decide) (fun c9 => ?_) (fun c9 => ?_)
    · refine r_iconst G (nI 0) dX1_isBlock_16 (by decide) ?_
      exact hret _ _ _ _ _ _ dX1_isBlock_17 rfl hH ⟨by rw [inB_nI hj]; exact bI_f (by omega), rfl⟩
    · refine r_iconst G (nI 1) dX1_isBlock_12 (by decide) ?_
      refine r_goto G 17 dX1_isBlock_13 (by decide) ?_
      exact hret _ _ _ _ _ _ dX1_isBlock_17 rfl hH ⟨by rw [inB_nI hj]; exact bI_t c9, rfl⟩
set_option maxHeartbeats 4000000 in
theorem X_headOf_L {E : Ev} {a : Nat → Nat} {d : Nat → ClassId} {σ0 : St} {v : Vw} {s : Cs} {b : Nat} (G : CX E RX0 cX0_headOf 3) (K : KX E (xt d)) (hR : XR σ0 v) (hs : CsOk v s) (hret : ∀ (pc : Nat) (ls : Array Slot) (H : Heap) (locs : List Loc) (f : Nat → Int32), decode cX0_headOf pc = .ok (.ireturn, 1) → UF v s f → XH E a d (sI σ0 12 f) H locs → WE E H locs pc ls [.int (nI (s.co b))]) :
    ∀ (n : Nat) (f : Nat → Int32) (h : Nat) (H : Heap) (locs : List Loc) (ls : Array Slot), s.ps h < n → h < v.nb → s.co h = s.co b → UF v s f → XH E a d (sI σ0 12 f) H locs → lv_has ls 3 [(0, .ref (a 0)), (2, .int (nI h))] → WE E H locs 2 ls [] := by
  have hv := hR.ok
  have hbd := hv.bd
  intro n
  induction n with
  | zero => exact fun f h H locs ls q => absurd q (Nat.not_lt_zero _)
  | succ n ih =>
    intro f h H locs ls hn hh hc hu hH hl
    obtain ⟨j, hj, ej, cj, pj⟩ := hu h hh
    obtain ⟨i, hi, ei, ci, pi⟩ := hu j hj
    refine xg_head G K hH (lv_at hl 0 rfl) dX0_headOf_2 dX0_headOf_3 ?_
    refine r_iload_n G dX0_headOf_6 rfl (lv_at hl 1 rfl) ?_
    refine xl_head G K hH (by omega) dX0_headOf_7 ?_
    refine r_toi (y := nI j) (ej) ?_
    refine r_iload_n G dX0_headOf_8 rfl (lv_at hl 1 rfl) ?_
    refine n_icmp_eq G (by omega) (by omega) 39 dX0_headOf_9 (by decide) (fun c9 => ?_) (fun c9 => ?_)
    · refine r_iload_n G dX0_headOf_39 rfl (lv_at hl 1 rfl) ?_
      subst c9
      rcases pj with pj | ⟨-, pj⟩
      · omega
      · have e := (hs.first hh).mp pj
        rw [← hc, e] at hret
        exact hret _ _ _ _ _ dX0_headOf_40 hu hH
    · refine xg_head G K hH (lv_at hl 0 rfl) dX0_headOf_12 dX0_headOf_13 ?_
      refine r_iload_n G dX0_headOf_16 rfl (lv_at hl 1 rfl) ?_
      refine xg_head G K hH (lv_at hl 0 rfl) dX0_headOf_17 dX0_headOf_18 ?_
      refine xg_head G K hH (lv_at hl 0 rfl) dX0_headOf_21 dX0_headOf_22 ?_
      refine r_iload_n G dX0_headOf_25 rfl (lv_at hl 1 rfl) ?_
      refine xl_head G K hH (by omega) dX0_headOf_26 ?_
      refine r_toi (y := nI j) (ej) ?_
      refine xl_head G K hH (by omega) dX0_headOf_27 ?_
      refine r_toi (y := nI i) (ei) ?_
      refine xs_head G K hH (by omega) dX0_headOf_28 (fun H locs hH => ?_)
      have hH : XH E a d (sI σ0 12 (upd f h (nI i))) H locs := by rw [sI_sI] at hH; exact hH
      refine xg_head G K hH (lv_at hl 0 rfl) dX0_headOf_29 dX0_headOf_30 ?_
      refine r_iload_n G dX0_headOf_33 rfl (lv_at hl 1 rfl) ?_
      refine xl_head G K hH (by omega) dX0_headOf_34 ?_
      refine r_toi (y := nI i) (upd_me _ _ _) ?_
      refine r_istore_n G [(2, .int (nI i)), (0, .ref (a 0))] dX0_headOf_35 rfl hl (by decide) rfl (fun ls hl => ?_)
      refine r_goto G 2 dX0_headOf_36 (by decide) ?_
      have hu2 := hu.half hbd.2.1 hh hj ej hi ei
      obtain ⟨j2, hj2, e2, c2, p2⟩ := hu2 h hh
      rw [upd_me] at e2
      have z : i = j2 := (nI_eq (by omega) (by omega)).mp e2
      subst z
      rcases pj with pj | ⟨pj, -⟩
      · refine ih _ i H locs ls ?_ hi (by rw [ci, cj, hc]) hu2 hH (lv_sub hl [1, 0] rfl)
        rcases pi with pi | ⟨pi, pi2⟩
        · omega
        · rw [pi]; omega
      · exact absurd pj c9
set_option maxHeartbeats 4000000 in
theorem X_headOf (l : Launch) (D : va_G) (a : Nat → Nat) (d : Nat → ClassId) {σ : St} {v : Vw} {s : Cs} {b : Nat} (hR : XR σ v) (hs : CsOk v s) (hu : UF v s (σ.2.1 12)) (hb : b < v.nb) : CMi l yX0_headOf cX0_headOf 3 .int 0 0 D (xt d) (xw a d) [.ref (a 0), .int (nI b)] σ (fun r σ' => r = nI (s.co b) ∧ ∃ f, σ' = sI σ 12 f ∧ UF v s f) := by
  refine CMi.of (by decide) (Nat.le_of_ble_eq_true rfl) ?_
  intro E ls G hfr hlo K hH hl hret
  have hl : lv_has ls 3 [(0, .ref (a 0)), (1, .int (nI b))] := hl
  have G : CX E RX0 cX0_headOf 3 := G
  refine r_iload_n G dX0_headOf_0 rfl (lv_at hl 1 rfl) ?_
  refine r_istore_n G [(2, .int (nI b)), (0, .ref (a 0)), (1, .int (nI b))] dX0_headOf_1 rfl hl (by decide) rfl (fun ls hl => ?_)
  refine X_headOf_L G K hR hs (b := b) (fun pc ls H locs f dg hf hH => hret _ _ _ _ _ _ dg rfl hH ⟨rfl, f, rfl, hf⟩) (s.ps b + 1) (σ.2.1 12) b _ _ ls (by omega) hb rfl hu ?_ (lv_sub hl [1, 0] rfl)
  rw [sI_me]
  exact hH
end
section
set_option maxRecDepth 100000
set_option maxHeartbeats 4000000 in
theorem X_sink_B {E : Ev} {a : Nat → Nat} {d : Nat → ClassId} {σ0 : St} {v : Vw} {s0 : Nat → Nat} {n lo M : Nat} (G : CX E RX0 cX0_sink 7) (K : KX E (xt d)) (hfr : 1 ≤ E.R.frames) (hlo : 22 ≤ E.R.locals) (hR : XR σ0 v) (hn : n ≤ 1000) (hw0 : ∀ i, i < n → s0 i < v.nw) (ih : ∀ (s : Nat → Nat) (f : Nat → Int32) (k : Nat) (m : Bool) (H : Heap) (locs : List Loc) (ls : Array Slot), SkI v s0 s (σ0.2.1 9) f n lo k m → 2 * (n - k) + m.toNat < M → XH E a d (sI σ0 9 f) H locs → lv_has ls 7 [(0, .ref (a 0)), (2, .int (nI n)), (3, .int (nI k)), (4, .int (bI m))] → WE E H locs 18 ls []) :
    ∀ (s : Nat → Nat) (f : Nat → Int32) (k c : Nat) (H : Heap) (locs : List Loc) (ls : Array Slot), SkI v s0 s (σ0.2.1 9) f n lo k true → c < n → (c = 2 * k + 1 ∨ c = 2 * k + 2) → (∀ e, e < n → (e = 2 * k + 1 ∨ e = 2 * k + 2) → v.key (s e) ≤ v.key (s c)) → 2 * (n - k) < M → XH E a d (sI σ0 9 f) H locs → lv_has ls 7 [(0, .ref (a 0)), (2, .int (nI n)), (3, .int (nI k)), (5, .int (nI c))] → WE E H locs 64 ls [] := by
  have hv := hR.ok
  have hbd := hv.bd
  intro s f k c H locs ls hs hc hch hmax hM hH hl
  obtain ⟨g1, g2, g3, g4, g5, g6, g7, g8, g9⟩ := id hs
  have hw : ∀ i, i < n → s i < v.nw := fun i hi => by
    obtain ⟨j, hj, e⟩ := g5.1 i hi
    rw [e]
    exact hw0 j hj
  refine r_aload_n G dX0_sink_64 rfl (lv_at hl 0 rfl) ?_
  refine xg_sorted G K hH (lv_at hl 0 rfl) dX0_sink_65 dX0_sink_66 ?_
  refine r_iload_n G dX0_sink_69 rfl (lv_at hl 2 rfl) ?_
  refine xl_sorted G K hH (by omega) dX0_sink_70 ?_
  refine r_toi (y := nI (s k)) (g3 k (by omega)) ?_
  have := hw k (by omega)
  refine xg_sorted G K hH (lv_at hl 0 rfl) dX0_sink_71 dX0_sink_72 ?_
  refine r_iload G dX0_sink_75 (lv_at hl 3 rfl) ?_
  refine xl_sorted G K hH (by omega) dX0_sink_77 ?_
  refine r_toi (y := nI (s c)) (g3 c (by omega)) ?_
  have := hw c (by omega)
  refine xcall_i G K hH rfl (X_sooner E.l E.D a d (σ := sI σ0 9 f) (v := v) (j := s k) (k := s c) hR (hw _ (by omega)) (hw _ (by omega))) q147 q149 qs5 q150 rfl ⟨by omega, by omega⟩ hl.1 (rest := []) rfl (Nat.le_of_ble_eq_true rfl) dX0_sink_78 (fun r σ1 H locs hH hp => ?_)
  obtain ⟨rfl, rfl⟩ := hp
  refine r_istore G [(4, .int (bI (decide (v.key (s k) < v.key (s c))))), (0, .ref (a 0)), (2, .int (nI n)), (3, .int (nI k)), (5, .int (nI c))] dX0_sink_81 hl (by decide) rfl (fun ls hl => ?_)
  refine r_iload G dX0_sink_83 (lv_at hl 0 rfl) ?_
  refine b_if_ne G 91 dX0_sink_85 (by decide) (fun c85 => ?_) (fun c85 => ?_)
  · refine xg_sorted G K hH (lv_at hl 1 rfl) dX0_sink_91 dX0_sink_92 ?_
    refine r_iload_n G dX0_sink_95 rfl (lv_at hl 3 rfl) ?_
    refine xl_sorted G K hH (by omega) dX0_sink_96 ?_
    refine r_toi (y := nI (s k)) (g3 k (by omega)) ?_
    have := hw k (by omega)
    refine r_istore G [(6, .int (nI (s k))), (4, .int (bI (decide (v.key (s k) < v.key (s c))))), (0, .ref (a 0)), (2, .int (nI n)), (3, .int (nI k)), (5, .int (nI c))] dX0_sink_97 hl (by decide) rfl (fun ls hl => ?_)
    refine xg_sorted G K hH (lv_at hl 2 rfl) dX0_sink_99 dX0_sink_100 ?_
    refine r_iload_n G dX0_sink_103 rfl (lv_at hl 4 rfl) ?_
    refine xg_sorted G K hH (lv_at hl 2 rfl) dX0_sink_104 dX0_sink_105 ?_
    refine r_iload G dX0_sink_108 (lv_at hl 5 rfl) ?_
    refine xl_sorted G K hH (by omega) dX0_sink_110 ?_
    refine r_toi (y := nI (s c)) (g3 c (by omega)) ?_
    have := hw c (by omega)
    refine xs_sorted G K hH (by omega) dX0_sink_111 (fun H locs hH => ?_)
    have hH : XH E a d (sI σ0 9 (upd f k (nI (s c)))) H locs := by rw [sI_sI] at hH; exact hH
    refine xg_sorted G K hH (lv_at hl 2 rfl) dX0_sink_112 dX0_sink_113 ?_
    refine r_iload G dX0_sink_116 (lv_at hl 5 rfl) ?_
    refine r_iload G dX0_sink_118 (lv_at hl 0 rfl) ?_
    refine xs_sorted G K hH (by omega) dX0_sink_120 (fun H locs hH => ?_)
    have hH : XH E a d (sI σ0 9 (upd (upd f k (nI (s c))) c (nI (s k)))) H locs := by rw [sI_sI] at hH; exact hH
    refine r_iload G dX0_sink_121 (lv_at hl 5 rfl) ?_
    refine r_istore_n G [(3, .int (nI c)), (6, .int (nI (s k))), (4, .int (bI (decide (v.key (s k) < v.key (s c))))), (0, .ref (a 0)), (2, .int (nI n)), (5, .int (nI c))] dX0_sink_123 rfl hl (by decide) rfl (fun ls hl => ?_)
    refine r_iconst G (nI 2) dX0_sink_124 (by decide) ?_
    refine r_iload_n G dX0_sink_125 rfl (lv_at hl 0 rfl) ?_
    refine r_imulN G dX0_sink_126 ?_
    refine r_iconst G (nI 1) dX0_sink_127 (by decide) ?_
    refine r_iaddN G dX0_sink_128 ?_
    refine r_iload_n G dX0_sink_129 rfl (lv_at hl 4 rfl) ?_
    refine n_icmp_ge G (by omega) (by omega) 137 dX0_sink_130 (by decide) (fun c130 => ?_) (fun c130 => ?_)
    · refine r_iconst G (nI 0) dX0_sink_137 (by decide) ?_
      refine r_istore G [(4, .int (nI 0)), (3, .int (nI c)), (6, .int (nI (s k))), (0, .ref (a 0)), (2, .int (nI n)), (5, .int (nI c))] dX0_sink_138 hl (by decide) rfl (fun ls hl => ?_)
      refine r_goto G 18 dX0_sink_140 (by decide) ?_
      exact ih _ _ c false H locs ls (hs.step hc hch hmax (of_decide_eq_true c85) ⟨(fun z => by cases z), fun z => absurd z (by omega)⟩) (by show 2 * (n - c) + 0 < M; omega) hH (lv_sub hl [3, 4, 1, 0] rfl)
    · refine r_iconst G (nI 1) dX0_sink_133 (by decide) ?_
      refine r_goto G 138 dX0_sink_134 (by decide) ?_
      refine r_istore G [(4, .int (nI 1)), (3, .int (nI c)), (6, .int (nI (s k))), (0, .ref (a 0)), (2, .int (nI n)), (5, .int (nI c))] dX0_sink_138 hl (by decide) rfl (fun ls hl => ?_)
      refine r_goto G 18 dX0_sink_140 (by decide) ?_
      exact ih _ _ c true H locs ls (hs.step hc hch hmax (of_decide_eq_true c85) ⟨fun _ => c130, fun _ => rfl⟩) (by show 2 * (n - c) + 1 < M; omega) hH (lv_sub hl [3, 4, 1, 0] rfl)
  · refine r_goto G 18 dX0_sink_88 (by decide) ?_
    refine ih s f k _ H locs ls ?_ ?_ hH (lv_sub hl [1, 2, 3, 0] rfl)
    · rw [c85]
      exact hs.stop hmax (of_decide_eq_false c85)
    · rw [c85]
      show 2 * (n - k) + 0 < M
      omega
set_option maxHeartbeats 4000000 in
theorem X_sink_L {E : Ev} {a : Nat → Nat} {d : Nat → ClassId} {σ0 : St} {v : Vw} {s0 : Nat → Nat} {n lo : Nat} (G : CX E RX0 cX0_sink 7) (K : KX E (xt d)) (hfr : 1 ≤ E.R.frames) (hlo : 22 ≤ E.R.locals) (hR : XR σ0 v) (hn : n ≤ 1000) (hw0 : ∀ i, i < n → s0 i < v.nw) (hret : ∀ (pc : Nat) (ls : Array Slot) (H : Heap) (locs : List Loc) (s : Nat → Nat) (f : Nat → Int32), decode cX0_sink pc = .ok (.return_, 1) → XH E a d (sI σ0 9 f) H locs → (∀ i, i < n → f i = nI (s i)) → (∀ i, n ≤ i → f i = σ0.2.1 9 i) → Prm n s0 s → Heapy v s n lo → WE E H locs pc ls []) :
    ∀ (M : Nat) (s : Nat → Nat) (f : Nat → Int32) (k : Nat) (m : Bool) (H : Heap) (locs : List Loc) (ls : Array Slot), SkI v s0 s (σ0.2.1 9) f n lo k m → 2 * (n - k) + m.toNat < M → XH E a d (sI σ0 9 f) H locs → lv_has ls 7 [(0, .ref (a 0)), (2, .int (nI n)), (3, .int (nI k)), (4, .int (bI m))] → WE E H locs 18 ls [] := by
  have hv := hR.ok
  have hbd := hv.bd
  intro M
  induction M with
  | zero => exact fun s f k m H locs ls _ q => absurd q (Nat.not_lt_zero _)
  | succ M ih =>
    intro s f k m H locs ls hs hM hH hl
    have ih : ∀ (s : Nat → Nat) (f : Nat → Int32) (k : Nat) (m : Bool) (H : Heap) (locs : List Loc) (ls : Array Slot), SkI v s0 s (σ0.2.1 9) f n lo k m → 2 * (n - k) + m.toNat < M → XH E a d (sI σ0 9 f) H locs → lv_has ls 7 [(0, .ref (a 0)), (2, .int (nI n)), (3, .int (nI k)), (4, .int (bI m))] → WE E H locs 18 ls [] := ih
    obtain ⟨g1, g2, g3, g4, g5, g6, g7, g8, g9⟩ := id hs
    have hw : ∀ i, i < n → s i < v.nw := fun i hi => by
      obtain ⟨j, hj, e⟩ := g5.1 i hi
      rw [e]
      exact hw0 j hj
    refine r_iload G dX0_sink_18 (lv_at hl 3 rfl) ?_
    refine b_if_eq G 143 dX0_sink_20 (by decide) (fun c20 => ?_) (fun c20 => ?_)
    · subst c20
      exact hret _ _ _ _ s f dX0_sink_143 hH g3 g4 g5 hs.done
    · subst c20
      have g8b := g8 rfl
      have hM : 2 * (n - k) + 1 < M + 1 := hM
      refine r_iconst G (nI 2) dX0_sink_23 (by decide) ?_
      refine r_iload_n G dX0_sink_24 rfl (lv_at hl 2 rfl) ?_
      refine r_imulN G dX0_sink_25 ?_
      refine r_iconst G (nI 1) dX0_sink_26 (by decide) ?_
      refine r_iaddN G dX0_sink_27 ?_
      refine r_istore G [(5, .int (nI ((2 * k) + 1))), (0, .ref (a 0)), (2, .int (nI n)), (3, .int (nI k)), (4, .int (bI true))] dX0_sink_28 hl (by decide) rfl (fun ls hl => ?_)
      refine r_iload G dX0_sink_30 (lv_at hl 0 rfl) ?_
      refine r_iconst G (nI 1) dX0_sink_32 (by decide) ?_
      refine r_iaddN G dX0_sink_33 ?_
      refine r_iload_n G dX0_sink_34 rfl (lv_at hl 2 rfl) ?_
      refine n_icmp_ge G (by omega) (by omega) 64 dX0_sink_35 (by decide) (fun c35 => ?_) (fun c35 => ?_)
      · have hmx : ∀ e, e < n → (e = 2 * k + 1 ∨ e = 2 * k + 2) → v.key (s e) ≤ v.key (s (2 * k + 1)) := by
          intro e he hce
          rw [show e = 2 * k + 1 by omega]
          exact Int.le_refl _
        exact X_sink_B G K hfr hlo hR hn hw0 ih s f k (2 * k + 1) H locs ls hs (g8 rfl) (Or.inl rfl) hmx (by have : (true : Bool).toNat = 1 := rfl; omega) hH (lv_sub hl [1, 2, 3, 0] rfl)
      · refine r_aload_n G dX0_sink_38 rfl (lv_at hl 1 rfl) ?_
        refine xg_sorted G K hH (lv_at hl 1 rfl) dX0_sink_39 dX0_sink_40 ?_
        refine r_iload G dX0_sink_43 (lv_at hl 0 rfl) ?_
        refine xl_sorted G K hH (by omega) dX0_sink_45 ?_
        refine r_toi (y := nI (s ((2 * k) + 1))) (g3 ((2 * k) + 1) (by omega)) ?_
        have := hw ((2 * k) + 1) (by omega)
        refine xg_sorted G K hH (lv_at hl 1 rfl) dX0_sink_46 dX0_sink_47 ?_
        refine r_iload G dX0_sink_50 (lv_at hl 0 rfl) ?_
        refine r_iconst G (nI 1) dX0_sink_52 (by decide) ?_
        refine r_iaddN G dX0_sink_53 ?_
        refine xl_sorted G K hH (by omega) dX0_sink_54 ?_
        refine r_toi (y := nI (s (((2 * k) + 1) + 1))) (g3 (((2 * k) + 1) + 1) (by omega)) ?_
        have := hw (((2 * k) + 1) + 1) (by omega)
        refine xcall_i G K hH rfl (X_sooner E.l E.D a d (σ := sI σ0 9 f) (v := v) (j := s (2 * k + 1)) (k := s (2 * k + 1 + 1)) hR (hw _ (by omega)) (hw _ (by omega))) q147 q149 qs5 q150 rfl ⟨by omega, by omega⟩ hl.1 (rest := []) rfl (Nat.le_of_ble_eq_true rfl) dX0_sink_55 (fun r σ1 H locs hH hp => ?_)
        obtain ⟨rfl, rfl⟩ := hp
        refine b_if_eq G 64 dX0_sink_58 (by decide) (fun c58 => ?_) (fun c58 => ?_)
        · have c58 := of_decide_eq_false c58
          have hmx : ∀ e, e < n → (e = 2 * k + 1 ∨ e = 2 * k + 2) → v.key (s e) ≤ v.key (s (2 * k + 1)) := by
            intro e he hce
            rcases hce with z | z
            · rw [z]
              exact Int.le_refl _
            · rw [show e = 2 * k + 1 + 1 by omega]
              omega
          exact X_sink_B G K hfr hlo hR hn hw0 ih s f k (2 * k + 1) H locs ls hs (g8 rfl) (Or.inl rfl) hmx (by have : (true : Bool).toNat = 1 := rfl; omega) hH (lv_sub hl [1, 2, 3, 0] rfl)
        · refine r_iinc G (k := 0) (nI (((2 * k) + 1) + 1)) [(5, .int (nI (((2 * k) + 1) + 1))), (0, .ref (a 0)), (2, .int (nI n)), (3, .int (nI k)), (4, .int (bI true))] dX0_sink_61 hl rfl (inc1 _) (by decide) rfl (fun ls hl => ?_)
          have c58 := of_decide_eq_true c58
          have hmx : ∀ e, e < n → (e = 2 * k + 1 ∨ e = 2 * k + 2) → v.key (s e) ≤ v.key (s (2 * k + 1 + 1)) := by
            intro e he hce
            rcases hce with z | z
            · rw [z]
              omega
            · rw [show e = 2 * k + 1 + 1 by omega]
              exact Int.le_refl _
          exact X_sink_B G K hfr hlo hR hn hw0 ih s f k (2 * k + 1 + 1) H locs ls hs (by omega) (Or.inr rfl) hmx (by have : (true : Bool).toNat = 1 := rfl; omega) hH (lv_sub hl [1, 2, 3, 0] rfl)
set_option maxHeartbeats 4000000 in
theorem X_sink (l : Launch) (D : va_G) (a : Nat → Nat) (d : Nat → ClassId) {σ : St} {v : Vw} {s : Nat → Nat} {n lo : Nat} (hR : XR σ v) (hn : n ≤ 1000) (hw : ∀ i, i < n → s i < v.nw) (hf : ∀ i, i < n → σ.2.1 9 i = nI (s i)) (hl0 : lo < n) (hh : Heapy v s n (lo + 1)) : CMv l yX0_sink cX0_sink 7 1 22 D (xt d) (xw a d) [.ref (a 0), .int (nI lo), .int (nI n)] σ (fun σ' => ∃ (f : Nat → Int32) (s' : Nat → Nat), σ' = sI σ 9 f ∧ (∀ i, i < n → f i = nI (s' i)) ∧ (∀ i, n ≤ i → f i = σ.2.1 9 i) ∧ Prm n s s' ∧ Heapy v s' n lo) := by
  refine CMv.of (by decide) (Nat.le_of_ble_eq_true rfl) ?_
  intro E ls G hfr hlo K hH hl hret
  have hl : lv_has ls 7 [(0, .ref (a 0)), (1, .int (nI lo)), (2, .int (nI n))] := hl
  have G : CX E RX0 cX0_sink 7 := G
  have hH : XH E a d (sI σ 9 (σ.2.1 9)) E.s.heap [] := by rw [sI_me]; exact hH
  refine r_iload_n G dX0_sink_0 rfl (lv_at hl 1 rfl) ?_
  refine r_istore_n G [(3, .int (nI lo)), (0, .ref (a 0)), (1, .int (nI lo)), (2, .int (nI n))] dX0_sink_1 rfl hl (by decide) rfl (fun ls hl => ?_)
  refine r_iconst G (nI 2) dX0_sink_2 (by decide) ?_
  refine r_iload_n G dX0_sink_3 rfl (lv_at hl 0 rfl) ?_
  refine r_imulN G dX0_sink_4 ?_
  refine r_iconst G (nI 1) dX0_sink_5 (by decide) ?_
  refine r_iaddN G dX0_sink_6 ?_
  refine r_iload_n G dX0_sink_7 rfl (lv_at hl 3 rfl) ?_
  refine n_icmp_ge G (by omega) (by omega) 15 dX0_sink_8 (by decide) (fun c8 => ?_) (fun c8 => ?_)
  · refine r_iconst G (nI 0) dX0_sink_15 (by decide) ?_
    refine r_istore G [(4, .int (nI 0)), (3, .int (nI lo)), (0, .ref (a 0)), (1, .int (nI lo)), (2, .int (nI n))] dX0_sink_16 hl (by decide) rfl (fun ls hl => ?_)
    exact X_sink_L G K hfr hlo hR hn hw (fun pc ls H locs s' f dg hH q1 q2 q3 q4 => hret _ _ _ _ _ dg hH ⟨f, s', rfl, q1, q2, q3, q4⟩) (2 * (n - lo) + 2) s _ lo false _ _ ls (SkI.start hl0 hf hh ⟨(fun z => by cases z), fun z => absurd z (by omega)⟩) (by have := (false : Bool).toNat_le; omega) hH (lv_sub hl [2, 4, 1, 0] rfl)
  · refine r_iconst G (nI 1) dX0_sink_11 (by decide) ?_
    refine r_goto G 16 dX0_sink_12 (by decide) ?_
    refine r_istore G [(4, .int (nI 1)), (3, .int (nI lo)), (0, .ref (a 0)), (1, .int (nI lo)), (2, .int (nI n))] dX0_sink_16 hl (by decide) rfl (fun ls hl => ?_)
    exact X_sink_L G K hfr hlo hR hn hw (fun pc ls H locs s' f dg hH q1 q2 q3 q4 => hret _ _ _ _ _ dg hH ⟨f, s', rfl, q1, q2, q3, q4⟩) (2 * (n - lo) + 2) s _ lo true _ _ ls (SkI.start hl0 hf hh ⟨fun _ => c8, fun _ => rfl⟩) (by have := (true : Bool).toNat_le; omega) hH (lv_sub hl [2, 4, 1, 0] rfl)
set_option maxHeartbeats 4000000 in
theorem X_sort_L1 {E : Ev} {a : Nat → Nat} {d : Nat → ClassId} {σ0 : St} {v : Vw} (G : CX E RX0 cX0_sort 4) (K : KX E (xt d)) (hR : XR σ0 v) (kk : ∀ (s : Nat → Nat) (f : Nat → Int32) (n : Nat) (H : Heap) (locs : List Loc) (ls : Array Slot), CoI v s f n v.nw → XH E a d (sI σ0 9 f) H locs → lv_has ls 4 [(0, .ref (a 0)), (1, .int (nI n))] → WE E H locs 79 ls []) :
    ∀ (M : Nat) (s : Nat → Nat) (f : Nat → Int32) (n k : Nat) (H : Heap) (locs : List Loc) (ls : Array Slot), CoI v s f n k → k ≤ v.nw → v.nw - k < M → XH E a d (sI σ0 9 f) H locs → lv_has ls 4 [(0, .ref (a 0)), (1, .int (nI n)), (2, .int (nI k))] → WE E H locs 4 ls [] := by
  have hv := hR.ok
  have hbd := hv.bd
  intro M
  induction M with
  | zero => exact fun s f n k H locs ls _ _ q => absurd q (Nat.not_lt_zero _)
  | succ M ih =>
    intro s f n k H locs ls hs hk hM hH hl
    have hnk := hs.1
    refine r_iload_n G dX0_sort_4 rfl (lv_at hl 2 rfl) ?_
    refine xg_ways G K hH (lv_at hl 0 rfl) dX0_sort_5 dX0_sort_6 ?_
    refine r_toi (y := nI v.nw) (hR.nw) ?_
    refine n_icmp_ge G (by omega) (by omega) 79 dX0_sort_9 (by decide) (fun c9 => ?_) (fun c9 => ?_)
    · have e : k = v.nw := by omega
      subst e
      exact kk s f n H locs ls hs hH (lv_sub hl [0, 1] rfl)
    · refine xg_falls G K hH (lv_at hl 0 rfl) dX0_sort_12 dX0_sort_13 ?_
      refine r_iload_n G dX0_sort_16 rfl (lv_at hl 2 rfl) ?_
      refine xl_falls G K hH (by omega) dX0_sort_17 ?_
      refine r_toi (y := bI (v.fa k)) (hR.fa (by omega)) ?_
      refine b_if_eq G 73 dX0_sort_18 (by decide) (fun c18 => ?_) (fun c18 => ?_)
      · refine r_iinc G (k := 2) (nI (k + 1)) [(2, .int (nI (k + 1))), (0, .ref (a 0)), (1, .int (nI n))] dX0_sort_73 hl rfl (inc1 _) (by decide) rfl (fun ls hl => ?_)
        refine r_goto G 4 dX0_sort_76 (by decide) ?_
        have hc : v.cand k = false := by unfold Vw.cand; simp [c18]
        exact ih _ _ _ _ H locs ls (hs.skip hc) (by omega) (by omega) hH (lv_sub hl [1, 2, 0] rfl)
      · refine xg_counts G K hH (lv_at hl 0 rfl) dX0_sort_21 dX0_sort_22 ?_
        refine r_iload_n G dX0_sort_25 rfl (lv_at hl 2 rfl) ?_
        refine xl_counts G K hH (by omega) dX0_sort_26 ?_
        refine r_tol (y := (v.ct k)) (hR.ct (by omega)) ?_
        refine r_lconst G 0 dX0_sort_27 (by decide) ?_
        refine l_cmp_eq G 73 dX0_sort_28 dX0_sort_29 (by decide) (fun c28 => ?_) (fun c28 => ?_)
        · refine r_iinc G (k := 2) (nI (k + 1)) [(2, .int (nI (k + 1))), (0, .ref (a 0)), (1, .int (nI n))] dX0_sort_73 hl rfl (inc1 _) (by decide) rfl (fun ls hl => ?_)
          refine r_goto G 4 dX0_sort_76 (by decide) ?_
          have hc : v.cand k = false := by unfold Vw.cand; simp [c28]
          exact ih _ _ _ _ H locs ls (hs.skip hc) (by omega) (by omega) hH (lv_sub hl [1, 2, 0] rfl)
        · refine xg_isHot G K hH (lv_at hl 0 rfl) dX0_sort_32 dX0_sort_33 ?_
          refine xg_from G K hH (lv_at hl 0 rfl) dX0_sort_36 dX0_sort_37 ?_
          refine r_iload_n G dX0_sort_40 rfl (lv_at hl 2 rfl) ?_
          refine xl_from G K hH (by omega) dX0_sort_41 ?_
          refine r_toi (y := nI (v.fr k)) (hR.fr (by omega)) ?_
          have := hv.frb (k := k) (by omega)
          refine xl_isHot G K hH (by omega) dX0_sort_42 ?_
          refine r_toi (y := bI (v.hot (v.fr k))) (hR.hot (by omega)) ?_
          refine b_if_eq G 73 dX0_sort_43 (by decide) (fun c43 => ?_) (fun c43 => ?_)
          · refine r_iinc G (k := 2) (nI (k + 1)) [(2, .int (nI (k + 1))), (0, .ref (a 0)), (1, .int (nI n))] dX0_sort_73 hl rfl (inc1 _) (by decide) rfl (fun ls hl => ?_)
            refine r_goto G 4 dX0_sort_76 (by decide) ?_
            have hc : v.cand k = false := by unfold Vw.cand; simp [c43]
            exact ih _ _ _ _ H locs ls (hs.skip hc) (by omega) (by omega) hH (lv_sub hl [1, 2, 0] rfl)
          · refine xg_isHot G K hH (lv_at hl 0 rfl) dX0_sort_46 dX0_sort_47 ?_
            refine xg_to G K hH (lv_at hl 0 rfl) dX0_sort_50 dX0_sort_51 ?_
            refine r_iload_n G dX0_sort_54 rfl (lv_at hl 2 rfl) ?_
            refine xl_to G K hH (by omega) dX0_sort_55 ?_
            refine r_toi (y := nI (v.ta k)) (hR.ta (by omega)) ?_
            have := hv.tab (k := k) (by omega)
            refine xl_isHot G K hH (by omega) dX0_sort_56 ?_
            refine r_toi (y := bI (v.hot (v.ta k))) (hR.hot (by omega)) ?_
            refine b_if_ne G 63 dX0_sort_57 (by decide) (fun c57 => ?_) (fun c57 => ?_)
            · refine xg_sorted G K hH (lv_at hl 0 rfl) dX0_sort_63 dX0_sort_64 ?_
              refine r_iload_n G dX0_sort_67 rfl (lv_at hl 1 rfl) ?_
              refine r_iload_n G dX0_sort_68 rfl (lv_at hl 2 rfl) ?_
              refine xs_sorted G K hH (by omega) dX0_sort_69 (fun H locs hH => ?_)
              refine r_iinc G (k := 1) (nI (n + 1)) [(1, .int (nI (n + 1))), (0, .ref (a 0)), (2, .int (nI k))] dX0_sort_70 hl rfl (inc1 _) (by decide) rfl (fun ls hl => ?_)
              refine r_iinc G (k := 2) (nI (k + 1)) [(2, .int (nI (k + 1))), (1, .int (nI (n + 1))), (0, .ref (a 0))] dX0_sort_73 hl rfl (inc1 _) (by decide) rfl (fun ls hl => ?_)
              refine r_goto G 4 dX0_sort_76 (by decide) ?_
              have hc : v.cand k = true := by unfold Vw.cand; simp [c18, c28, c43, c57]
              have hH : XH E a d (sI σ0 9 (upd f n (nI k))) H locs := by rw [sI_sI] at hH; exact hH
              exact ih _ _ _ _ H locs ls (hs.add hc) (by omega) (by omega) hH (lv_sub hl [2, 1, 0] rfl)
            · refine r_goto G 73 dX0_sort_60 (by decide) ?_
              refine r_iinc G (k := 2) (nI (k + 1)) [(2, .int (nI (k + 1))), (0, .ref (a 0)), (1, .int (nI n))] dX0_sort_73 hl rfl (inc1 _) (by decide) rfl (fun ls hl => ?_)
              refine r_goto G 4 dX0_sort_76 (by decide) ?_
              have hc : v.cand k = false := by unfold Vw.cand; simp [c57]
              exact ih _ _ _ _ H locs ls (hs.skip hc) (by omega) (by omega) hH (lv_sub hl [1, 2, 0] rfl)
set_option maxHeartbeats 4000000 in
theorem X_sort_L2 {E : Ev} {a : Nat → Nat} {d : Nat → ClassId} {σ0 : St} {v : Vw} {s1 : Nat → Nat} {f1 : Nat → Int32} {n : Nat} (G : CX E RX0 cX0_sort 4) (K : KX E (xt d)) (hfr : 2 ≤ E.R.frames) (hlo : 48 ≤ E.R.locals) (hR : XR σ0 v) (h1 : CoI v s1 f1 n v.nw) (kk : ∀ (s : Nat → Nat) (f : Nat → Int32) (H : Heap) (locs : List Loc) (ls : Array Slot), (∀ i, i < n → f i = nI (s i)) → Prm n s1 s → Heapy v s n 0 → XH E a d (sI σ0 9 f) H locs → lv_has ls 4 [(0, .ref (a 0)), (1, .int (nI n))] → WE E H locs 101 ls []) :
    ∀ (j : Nat) (s : Nat → Nat) (f : Nat → Int32) (H : Heap) (locs : List Loc) (ls : Array Slot), (∀ i, i < n → f i = nI (s i)) → Prm n s1 s → Heapy v s n j → j ≤ n / 2 → XH E a d (sI σ0 9 f) H locs → lv_has ls 4 [(0, .ref (a 0)), (1, .int (nI n)), (2, .int (nI j - nI 1))] → WE E H locs 85 ls [] := by
  have hv := hR.ok
  have hbd := hv.bd
  have hn := h1.1
  intro j
  induction j with
  | zero =>
    intro s f H locs ls hf hp hh hj hH hl
    refine r_iload_n G dX0_sort_85 rfl (lv_at hl 2 rfl) ?_
    refine r_toi (y := (-1)) (rfl) ?_
    refine m1_if_lt G 101 dX0_sort_86 (by decide) ?_
    exact kk s f H locs ls hf hp hh hH (lv_sub hl [0, 1] rfl)
  | succ j ih =>
    intro s f H locs ls hf hp hh hj hH hl
    have hw : ∀ i, i < n → s i < v.nw := fun i hi => by
      obtain ⟨i2, hi2, e⟩ := hp.1 i hi
      rw [e]
      exact (h1.2.2.1 i2 hi2).1
    rw [pred1] at hl
    refine r_iload_n G dX0_sort_85 rfl (lv_at hl 2 rfl) ?_
    refine n_if_lt G (by omega) 101 dX0_sort_86 (by decide) ?_
    refine r_aload_n G dX0_sort_89 rfl (lv_at hl 0 rfl) ?_
    refine r_iload_n G dX0_sort_90 rfl (lv_at hl 2 rfl) ?_
    refine r_iload_n G dX0_sort_91 rfl (lv_at hl 1 rfl) ?_
    refine xcall_v G K hH rfl (X_sink E.l E.D a d (σ := sI σ0 9 f) (v := v) (s := s) (n := n) (lo := j) hR (by omega) hw hf (by omega) hh) q143 q145 qs4 q146 rfl ⟨by omega, by omega⟩ hl.1 (rest := []) rfl (Nat.le_of_ble_eq_true rfl) dX0_sort_92 (fun σ2 H locs hH hp => ?_)
    obtain ⟨f2, s2, rfl, q1, q2, q3, q4⟩ := hp
    refine r_iinc G (k := 2) (nI j - nI 1) [(2, .int (nI j - nI 1)), (0, .ref (a 0)), (1, .int (nI n))] dX0_sort_95 hl rfl (dec1 _) (by decide) rfl (fun ls hl => ?_)
    refine r_goto G 85 dX0_sort_98 (by decide) ?_
    exact ih s2 f2 H locs ls q1 (hp.trans q3) q4 (by omega) (by rw [sI_sI] at hH; exact hH) (lv_sub hl [1, 2, 0] rfl)
set_option maxHeartbeats 4000000 in
theorem X_sort_L3 {E : Ev} {a : Nat → Nat} {d : Nat → ClassId} {σ0 : St} {v : Vw} {s1 : Nat → Nat} {f1 : Nat → Int32} {n : Nat} (G : CX E RX0 cX0_sort 4) (K : KX E (xt d)) (hfr : 2 ≤ E.R.frames) (hlo : 48 ≤ E.R.locals) (hR : XR σ0 v) (h1 : CoI v s1 f1 n v.nw) (hret : ∀ (pc : Nat) (ls : Array Slot) (H : Heap) (locs : List Loc) (f : Nat → Int32), decode cX0_sort pc = .ok (.ireturn, 1) → XH E a d (sI σ0 9 f) H locs → n = v.sn → (∀ i, i < v.sn → f i = nI (v.sq i)) → WE E H locs pc ls [.int (nI n)]) :
    ∀ (q : Nat) (s : Nat → Nat) (f : Nat → Int32) (H : Heap) (locs : List Loc) (ls : Array Slot), HsI v s1 s f n q → XH E a d (sI σ0 9 f) H locs → lv_has ls 4 [(0, .ref (a 0)), (1, .int (nI n)), (2, .int (nI q - nI 1))] → WE E H locs 105 ls [] := by
  have hv := hR.ok
  have hbd := hv.bd
  have hn := h1.1
  intro q
  induction q with
  | zero =>
    intro s f H locs ls hs hH hl
    refine r_iload_n G dX0_sort_105 rfl (lv_at hl 2 rfl) ?_
    refine r_toi (y := (-1)) (rfl) ?_
    refine m1_if_le G 147 dX0_sort_106 (by decide) ?_
    refine r_iload_n G dX0_sort_147 rfl (lv_at hl 1 rfl) ?_
    obtain ⟨e1, e2⟩ := HsI.fin hv h1 hs (by omega)
    exact hret _ _ _ _ f dX0_sort_148 hH e1 (by rw [← e1]; exact e2)
  | succ m ih =>
    intro s f H locs ls hs hH hl
    obtain ⟨g1, g2, g3, g4, g5⟩ := id hs
    have hw : ∀ i, i < n → s i < v.nw := fun i hi => by
      obtain ⟨i2, hi2, e⟩ := g3.1 i hi
      rw [e]
      exact (h1.2.2.1 i2 hi2).1
    rw [pred1] at hl
    refine r_iload_n G dX0_sort_105 rfl (lv_at hl 2 rfl) ?_
    refine n_if_le G (by omega) 147 dX0_sort_106 (by decide) (fun c106 => ?_) (fun c106 => ?_)
    · refine r_iload_n G dX0_sort_147 rfl (lv_at hl 1 rfl) ?_
      obtain ⟨e1, e2⟩ := HsI.fin hv h1 hs (by omega)
      exact hret _ _ _ _ f dX0_sort_148 hH e1 (by rw [← e1]; exact e2)
    · refine xg_sorted G K hH (lv_at hl 0 rfl) dX0_sort_109 dX0_sort_110 ?_
      refine r_iconst G (nI 0) dX0_sort_113 (by decide) ?_
      refine xl_sorted G K hH (by omega) dX0_sort_114 ?_
      refine r_toi (y := nI (s 0)) (g2 0 (by omega)) ?_
      refine r_istore_n G [(3, .int (nI (s 0))), (0, .ref (a 0)), (1, .int (nI n)), (2, .int (nI m))] dX0_sort_115 rfl hl (by decide) rfl (fun ls hl => ?_)
      refine xg_sorted G K hH (lv_at hl 1 rfl) dX0_sort_116 dX0_sort_117 ?_
      refine r_iconst G (nI 0) dX0_sort_120 (by decide) ?_
      refine xg_sorted G K hH (lv_at hl 1 rfl) dX0_sort_121 dX0_sort_122 ?_
      refine r_iload_n G dX0_sort_125 rfl (lv_at hl 3 rfl) ?_
      refine xl_sorted G K hH (by omega) dX0_sort_126 ?_
      refine r_toi (y := nI (s m)) (g2 m (by omega)) ?_
      refine xs_sorted G K hH (by omega) dX0_sort_127 (fun H locs hH => ?_)
      have hH : XH E a d (sI σ0 9 (upd f 0 (nI (s m)))) H locs := by rw [sI_sI] at hH; exact hH
      refine xg_sorted G K hH (lv_at hl 1 rfl) dX0_sort_128 dX0_sort_129 ?_
      refine r_iload_n G dX0_sort_132 rfl (lv_at hl 3 rfl) ?_
      refine r_iload_n G dX0_sort_133 rfl (lv_at hl 0 rfl) ?_
      refine xs_sorted G K hH (by omega) dX0_sort_134 (fun H locs hH => ?_)
      have hH : XH E a d (sI σ0 9 (upd (upd f 0 (nI (s m))) m (nI (s 0)))) H locs := by rw [sI_sI] at hH; exact hH
      refine r_aload_n G dX0_sort_135 rfl (lv_at hl 1 rfl) ?_
      refine r_iconst G (nI 0) dX0_sort_136 (by decide) ?_
      refine r_iload_n G dX0_sort_137 rfl (lv_at hl 3 rfl) ?_
      have hp := hs.pre c106
      have hw2 : ∀ i, i < m → swp s 0 m i < v.nw := fun i hi => by
        obtain ⟨i2, hi2, e⟩ := (Prm.swp (n := n) (k := 0) (c := m) s (by omega) (by omega)).1 i (by omega)
        rw [e]
        exact hw i2 hi2
      refine xcall_v G K hH rfl (X_sink E.l E.D a d (σ := sI σ0 9 (upd (upd f 0 (nI (s m))) m (nI (s 0)))) (v := v) (s := swp s 0 m) (n := m) (lo := 0) hR (by omega) hw2 (fun i hi => hp.1 i (by omega)) (by omega) hp.2) q143 q145 qs4 q146 rfl ⟨by omega, by omega⟩ hl.1 (rest := []) rfl (Nat.le_of_ble_eq_true rfl) dX0_sort_138 (fun σ2 H locs hH hp => ?_)
      obtain ⟨f2, s2, rfl, q1, q2, q3, q4⟩ := hp
      refine r_iinc G (k := 3) (nI m - nI 1) [(2, .int (nI m - nI 1)), (3, .int (nI (s 0))), (0, .ref (a 0)), (1, .int (nI n))] dX0_sort_141 hl rfl (dec1 _) (by decide) rfl (fun ls hl => ?_)
      refine r_goto G 105 dX0_sort_144 (by decide) ?_
      exact ih s2 f2 H locs ls (HsI.next hv h1 hs c106 q3 q4 q1 q2) (by rw [sI_sI] at hH; exact hH) (lv_sub hl [2, 3, 0] rfl)
set_option maxHeartbeats 4000000 in
theorem X_sort (l : Launch) (D : va_G) (a : Nat → Nat) (d : Nat → ClassId) {σ : St} {v : Vw} (hR : XR σ v) : CMi l yX0_sort cX0_sort 4 .int 2 48 D (xt d) (xw a d) [.ref (a 0)] σ (fun r σ' => r = nI v.sn ∧ ∃ f, σ' = sI σ 9 f ∧ ∀ i, i < v.sn → f i = nI (v.sq i)) := by
  refine CMi.of (by decide) (Nat.le_of_ble_eq_true rfl) ?_
  intro E ls G hfr hlo K hH hl hret
  have hl : lv_has ls 4 [(0, .ref (a 0))] := hl
  have G : CX E RX0 cX0_sort 4 := G
  have hv := hR.ok
  have hbd := hv.bd
  have hH : XH E a d (sI σ 9 (σ.2.1 9)) E.s.heap [] := by rw [sI_me]; exact hH
  refine r_iconst G (nI 0) dX0_sort_0 (by decide) ?_
  refine r_istore_n G [(1, .int (nI 0)), (0, .ref (a 0))] dX0_sort_1 rfl hl (by decide) rfl (fun ls hl => ?_)
  refine r_iconst G (nI 0) dX0_sort_2 (by decide) ?_
  refine r_istore_n G [(2, .int (nI 0)), (1, .int (nI 0)), (0, .ref (a 0))] dX0_sort_3 rfl hl (by decide) rfl (fun ls hl => ?_)
  refine X_sort_L1 G K hR (fun s1 f1 n H locs ls h1 hH hl => ?_) (v.nw + 1) (fun _ => 0) _ 0 0 _ _ ls (CoI.zero v _) (Nat.zero_le _) (by omega) hH (lv_sub hl [2, 1, 0] rfl)
  have hn := h1.1
  refine r_iload_n G dX0_sort_79 rfl (lv_at hl 1 rfl) ?_
  refine r_iconst G (nI 2) dX0_sort_80 (by decide) ?_
  refine r_idivN G (by omega) (by omega) (by omega) dX0_sort_81 ?_
  refine r_iconst G (nI 1) dX0_sort_82 (by decide) ?_
  refine r_isub G dX0_sort_83 ?_
  refine r_istore_n G [(2, .int ((nI (n / 2)) - (nI 1))), (0, .ref (a 0)), (1, .int (nI n))] dX0_sort_84 rfl hl (by decide) rfl (fun ls hl => ?_)
  refine X_sort_L2 G K hfr hlo hR h1 (fun s f H locs ls hf hp hh hH hl => ?_) (n / 2) s1 f1 H locs ls h1.2.1 (Prm.refl _ _) (fun i c q1 q2 q3 => by omega) (Nat.le_refl _) hH (lv_sub hl [1, 2, 0] rfl)
  refine r_iload_n G dX0_sort_101 rfl (lv_at hl 1 rfl) ?_
  refine r_iconst G (nI 1) dX0_sort_102 (by decide) ?_
  refine r_isub G dX0_sort_103 ?_
  refine r_istore_n G [(2, .int ((nI n) - (nI 1))), (0, .ref (a 0)), (1, .int (nI n))] dX0_sort_104 rfl hl (by decide) rfl (fun ls hl => ?_)
  exact X_sort_L3 G K hfr hlo hR h1 (fun pc ls H locs f dg hH e1 e2 => hret _ _ _ _ _ _ dg rfl hH ⟨by rw [e1], f, rfl, e2⟩) n s f H locs ls ⟨Nat.le_refl _, hf, hp, hh, fun i j q1 q2 q3 => by omega⟩ hH (lv_sub hl [1, 2, 0] rfl)
end
section
set_option maxRecDepth 100000
theorem sI_ne {σ : St} {k j : Nat} {f : Nat → Int32} (h : j ≠ k) : (sI σ k f).2.1 j = σ.2.1 j := by
  unfold sI va_up
  exact if_neg h
set_option maxHeartbeats 4000000 in
theorem X_join_L1 {E : Ev} {a : Nat → Nat} {d : Nat → ClassId} {v : Vw} {F : Nat → Int32} (G : CX E RX0 cX0_join 5) (K : KX E (xt d)) (kk : ∀ (σ : St) (H : Heap) (locs : List Loc) (ls : Array Slot), XR σ v → σ.1 = F → CsX v Cs.ini (σ.2.1 10) (σ.2.1 11) (σ.2.1 12) → (∀ i, i < v.nb → σ.2.1 13 i = bI false) → (∀ i, i < v.nb → σ.2.2 14 i = 0) → XH E a d σ H locs → lv_has ls 5 [(0, .ref (a 0))] → WE E H locs 51 ls []) :
    ∀ (M : Nat) (σ : St) (b : Nat) (H : Heap) (locs : List Loc) (ls : Array Slot), XH E a d σ H locs → XR σ v → σ.1 = F → (∀ i, i < b → σ.2.1 10 i = -1) → (∀ i, i < b → σ.2.1 11 i = -1) → (∀ i, i < b → σ.2.1 12 i = nI i) → (∀ i, i < b → σ.2.1 13 i = bI false) → (∀ i, i < b → σ.2.2 14 i = 0) → b ≤ v.nb → v.nb - b < M → lv_has ls 5 [(0, .ref (a 0)), (1, .int (nI b))] → WE E H locs 2 ls [] := by
  intro M
  induction M with
  | zero => exact fun σ b H locs ls _ _ _ _ _ _ _ _ _ q => absurd q (Nat.not_lt_zero _)
  | succ M ih =>
    intro σ b H locs ls hH hR hF h10 h11 h12 h13 h14 hb hM hl
    have hv := hR.ok
    have hbd := hv.bd
    refine r_iload_n G dX0_join_2 rfl (lv_at hl 1 rfl) ?_
    refine xg_blocks G K hH (lv_at hl 0 rfl) dX0_join_3 dX0_join_4 ?_
    refine r_toi (y := nI v.nb) (hR.nb) ?_
    refine n_icmp_ge G (by omega) (by omega) 51 dX0_join_7 (by decide) (fun c7 => ?_) (fun c7 => ?_)
    · have e : b = v.nb := by omega
      subst e
      exact kk σ H locs ls hR hF (CsX.ini h10 h11 h12) h13 h14 hH (lv_sub hl [0] rfl)
    · refine xg_next G K hH (lv_at hl 0 rfl) dX0_join_10 dX0_join_11 ?_
      refine r_iload_n G dX0_join_14 rfl (lv_at hl 1 rfl) ?_
      refine r_iconst G ((-1)) dX0_join_15 (by decide) ?_
      refine xs_next G K hH (by omega) dX0_join_16 (fun H locs hH => ?_)
      refine xg_before G K hH (lv_at hl 0 rfl) dX0_join_17 dX0_join_18 ?_
      refine r_iload_n G dX0_join_21 rfl (lv_at hl 1 rfl) ?_
      refine r_iconst G ((-1)) dX0_join_22 (by decide) ?_
      refine xs_before G K hH (by omega) dX0_join_23 (fun H locs hH => ?_)
      refine xg_head G K hH (lv_at hl 0 rfl) dX0_join_24 dX0_join_25 ?_
      refine r_iload_n G dX0_join_28 rfl (lv_at hl 1 rfl) ?_
      refine r_iload_n G dX0_join_29 rfl (lv_at hl 1 rfl) ?_
      refine xs_head G K hH (by omega) dX0_join_30 (fun H locs hH => ?_)
      refine xg_isPlaced G K hH (lv_at hl 0 rfl) dX0_join_31 dX0_join_32 ?_
      refine r_iload_n G dX0_join_35 rfl (lv_at hl 1 rfl) ?_
      refine r_iconst G (nI 0) dX0_join_36 (by decide) ?_
      refine xs_isPlaced G K hH (by omega) (by decide) dX0_join_37 (fun H locs hH => ?_)
      refine xg_score G K hH (lv_at hl 0 rfl) dX0_join_38 dX0_join_39 ?_
      refine r_iload_n G dX0_join_42 rfl (lv_at hl 1 rfl) ?_
      refine r_lconst G 0 dX0_join_43 (by decide) ?_
      refine xs_score G K hH (by omega) dX0_join_44 (fun H locs hH => ?_)
      refine r_iinc G (k := 1) (nI (b + 1)) [(1, .int (nI (b + 1))), (0, .ref (a 0))] dX0_join_45 hl rfl (inc1 _) (by decide) rfl (fun ls hl => ?_)
      refine r_goto G 2 dX0_join_48 (by decide) ?_
      have g10 : ∀ i, i < b + 1 → upd (σ.2.1 10) b (-1) i = -1 := upd_run (g := fun _ => -1) h10 rfl
      have g11 : ∀ i, i < b + 1 → upd (σ.2.1 11) b (-1) i = -1 := upd_run (g := fun _ => -1) h11 rfl
      have g12 : ∀ i, i < b + 1 → upd (σ.2.1 12) b (nI b) i = nI i := upd_run (g := fun i => nI i) h12 rfl
      have g13 : ∀ i, i < b + 1 → upd (σ.2.1 13) b (nI 0) i = bI false := upd_run (g := fun _ => bI false) h13 rfl
      have g14 : ∀ i, i < b + 1 → vp_updL (σ.2.2 14) b 0 i = 0 := updL_run (g := fun _ => 0) h14 rfl
      exact ih _ _ H locs ls hH hR hF g10 g11 g12 g13 g14 (by omega) (by omega) (lv_sub hl [1, 0] rfl)
set_option maxHeartbeats 4000000 in
theorem X_join_L2 {E : Ev} {a : Nat → Nat} {d : Nat → ClassId} {v : Vw} {F : Nat → Int32} (G : CX E RX0 cX0_join 5) (K : KX E (xt d)) (hfr : 3 ≤ E.R.frames) (hlo : 71 ≤ E.R.locals) (hret : ∀ (pc : Nat) (ls : Array Slot) (H : Heap) (locs : List Loc) (σ : St), decode cX0_join pc = .ok (.return_, 1) → XH E a d σ H locs → XR σ v → σ.1 = F → CsX v v.cs (σ.2.1 10) (σ.2.1 11) (σ.2.1 12) → (∀ i, i < v.nb → σ.2.1 13 i = bI false) → (∀ i, i < v.nb → σ.2.2 14 i = 0) → WE E H locs pc ls []) :
    ∀ (M : Nat) (σ : St) (k : Nat) (H : Heap) (locs : List Loc) (ls : Array Slot), XH E a d σ H locs → XR σ v → σ.1 = F → (∀ i, i < v.sn → σ.2.1 9 i = nI (v.sq i)) → CsX v (chs v k) (σ.2.1 10) (σ.2.1 11) (σ.2.1 12) → (∀ i, i < v.nb → σ.2.1 13 i = bI false) → (∀ i, i < v.nb → σ.2.2 14 i = 0) → k ≤ v.sn → v.sn - k < M → lv_has ls 5 [(0, .ref (a 0)), (1, .int (nI v.sn)), (2, .int (nI k))] → WE E H locs 58 ls [] := by
  intro M
  induction M with
  | zero => exact fun σ k H locs ls _ _ _ _ _ _ _ _ q => absurd q (Nat.not_lt_zero _)
  | succ M ih =>
    intro σ k H locs ls hH hR hF h9 hC h13 h14 hk hM hl
    have hv := hR.ok
    have hbd := hv.bd
    have hsn := sn_le v
    refine r_iload_n G dX0_join_58 rfl (lv_at hl 2 rfl) ?_
    refine r_iload_n G dX0_join_59 rfl (lv_at hl 1 rfl) ?_
    refine n_icmp_ge G (by omega) (by omega) 163 dX0_join_60 (by decide) (fun c60 => ?_) (fun c60 => ?_)
    · have e : k = v.sn := by omega
      subst e
      exact hret _ _ _ _ σ dX0_join_163 hH hR hF hC h13 h14
    · have hq := ((srt_sl hv).1 k (by omega)).1
      have hu := hv.frb hq
      have hw := hv.tab hq
      have hs := chs_ok hv k (by omega)
      obtain ⟨hN, hB, hU⟩ := id hC
      have hcu := (hs.1 _ hu).1
      have hcw := (hs.1 _ hw).1
      refine xg_from G K hH (lv_at hl 0 rfl) dX0_join_63 dX0_join_64 ?_
      refine xg_sorted G K hH (lv_at hl 0 rfl) dX0_join_67 dX0_join_68 ?_
      refine r_iload_n G dX0_join_71 rfl (lv_at hl 2 rfl) ?_
      refine xl_sorted G K hH (by omega) dX0_join_72 ?_
      refine r_toi (y := nI (v.sq k)) (h9 _ (by omega)) ?_
      refine xl_from G K hH (by omega) dX0_join_73 ?_
      refine r_toi (y := nI (v.fr (v.sq k))) (hR.fr (by omega)) ?_
      have := hv.frb (k := (v.sq k)) (by omega)
      refine r_istore_n G [(3, .int (nI (v.fr (v.sq k)))), (0, .ref (a 0)), (1, .int (nI v.sn)), (2, .int (nI k))] dX0_join_74 rfl hl (by decide) rfl (fun ls hl => ?_)
      refine xg_to G K hH (lv_at hl 1 rfl) dX0_join_75 dX0_join_76 ?_
      refine xg_sorted G K hH (lv_at hl 1 rfl) dX0_join_79 dX0_join_80 ?_
      refine r_iload_n G dX0_join_83 rfl (lv_at hl 3 rfl) ?_
      refine xl_sorted G K hH (by omega) dX0_join_84 ?_
      refine r_toi (y := nI (v.sq k)) (h9 _ (by omega)) ?_
      refine xl_to G K hH (by omega) dX0_join_85 ?_
      refine r_toi (y := nI (v.ta (v.sq k))) (hR.ta (by omega)) ?_
      have := hv.tab (k := (v.sq k)) (by omega)
      refine r_istore G [(4, .int (nI (v.ta (v.sq k)))), (3, .int (nI (v.fr (v.sq k)))), (0, .ref (a 0)), (1, .int (nI v.sn)), (2, .int (nI k))] dX0_join_86 hl (by decide) rfl (fun ls hl => ?_)
      refine r_iload G dX0_join_88 (lv_at hl 0 rfl) ?_
      refine n_if_eq G (by omega) 157 dX0_join_90 (by decide) (fun c90 => ?_) (fun c90 => ?_)
      · refine r_iinc G (k := 4) (nI (k + 1)) [(2, .int (nI (k + 1))), (4, .int (nI (v.ta (v.sq k)))), (3, .int (nI (v.fr (v.sq k)))), (0, .ref (a 0)), (1, .int (nI v.sn))] dX0_join_157 hl rfl (inc1 _) (by decide) rfl (fun ls hl => ?_)
        refine r_goto G 58 dX0_join_160 (by decide) ?_
        have hC2 : CsX v (chs v (k + 1)) (σ.2.1 10) (σ.2.1 11) (σ.2.1 12) := by
          rw [chs_no (fun z => z.2.2.2 c90)]
          exact ⟨hN, hB, hU⟩
        exact ih _ _ H locs ls hH hR hF h9 hC2 h13 h14 (by omega) (by omega) (lv_sub hl [3, 4, 0] rfl)
      · rcases hN _ hu with ⟨n1, n2⟩ | ⟨n1, n2⟩
        · have hbt := (hs.2.1 _ hcu (hs.1 _ hu).2.2.1 _ n1).1
          refine xg_next G K hH (lv_at hl 2 rfl) dX0_join_93 dX0_join_94 ?_
          refine r_iload_n G dX0_join_97 rfl (lv_at hl 1 rfl) ?_
          refine xl_next G K hH (by omega) dX0_join_98 ?_
          refine r_toi (y := nI ((chs v k).tb ((chs v k).co (v.fr (v.sq k))) ((chs v k).ps (v.fr (v.sq k)) + 1))) (n2) ?_
          refine n_if_ge G (by omega) 157 dX0_join_99 (by decide) ?_
          refine r_iinc G (k := 4) (nI (k + 1)) [(2, .int (nI (k + 1))), (4, .int (nI (v.ta (v.sq k)))), (3, .int (nI (v.fr (v.sq k)))), (0, .ref (a 0)), (1, .int (nI v.sn))] dX0_join_157 hl rfl (inc1 _) (by decide) rfl (fun ls hl => ?_)
          refine r_goto G 58 dX0_join_160 (by decide) ?_
          have hC2 : CsX v (chs v (k + 1)) (σ.2.1 10) (σ.2.1 11) (σ.2.1 12) := by
            rw [chs_no (fun z => by have := z.2.1; omega)]
            exact ⟨hN, hB, hU⟩
          exact ih _ _ H locs ls hH hR hF h9 hC2 h13 h14 (by omega) (by omega) (lv_sub hl [3, 4, 0] rfl)
        · refine xg_next G K hH (lv_at hl 2 rfl) dX0_join_93 dX0_join_94 ?_
          refine r_iload_n G dX0_join_97 rfl (lv_at hl 1 rfl) ?_
          refine xl_next G K hH (by omega) dX0_join_98 ?_
          refine r_toi (y := (-1)) (n2) ?_
          refine m1_if_ge G 157 dX0_join_99 (by decide) ?_
          rcases hB _ hw with ⟨b1, b2⟩ | ⟨b1, j, hj, b2⟩
          · refine xg_before G K hH (lv_at hl 2 rfl) dX0_join_102 dX0_join_103 ?_
            refine r_iload G dX0_join_106 (lv_at hl 0 rfl) ?_
            refine xl_before G K hH (by omega) dX0_join_108 ?_
            refine r_toi (y := (-1)) (b2) ?_
            refine m1_if_ge G 157 dX0_join_109 (by decide) ?_
            refine r_aload_n G dX0_join_112 rfl (lv_at hl 2 rfl) ?_
            refine r_iload_n G dX0_join_113 rfl (lv_at hl 1 rfl) ?_
            refine xcall_i G K hH rfl (X_headOf E.l E.D a d (v := v) (s := chs v k) (b := (v.fr (v.sq k))) hR hs hU hu) q151 q153 qs6 q154 rfl ⟨by omega, by omega⟩ hl.1 (rest := []) rfl (Nat.le_of_ble_eq_true rfl) dX0_join_114 (fun r σ2 H locs hH hp => ?_)
            obtain ⟨rfl, f1, rfl, hU1⟩ := hp
            refine r_aload_n G dX0_join_117 rfl (lv_at hl 2 rfl) ?_
            refine r_iload G dX0_join_118 (lv_at hl 0 rfl) ?_
            refine xcall_i G K hH rfl (X_headOf E.l E.D a d (v := v) (s := chs v k) (b := (v.ta (v.sq k))) hR hs hU1 hw) q151 q153 qs6 q154 rfl ⟨by omega, by omega⟩ hl.1 (rest := [.int (nI ((chs v k).co (v.fr (v.sq k))))]) rfl (Nat.le_of_ble_eq_true rfl) dX0_join_120 (fun r σ2 H locs hH hp => ?_)
            obtain ⟨rfl, f2, rfl, hU2⟩ := hp
            refine n_icmp_ne G (by omega) (by omega) 129 dX0_join_123 (by decide) (fun c123 => ?_) (fun c123 => ?_)
            · refine xg_next G K hH (lv_at hl 2 rfl) dX0_join_129 dX0_join_130 ?_
              refine r_iload_n G dX0_join_133 rfl (lv_at hl 1 rfl) ?_
              refine r_iload G dX0_join_134 (lv_at hl 0 rfl) ?_
              refine xs_next G K hH (by omega) dX0_join_136 (fun H locs hH => ?_)
              refine xg_before G K hH (lv_at hl 2 rfl) dX0_join_137 dX0_join_138 ?_
              refine r_iload G dX0_join_141 (lv_at hl 0 rfl) ?_
              refine r_iload_n G dX0_join_143 rfl (lv_at hl 1 rfl) ?_
              refine xs_before G K hH (by omega) dX0_join_144 (fun H locs hH => ?_)
              refine xg_head G K hH (lv_at hl 2 rfl) dX0_join_145 dX0_join_146 ?_
              refine r_iload G dX0_join_149 (lv_at hl 0 rfl) ?_
              refine r_aload_n G dX0_join_151 rfl (lv_at hl 2 rfl) ?_
              refine r_iload_n G dX0_join_152 rfl (lv_at hl 1 rfl) ?_
              refine xcall_i G K hH rfl (X_headOf E.l E.D a d (v := v) (s := chs v k) (b := (v.fr (v.sq k))) hR hs hU2 hu) q151 q153 qs6 q154 rfl ⟨by omega, by omega⟩ hl.1 (rest := [.int (nI (v.ta (v.sq k))), .ref (a 12)]) rfl (Nat.le_of_ble_eq_true rfl) dX0_join_153 (fun r σ2 H locs hH hp => ?_)
              obtain ⟨rfl, f3, rfl, hU3⟩ := hp
              refine xs_head G K hH (by omega) dX0_join_156 (fun H locs hH => ?_)
              refine r_iinc G (k := 4) (nI (k + 1)) [(2, .int (nI (k + 1))), (4, .int (nI (v.ta (v.sq k)))), (3, .int (nI (v.fr (v.sq k)))), (0, .ref (a 0)), (1, .int (nI v.sn))] dX0_join_157 hl rfl (inc1 _) (by decide) rfl (fun ls hl => ?_)
              refine r_goto G 58 dX0_join_160 (by decide) ?_
              have hcan : (chs v k).can (v.fr (v.sq k)) (v.ta (v.sq k)) = true := decide_eq_true ⟨c123, n1, b1, c90⟩
              have hC2 : CsX v (chs v (k + 1)) (upd (σ.2.1 10) (v.fr (v.sq k)) (nI (v.ta (v.sq k)))) (upd (σ.2.1 11) (v.ta (v.sq k)) (nI (v.fr (v.sq k)))) (upd f3 (v.ta (v.sq k)) (nI ((chs v k).co (v.fr (v.sq k))))) := by
                rw [chs_yes hcan]
                exact CsX.jn hs ⟨hN, hB, hU3⟩ hu hw hcan
              exact ih _ _ H locs ls hH hR hF h9 hC2 h13 h14 (by omega) (by omega) (lv_sub hl [3, 4, 0] rfl)
            · refine r_goto G 157 dX0_join_126 (by decide) ?_
              refine r_iinc G (k := 4) (nI (k + 1)) [(2, .int (nI (k + 1))), (4, .int (nI (v.ta (v.sq k)))), (3, .int (nI (v.fr (v.sq k)))), (0, .ref (a 0)), (1, .int (nI v.sn))] dX0_join_157 hl rfl (inc1 _) (by decide) rfl (fun ls hl => ?_)
              refine r_goto G 58 dX0_join_160 (by decide) ?_
              have hC2 : CsX v (chs v (k + 1)) (σ.2.1 10) (σ.2.1 11) f2 := by
                rw [chs_no (fun z => z.1 c123)]
                exact ⟨hN, hB, hU2⟩
              exact ih _ _ H locs ls hH hR hF h9 hC2 h13 h14 (by omega) (by omega) (lv_sub hl [3, 4, 0] rfl)
          · refine xg_before G K hH (lv_at hl 2 rfl) dX0_join_102 dX0_join_103 ?_
            refine r_iload G dX0_join_106 (lv_at hl 0 rfl) ?_
            refine xl_before G K hH (by omega) dX0_join_108 ?_
            refine r_toi (y := nI j) (b2) ?_
            refine n_if_ge G (by omega) 157 dX0_join_109 (by decide) ?_
            refine r_iinc G (k := 4) (nI (k + 1)) [(2, .int (nI (k + 1))), (4, .int (nI (v.ta (v.sq k)))), (3, .int (nI (v.fr (v.sq k)))), (0, .ref (a 0)), (1, .int (nI v.sn))] dX0_join_157 hl rfl (inc1 _) (by decide) rfl (fun ls hl => ?_)
            refine r_goto G 58 dX0_join_160 (by decide) ?_
            have hC2 : CsX v (chs v (k + 1)) (σ.2.1 10) (σ.2.1 11) (σ.2.1 12) := by
              rw [chs_no (fun z => by have := z.2.2.1; omega)]
              exact ⟨hN, hB, hU⟩
            exact ih _ _ H locs ls hH hR hF h9 hC2 h13 h14 (by omega) (by omega) (lv_sub hl [3, 4, 0] rfl)
set_option maxHeartbeats 4000000 in
theorem X_join (l : Launch) (D : va_G) (a : Nat → Nat) (d : Nat → ClassId) {σ : St} {v : Vw} (hR : XR σ v) : CMv l yX0_join cX0_join 5 3 71 D (xt d) (xw a d) [.ref (a 0)] σ (fun σ' => XR σ' v ∧ σ'.1 = σ.1 ∧ CsX v v.cs (σ'.2.1 10) (σ'.2.1 11) (σ'.2.1 12) ∧ (∀ i, i < v.nb → σ'.2.1 13 i = bI false) ∧ ∀ i, i < v.nb → σ'.2.2 14 i = 0) := by
  refine CMv.of (by decide) (Nat.le_of_ble_eq_true rfl) ?_
  intro E ls G hfr hlo K hH hl hret
  have hl : lv_has ls 5 [(0, .ref (a 0))] := hl
  have G : CX E RX0 cX0_join 5 := G
  refine r_iconst G (nI 0) dX0_join_0 (by decide) ?_
  refine r_istore_n G [(1, .int (nI 0)), (0, .ref (a 0))] dX0_join_1 rfl hl (by decide) rfl (fun ls hl => ?_)
  refine X_join_L1 G K (F := σ.1) (fun σ H locs ls hR hF hC h13 h14 hH hl => ?_) (v.nb + 1) σ 0 _ _ ls hH hR rfl (fun i hi => absurd hi (Nat.not_lt_zero i)) (fun i hi => absurd hi (Nat.not_lt_zero i)) (fun i hi => absurd hi (Nat.not_lt_zero i)) (fun i hi => absurd hi (Nat.not_lt_zero i)) (fun i hi => absurd hi (Nat.not_lt_zero i)) (Nat.zero_le _) (by omega) (lv_sub hl [1, 0] rfl)
  refine r_aload_n G dX0_join_51 rfl (lv_at hl 0 rfl) ?_
  refine xcall_i G K hH rfl (X_sort E.l E.D a d hR) q139 q141 qs3 q142 rfl ⟨by omega, by omega⟩ hl.1 (rest := []) rfl (Nat.le_of_ble_eq_true rfl) dX0_join_52 (fun r σ2 H locs hH hp => ?_)
  obtain ⟨rfl, f, rfl, hf⟩ := hp
  refine r_istore_n G [(1, .int (nI v.sn)), (0, .ref (a 0))] dX0_join_55 rfl hl (by decide) rfl (fun ls hl => ?_)
  refine r_iconst G (nI 0) dX0_join_56 (by decide) ?_
  refine r_istore_n G [(2, .int (nI 0)), (1, .int (nI v.sn)), (0, .ref (a 0))] dX0_join_57 rfl hl (by decide) rfl (fun ls hl => ?_)
  exact X_join_L2 G K hfr hlo (fun pc ls H locs σ dg hH hR hF hC h13 h14 => hret _ _ _ _ _ dg hH ⟨hR, hF, hC, h13, h14⟩) (v.sn + 1) _ 0 H locs ls hH hR hF hf hC h13 h14 (Nat.zero_le _) (by omega) (lv_sub hl [2, 1, 0] rfl)
end
section
set_option maxRecDepth 100000
def BsI (v : Vw) (s : Cs) (pl : Nat → Bool) (b : Nat) (z : Int32) : Prop := (z = -1 ∧ bst v s pl b = none) ∨ ∃ c, z = nI c ∧ bst v s pl b = some c
set_option maxHeartbeats 4000000 in
theorem X_best_L {E : Ev} {a : Nat → Nat} {d : Nat → ClassId} {σ0 : St} {v : Vw} {s : Cs} {q : Pl} (G : CX E RX0 cX0_best 4) (K : KX E (xt d)) (hfr : 1 ≤ E.R.frames) (hlo : 22 ≤ E.R.locals) (hR : XR σ0 v) (hs : CsOk v s) (hq : PlOk v s q) (hpl : ∀ b, b < v.nb → σ0.2.1 13 b = bI (q.pl b)) (hsc : ∀ c, c < v.nb → s.co c = c → v.hot c = true → q.pl c = false → σ0.2.2 14 c = sumc v s q.pl c) (hret : ∀ (pc : Nat) (ls : Array Slot) (H : Heap) (locs : List Loc) (z : Int32) (f : Nat → Int32), decode cX0_best pc = .ok (.ireturn, 1) → UF v s f → XH E a d (sI σ0 12 f) H locs → BsI v s q.pl v.nb z → WE E H locs pc ls [.int z]) :
    ∀ (M : Nat) (f : Nat → Int32) (b : Nat) (z : Int32) (H : Heap) (locs : List Loc) (ls : Array Slot), XH E a d (sI σ0 12 f) H locs → UF v s f → BsI v s q.pl b z → b ≤ v.nb → v.nb - b < M → lv_has ls 4 [(0, .ref (a 0)), (1, .int z), (2, .int (nI b))] → WE E H locs 4 ls [] := by
  have hv := hR.ok
  have hbd := hv.bd
  intro M
  induction M with
  | zero => exact fun f b z H locs ls _ _ _ _ q => absurd q (Nat.not_lt_zero _)
  | succ M ih =>
    intro f b z H locs ls hH hu hz hb hM hl
    rcases hz with ⟨rfl, hz⟩ | ⟨c, rfl, hz⟩
    · refine r_iload_n G dX0_best_4 rfl (lv_at hl 2 rfl) ?_
      refine xg_blocks G K hH (lv_at hl 0 rfl) dX0_best_5 dX0_best_6 ?_
      refine r_toi (y := nI v.nb) (hR.nb) ?_
      refine n_icmp_ge G (by omega) (by omega) 67 dX0_best_9 (by decide) (fun c9 => ?_) (fun c9 => ?_)
      · refine r_iload_n G dX0_best_67 rfl (lv_at hl 1 rfl) ?_
        have e : b = v.nb := by omega
        subst e
        exact hret _ _ _ _ _ f dX0_best_68 hu hH (Or.inl ⟨rfl, hz⟩)
      · refine xg_isHot G K hH (lv_at hl 0 rfl) dX0_best_12 dX0_best_13 ?_
        refine r_iload_n G dX0_best_16 rfl (lv_at hl 2 rfl) ?_
        refine xl_isHot G K hH (by omega) dX0_best_17 ?_
        refine r_toi (y := bI (v.hot b)) (hR.hot (by omega)) ?_
        refine b_if_eq G 61 dX0_best_18 (by decide) (fun c18 => ?_) (fun c18 => ?_)
        · refine r_iinc G (k := 2) (nI (b + 1)) [(2, .int (nI (b + 1))), (0, .ref (a 0)), (1, .int (-1))] dX0_best_61 hl rfl (inc1 _) (by decide) rfl (fun ls hl => ?_)
          refine r_goto G 4 dX0_best_64 (by decide) ?_
          exact ih _ _ _ H locs ls hH hu (Or.inl ⟨rfl, by rw [bst_skip (fun z => by rw [c18] at z; exact absurd z.1 (by decide))]; exact hz⟩) (by omega) (by omega) (lv_sub hl [1, 2, 0] rfl)
        · refine xg_isPlaced G K hH (lv_at hl 0 rfl) dX0_best_21 dX0_best_22 ?_
          refine r_iload_n G dX0_best_25 rfl (lv_at hl 2 rfl) ?_
          refine xl_isPlaced G K hH (by omega) dX0_best_26 ?_
          refine r_toi (y := bI (q.pl b)) (hpl b (by omega)) ?_
          refine b_if_eq G 33 dX0_best_27 (by decide) (fun c27 => ?_) (fun c27 => ?_)
          · refine r_aload_n G dX0_best_33 rfl (lv_at hl 0 rfl) ?_
            refine r_iload_n G dX0_best_34 rfl (lv_at hl 2 rfl) ?_
            obtain ⟨p1, p2, p3, p4⟩ := hq.hd hs (by omega) c18 c27
            refine xcall_i G K hH rfl (X_headOf E.l E.D a d (σ := sI σ0 12 f) (v := v) (s := s) (b := b) hR hs hu (by omega)) q151 q153 qs6 q154 rfl ⟨by omega, by omega⟩ hl.1 (rest := []) rfl (Nat.le_of_ble_eq_true rfl) dX0_best_35 (fun r σ2 H locs hH hp => ?_)
            obtain ⟨rfl, f2, rfl, hu2⟩ := hp
            refine r_istore_n G [(3, .int (nI (s.co b))), (0, .ref (a 0)), (1, .int (-1)), (2, .int (nI b))] dX0_best_38 rfl hl (by decide) rfl (fun ls hl => ?_)
            refine r_iload_n G dX0_best_39 rfl (lv_at hl 2 rfl) ?_
            refine m1_if_lt G 59 dX0_best_40 (by decide) ?_
            refine r_iload_n G dX0_best_59 rfl (lv_at hl 0 rfl) ?_
            refine r_istore_n G [(1, .int (nI (s.co b))), (3, .int (nI (s.co b))), (0, .ref (a 0)), (2, .int (nI b))] dX0_best_60 rfl hl (by decide) rfl (fun ls hl => ?_)
            refine r_iinc G (k := 3) (nI (b + 1)) [(2, .int (nI (b + 1))), (1, .int (nI (s.co b))), (3, .int (nI (s.co b))), (0, .ref (a 0))] dX0_best_61 hl rfl (inc1 _) (by decide) rfl (fun ls hl => ?_)
            refine r_goto G 4 dX0_best_64 (by decide) ?_
            have hH : XH E a d (sI σ0 12 f2) H locs := by rw [sI_sI] at hH; exact hH
            exact ih _ _ _ H locs ls hH hu2 (Or.inr ⟨_, rfl, bst_new c18 c27 hz⟩) (by omega) (by omega) (lv_sub hl [3, 1, 0] rfl)
          · refine r_goto G 61 dX0_best_30 (by decide) ?_
            refine r_iinc G (k := 2) (nI (b + 1)) [(2, .int (nI (b + 1))), (0, .ref (a 0)), (1, .int (-1))] dX0_best_61 hl rfl (inc1 _) (by decide) rfl (fun ls hl => ?_)
            refine r_goto G 4 dX0_best_64 (by decide) ?_
            exact ih _ _ _ H locs ls hH hu (Or.inl ⟨rfl, by rw [bst_skip (fun z => by rw [c27] at z; exact absurd z.2 (by decide))]; exact hz⟩) (by omega) (by omega) (lv_sub hl [1, 2, 0] rfl)
    · refine r_iload_n G dX0_best_4 rfl (lv_at hl 2 rfl) ?_
      refine xg_blocks G K hH (lv_at hl 0 rfl) dX0_best_5 dX0_best_6 ?_
      refine r_toi (y := nI v.nb) (hR.nb) ?_
      refine n_icmp_ge G (by omega) (by omega) 67 dX0_best_9 (by decide) (fun c9 => ?_) (fun c9 => ?_)
      · refine r_iload_n G dX0_best_67 rfl (lv_at hl 1 rfl) ?_
        have e : b = v.nb := by omega
        subst e
        exact hret _ _ _ _ _ f dX0_best_68 hu hH (Or.inr ⟨c, rfl, hz⟩)
      · refine xg_isHot G K hH (lv_at hl 0 rfl) dX0_best_12 dX0_best_13 ?_
        refine r_iload_n G dX0_best_16 rfl (lv_at hl 2 rfl) ?_
        refine xl_isHot G K hH (by omega) dX0_best_17 ?_
        refine r_toi (y := bI (v.hot b)) (hR.hot (by omega)) ?_
        refine b_if_eq G 61 dX0_best_18 (by decide) (fun c18 => ?_) (fun c18 => ?_)
        · refine r_iinc G (k := 2) (nI (b + 1)) [(2, .int (nI (b + 1))), (0, .ref (a 0)), (1, .int (nI c))] dX0_best_61 hl rfl (inc1 _) (by decide) rfl (fun ls hl => ?_)
          refine r_goto G 4 dX0_best_64 (by decide) ?_
          exact ih _ _ _ H locs ls hH hu (Or.inr ⟨c, rfl, by rw [bst_skip (fun z => by rw [c18] at z; exact absurd z.1 (by decide))]; exact hz⟩) (by omega) (by omega) (lv_sub hl [1, 2, 0] rfl)
        · refine xg_isPlaced G K hH (lv_at hl 0 rfl) dX0_best_21 dX0_best_22 ?_
          refine r_iload_n G dX0_best_25 rfl (lv_at hl 2 rfl) ?_
          refine xl_isPlaced G K hH (by omega) dX0_best_26 ?_
          refine r_toi (y := bI (q.pl b)) (hpl b (by omega)) ?_
          refine b_if_eq G 33 dX0_best_27 (by decide) (fun c27 => ?_) (fun c27 => ?_)
          · refine r_aload_n G dX0_best_33 rfl (lv_at hl 0 rfl) ?_
            refine r_iload_n G dX0_best_34 rfl (lv_at hl 2 rfl) ?_
            obtain ⟨p1, p2, p3, p4⟩ := hq.hd hs (by omega) c18 c27
            obtain ⟨c1, c2, c3, c4⟩ := bst_some hs hq b (by omega) c hz
            refine xcall_i G K hH rfl (X_headOf E.l E.D a d (σ := sI σ0 12 f) (v := v) (s := s) (b := b) hR hs hu (by omega)) q151 q153 qs6 q154 rfl ⟨by omega, by omega⟩ hl.1 (rest := []) rfl (Nat.le_of_ble_eq_true rfl) dX0_best_35 (fun r σ2 H locs hH hp => ?_)
            obtain ⟨rfl, f2, rfl, hu2⟩ := hp
            refine r_istore_n G [(3, .int (nI (s.co b))), (0, .ref (a 0)), (1, .int (nI c)), (2, .int (nI b))] dX0_best_38 rfl hl (by decide) rfl (fun ls hl => ?_)
            refine r_iload_n G dX0_best_39 rfl (lv_at hl 2 rfl) ?_
            refine n_if_lt G (by omega) 59 dX0_best_40 (by decide) ?_
            refine xg_score G K hH (lv_at hl 1 rfl) dX0_best_43 dX0_best_44 ?_
            refine r_iload_n G dX0_best_47 rfl (lv_at hl 0 rfl) ?_
            refine xl_score G K hH (by omega) dX0_best_48 ?_
            refine r_tol (y := (sumc v s q.pl (s.co b))) (hsc _ p1 p2 p3 p4) ?_
            refine xg_score G K hH (lv_at hl 1 rfl) dX0_best_49 dX0_best_50 ?_
            refine r_iload_n G dX0_best_53 rfl (lv_at hl 2 rfl) ?_
            refine xl_score G K hH (by omega) dX0_best_54 ?_
            refine r_tol (y := (sumc v s q.pl c)) (hsc _ c1 c2 c3 c4) ?_
            refine l_cmp_le G 61 dX0_best_55 dX0_best_56 (by decide) (fun c55 => ?_) (fun c55 => ?_)
            · refine r_iinc G (k := 3) (nI (b + 1)) [(2, .int (nI (b + 1))), (3, .int (nI (s.co b))), (0, .ref (a 0)), (1, .int (nI c))] dX0_best_61 hl rfl (inc1 _) (by decide) rfl (fun ls hl => ?_)
              refine r_goto G 4 dX0_best_64 (by decide) ?_
              have hH : XH E a d (sI σ0 12 f2) H locs := by rw [sI_sI] at hH; exact hH
              exact ih _ _ _ H locs ls hH hu2 (Or.inr ⟨c, rfl, bst_stay c18 c27 hz (Int64.not_lt.mpr c55)⟩) (by omega) (by omega) (lv_sub hl [2, 3, 0] rfl)
            · refine r_iload_n G dX0_best_59 rfl (lv_at hl 0 rfl) ?_
              refine r_istore_n G [(1, .int (nI (s.co b))), (3, .int (nI (s.co b))), (0, .ref (a 0)), (2, .int (nI b))] dX0_best_60 rfl hl (by decide) rfl (fun ls hl => ?_)
              refine r_iinc G (k := 3) (nI (b + 1)) [(2, .int (nI (b + 1))), (1, .int (nI (s.co b))), (3, .int (nI (s.co b))), (0, .ref (a 0))] dX0_best_61 hl rfl (inc1 _) (by decide) rfl (fun ls hl => ?_)
              refine r_goto G 4 dX0_best_64 (by decide) ?_
              have hH : XH E a d (sI σ0 12 f2) H locs := by rw [sI_sI] at hH; exact hH
              exact ih _ _ _ H locs ls hH hu2 (Or.inr ⟨_, rfl, bst_up c18 c27 hz (Int64.not_le.mp c55)⟩) (by omega) (by omega) (lv_sub hl [3, 1, 0] rfl)
          · refine r_goto G 61 dX0_best_30 (by decide) ?_
            refine r_iinc G (k := 2) (nI (b + 1)) [(2, .int (nI (b + 1))), (0, .ref (a 0)), (1, .int (nI c))] dX0_best_61 hl rfl (inc1 _) (by decide) rfl (fun ls hl => ?_)
            refine r_goto G 4 dX0_best_64 (by decide) ?_
            exact ih _ _ _ H locs ls hH hu (Or.inr ⟨c, rfl, by rw [bst_skip (fun z => by rw [c27] at z; exact absurd z.2 (by decide))]; exact hz⟩) (by omega) (by omega) (lv_sub hl [1, 2, 0] rfl)
set_option maxHeartbeats 4000000 in
theorem X_best (l : Launch) (D : va_G) (a : Nat → Nat) (d : Nat → ClassId) {σ : St} {v : Vw} {s : Cs} {q : Pl} {c : Nat} (hR : XR σ v) (hs : CsOk v s) (hq : PlOk v s q) (hpl : ∀ b, b < v.nb → σ.2.1 13 b = bI (q.pl b)) (hsc : ∀ c, c < v.nb → s.co c = c → v.hot c = true → q.pl c = false → σ.2.2 14 c = sumc v s q.pl c) (hu : UF v s (σ.2.1 12)) (hb : bst v s q.pl v.nb = some c) : CMi l yX0_best cX0_best 4 .int 1 22 D (xt d) (xw a d) [.ref (a 0)] σ (fun r σ' => r = nI c ∧ ∃ f, σ' = sI σ 12 f ∧ UF v s f) := by
  refine CMi.of (by decide) (Nat.le_of_ble_eq_true rfl) ?_
  intro E ls G hfr hlo K hH hl hret
  have hl : lv_has ls 4 [(0, .ref (a 0))] := hl
  have G : CX E RX0 cX0_best 4 := G
  have hv := hR.ok
  have hbd := hv.bd
  have hH : XH E a d (sI σ 12 (σ.2.1 12)) E.s.heap [] := by rw [sI_me]; exact hH
  refine r_iconst G ((-1)) dX0_best_0 (by decide) ?_
  refine r_istore_n G [(1, .int (-1)), (0, .ref (a 0))] dX0_best_1 rfl hl (by decide) rfl (fun ls hl => ?_)
  refine r_iconst G (nI 0) dX0_best_2 (by decide) ?_
  refine r_istore_n G [(2, .int (nI 0)), (1, .int (-1)), (0, .ref (a 0))] dX0_best_3 rfl hl (by decide) rfl (fun ls hl => ?_)
  refine X_best_L G K hfr hlo hR hs hq hpl hsc (fun pc ls H locs z f dg hf hH hz => ?_) (v.nb + 1) _ 0 _ _ _ ls hH hu (Or.inl ⟨rfl, rfl⟩) (Nat.zero_le _) (by omega) (lv_sub hl [2, 1, 0] rfl)
  rcases hz with ⟨-, hz⟩ | ⟨c2, rfl, hz⟩
  · rw [hb] at hz
    cases hz
  · rw [hb] at hz
    cases hz
    exact hret _ _ _ _ _ _ dg rfl hH ⟨rfl, f, rfl, hf⟩
def PF (σ0 σ : St) : Prop := σ.1 = σ0.1 ∧ σ.2.1 10 = σ0.2.1 10 ∧ σ.2.1 16 = σ0.2.1 16 ∧ σ.2.1 17 = σ0.2.1 17 ∧ σ.2.2 20 = σ0.2.2 20
set_option maxHeartbeats 4000000 in
theorem X_put_L1 {E : Ev} {a : Nat → Nat} {d : Nat → ClassId} {σ0 : St} {v : Vw} {s : Cs} {q : Pl} {h : Nat} (G : CX E RX0 cX0_put 7) (K : KX E (xt d)) (hs : CsOk v s) (hq : PlOk v s q) (hh : h < v.nb) (hr : s.co h = h) (hhh : v.hot h = true) (hph : q.pl h = false) (hNx : NxOk v s (σ0.2.1 10)) (hbn : q.n + s.mn h ≤ 200) (kk : ∀ (σ : St) (H : Heap) (locs : List Loc) (ls : Array Slot), XR σ v → PF σ0 σ → UF v s (σ.2.1 12) → σ.2.2 14 = σ0.2.2 14 → (∀ j, j < q.n + s.mn h → σ.2.1 15 j = nI ((q.put s h).od j)) → (∀ b, b < v.nb → σ.2.1 13 b = bI ((q.put s h).pl b)) → XH E a d σ H locs → lv_has ls 7 [(0, .ref (a 0)), (1, .int (nI h)), (3, .int (nI (q.n + s.mn h)))] → WE E H locs 41 ls []) :
    ∀ (M : Nat) (σ : St) (i : Nat) (z : Int32) (H : Heap) (locs : List Loc) (ls : Array Slot), XH E a d σ H locs → XR σ v → PF σ0 σ → UF v s (σ.2.1 12) → σ.2.2 14 = σ0.2.2 14 → (∀ j, j < q.n + i → σ.2.1 15 j = nI ((q.put s h).od j)) → (∀ b, b < v.nb → σ.2.1 13 b = bI (plg s q h i b)) → ((i < s.mn h ∧ z = nI (s.tb h i)) ∨ (i = s.mn h ∧ z = -1)) → s.mn h - i < M → lv_has ls 7 [(0, .ref (a 0)), (1, .int (nI h)), (3, .int (nI (q.n + i))), (4, .int z)] → WE E H locs 5 ls [] := by
  intro M
  induction M with
  | zero => exact fun σ i z H locs ls _ _ _ _ _ _ _ _ q => absurd q (Nat.not_lt_zero _)
  | succ M ih =>
    intro σ i z H locs ls hH hR hF hu h14 h15 h13 hz hM hl
    have hv := hR.ok
    have hbd := hv.bd
    rcases hz with ⟨hi, rfl⟩ | ⟨rfl, rfl⟩
    · obtain ⟨t1, t2, t3⟩ := hs.2.1 h hh hr i hi
      have hNx := hNx
      refine r_iload G dX0_put_5 (lv_at hl 3 rfl) ?_
      refine n_if_lt G (by omega) 41 dX0_put_7 (by decide) ?_
      refine xg_byChains G K hH (lv_at hl 0 rfl) dX0_put_10 dX0_put_11 ?_
      refine r_iload_n G dX0_put_14 rfl (lv_at hl 2 rfl) ?_
      refine r_iload G dX0_put_15 (lv_at hl 3 rfl) ?_
      refine xs_byChains G K hH (by omega) dX0_put_17 (fun H locs hH => ?_)
      refine xg_isPlaced G K hH (lv_at hl 0 rfl) dX0_put_18 dX0_put_19 ?_
      refine r_iload G dX0_put_22 (lv_at hl 3 rfl) ?_
      refine r_iconst G (nI 1) dX0_put_24 (by decide) ?_
      refine xs_isPlaced G K hH (by omega) (by decide) dX0_put_25 (fun H locs hH => ?_)
      refine r_iinc G (k := 2) (nI ((q.n + i) + 1)) [(3, .int (nI ((q.n + i) + 1))), (0, .ref (a 0)), (1, .int (nI h)), (4, .int (nI (s.tb h i)))] dX0_put_26 hl rfl (inc1 _) (by decide) rfl (fun ls hl => ?_)
      have hNb := hNx _ t1
      rw [t2, t3] at hNb
      rcases hNb with ⟨n1, n2⟩ | ⟨n1, n2⟩
      · refine xg_next G K hH (lv_at hl 1 rfl) dX0_put_29 dX0_put_30 ?_
        refine r_iload G dX0_put_33 (lv_at hl 3 rfl) ?_
        refine xl_next G K hH (by omega) dX0_put_35 ?_
        refine r_toi (y := nI (s.tb h (i + 1))) ((congrFun hF.2.1 _).trans n2) ?_
        refine r_istore G [(4, .int (nI (s.tb h (i + 1)))), (3, .int (nI ((q.n + i) + 1))), (0, .ref (a 0)), (1, .int (nI h))] dX0_put_36 hl (by decide) rfl (fun ls hl => ?_)
        refine r_goto G 5 dX0_put_38 (by decide) ?_
        have g15 : ∀ j, j < q.n + (i + 1) → upd (σ.2.1 15) (q.n + i) (nI (s.tb h i)) j = nI ((q.put s h).od j) := upd_run (g := fun j => nI ((q.put s h).od j)) h15 (congrArg nI put_od.symm)
        have g13 : ∀ b, b < v.nb → upd (σ.2.1 13) (s.tb h i) (nI 1) b = bI (plg s q h (i + 1) b) := fun b hb => plg_s hs hh hr hi hb (h13 b hb)
        exact ih _ (i + 1) _ H locs ls hH hR hF hu h14 g15 g13 (Or.inl ⟨by omega, rfl⟩) (by omega) (lv_sub hl [2, 3, 1, 0] rfl)
      · refine xg_next G K hH (lv_at hl 1 rfl) dX0_put_29 dX0_put_30 ?_
        refine r_iload G dX0_put_33 (lv_at hl 3 rfl) ?_
        refine xl_next G K hH (by omega) dX0_put_35 ?_
        refine r_toi (y := (-1)) ((congrFun hF.2.1 _).trans n2) ?_
        refine r_istore G [(4, .int (-1)), (3, .int (nI ((q.n + i) + 1))), (0, .ref (a 0)), (1, .int (nI h))] dX0_put_36 hl (by decide) rfl (fun ls hl => ?_)
        refine r_goto G 5 dX0_put_38 (by decide) ?_
        have g15 : ∀ j, j < q.n + (i + 1) → upd (σ.2.1 15) (q.n + i) (nI (s.tb h i)) j = nI ((q.put s h).od j) := upd_run (g := fun j => nI ((q.put s h).od j)) h15 (congrArg nI put_od.symm)
        have g13 : ∀ b, b < v.nb → upd (σ.2.1 13) (s.tb h i) (nI 1) b = bI (plg s q h (i + 1) b) := fun b hb => plg_s hs hh hr hi hb (h13 b hb)
        exact ih _ (i + 1) _ H locs ls hH hR hF hu h14 g15 g13 (Or.inr ⟨by omega, rfl⟩) (by omega) (lv_sub hl [2, 3, 1, 0] rfl)
    · refine r_iload G dX0_put_5 (lv_at hl 3 rfl) ?_
      refine m1_if_lt G 41 dX0_put_7 (by decide) ?_
      exact kk σ H locs ls hR hF hu h14 h15 (fun b hb => by rw [h13 b hb, plg_all hs hb]) hH (lv_sub hl [0, 1, 2] rfl)
set_option maxHeartbeats 4000000 in
theorem X_put_B {E : Ev} {a : Nat → Nat} {d : Nat → ClassId} {σ0 : St} {v : Vw} {s : Cs} {q : Pl} {h : Nat} {k : Nat} (G : CX E RX0 cX0_put 7) (K : KX E (xt d)) (hs : CsOk v s) (hq : PlOk v s q) (hh : h < v.nb) (hr : s.co h = h) (hhh : v.hot h = true) (hph : q.pl h = false) (hfr : 1 ≤ E.R.frames) (hlo : 22 ≤ E.R.locals) (hk : k < v.nw) (c78 : v.hot (v.fr k) = true) (c88 : v.hot (v.ta k) = true) (ih : ∀ (σ : St) (H : Heap) (locs : List Loc) (ls : Array Slot), XH E a d σ H locs → XR σ v → PF σ0 σ → UF v s (σ.2.1 12) → (∀ j, j < q.n + s.mn h → σ.2.1 15 j = nI ((q.put s h).od j)) → (∀ b, b < v.nb → σ.2.1 13 b = bI ((q.put s h).pl b)) → (∀ c, c < v.nb → s.co c = c → v.hot c = true → (q.put s h).pl c = false → σ.2.2 14 c = sumc v s q.pl c + sumI (gsc v s (q.put s h).pl h c) (k + 1)) → lv_has ls 7 [(0, .ref (a 0)), (1, .int (nI h)), (3, .int (nI (q.n + s.mn h))), (4, .int (nI (k + 1)))] → WE E H locs 44 ls []) :
    ∀ (σ : St) (H : Heap) (locs : List Loc) (ls : Array Slot), XH E a d σ H locs → XR σ v → PF σ0 σ → UF v s (σ.2.1 12) → (∀ j, j < q.n + s.mn h → σ.2.1 15 j = nI ((q.put s h).od j)) → (∀ b, b < v.nb → σ.2.1 13 b = bI ((q.put s h).pl b)) → (∀ c, c < v.nb → s.co c = c → v.hot c = true → (q.put s h).pl c = false → σ.2.2 14 c = sumc v s q.pl c + sumI (gsc v s (q.put s h).pl h c) k + gs1 v s (q.put s h).pl h c k) → lv_has ls 7 [(0, .ref (a 0)), (1, .int (nI h)), (3, .int (nI (q.n + s.mn h))), (4, .int (nI k)), (5, .int (nI (v.fr k))), (6, .int (nI (v.ta k)))] → WE E H locs 135 ls [] := by
  intro σ H locs ls hH hR hF hu h15 h13 h14 hl
  have hv := hR.ok
  have hbd := hv.bd
  have hfb := hv.frb hk
  have htb := hv.tab hk
  have hcu := (hs.1 _ hfb).1
  have hcw := (hs.1 _ htb).1
  refine r_aload_n G dX0_put_135 rfl (lv_at hl 0 rfl) ?_
  refine r_iload G dX0_put_136 (lv_at hl 5 rfl) ?_
  refine xcall_i G K hH rfl (X_headOf E.l E.D a d (v := v) (s := s) (b := v.ta k) hR hs hu htb) q151 q153 qs6 q154 rfl ⟨by omega, by omega⟩ hl.1 (rest := []) rfl (Nat.le_of_ble_eq_true rfl) dX0_put_138 (fun r σ2 H locs hH hp => ?_)
  obtain ⟨rfl, f1, rfl, hu1⟩ := hp
  refine r_iload_n G dX0_put_141 rfl (lv_at hl 1 rfl) ?_
  refine n_icmp_ne G (by omega) (by omega) 176 dX0_put_142 (by decide) (fun c142 => ?_) (fun c142 => ?_)
  · refine r_iinc G (k := 3) (nI (k + 1)) [(4, .int (nI (k + 1))), (0, .ref (a 0)), (1, .int (nI h)), (3, .int (nI (q.n + s.mn h))), (5, .int (nI (v.fr k))), (6, .int (nI (v.ta k)))] dX0_put_176 hl rfl (inc1 _) (by decide) rfl (fun ls hl => ?_)
    refine r_goto G 44 dX0_put_179 (by decide) ?_
    have g14 : ∀ c, c < v.nb → s.co c = c → v.hot c = true → (q.put s h).pl c = false → σ.2.2 14 c = sumc v s q.pl c + sumI (gsc v s (q.put s h).pl h c) (k + 1) := by
      intro c z1 z2 z3 z4
      rw [h14 c z1 z2 z3 z4, ← gsc_s, gs2_no (fun z => c142 z.2.2.1)]
    exact ih _ H locs ls hH hR hF hu1 h15 h13 g14 (lv_sub hl [1, 2, 3, 0] rfl)
  · refine xg_isPlaced G K hH (lv_at hl 0 rfl) dX0_put_145 dX0_put_146 ?_
    refine r_iload G dX0_put_149 (lv_at hl 4 rfl) ?_
    refine xl_isPlaced G K hH (by omega) dX0_put_151 ?_
    refine r_toi (y := bI ((q.put s h).pl (v.fr k))) (h13 _ (by omega)) ?_
    refine b_if_ne G 176 dX0_put_152 (by decide) (fun c152 => ?_) (fun c152 => ?_)
    · refine r_iinc G (k := 3) (nI (k + 1)) [(4, .int (nI (k + 1))), (0, .ref (a 0)), (1, .int (nI h)), (3, .int (nI (q.n + s.mn h))), (5, .int (nI (v.fr k))), (6, .int (nI (v.ta k)))] dX0_put_176 hl rfl (inc1 _) (by decide) rfl (fun ls hl => ?_)
      refine r_goto G 44 dX0_put_179 (by decide) ?_
      have g14 : ∀ c, c < v.nb → s.co c = c → v.hot c = true → (q.put s h).pl c = false → σ.2.2 14 c = sumc v s q.pl c + sumI (gsc v s (q.put s h).pl h c) (k + 1) := by
        intro c z1 z2 z3 z4
        rw [h14 c z1 z2 z3 z4, ← gsc_s, gs2_no (fun z => by rw [c152] at z; exact absurd z.2.2.2 (by decide))]
      exact ih _ H locs ls hH hR hF hu1 h15 h13 g14 (lv_sub hl [1, 2, 3, 0] rfl)
    · refine xg_score G K hH (lv_at hl 0 rfl) dX0_put_155 dX0_put_156 ?_
      refine r_aload_n G dX0_put_159 rfl (lv_at hl 0 rfl) ?_
      refine r_iload G dX0_put_160 (lv_at hl 4 rfl) ?_
      refine xcall_i G K hH rfl (X_headOf E.l E.D a d (v := v) (s := s) (b := v.fr k) hR hs hu1 hfb) q151 q153 qs6 q154 rfl ⟨by omega, by omega⟩ hl.1 (rest := [.ref (a 14)]) rfl (Nat.le_of_ble_eq_true rfl) dX0_put_162 (fun r σ2 H locs hH hp => ?_)
      obtain ⟨rfl, f2, rfl, hu2⟩ := hp
      refine r_dup2 G dX0_put_165 rfl rfl ?_
      refine xl_score G K hH (by omega) dX0_put_166 ?_
      refine xg_counts G K hH (lv_at hl 0 rfl) dX0_put_167 dX0_put_168 ?_
      refine r_iload G dX0_put_171 (lv_at hl 3 rfl) ?_
      refine xl_counts G K hH (by omega) dX0_put_173 ?_
      refine r_tol (y := (v.ct k)) (hR.ct (by omega)) ?_
      refine r_ladd G dX0_put_174 ?_
      refine xs_score G K hH (by omega) dX0_put_175 (fun H locs hH => ?_)
      refine r_iinc G (k := 3) (nI (k + 1)) [(4, .int (nI (k + 1))), (0, .ref (a 0)), (1, .int (nI h)), (3, .int (nI (q.n + s.mn h))), (5, .int (nI (v.fr k))), (6, .int (nI (v.ta k)))] dX0_put_176 hl rfl (inc1 _) (by decide) rfl (fun ls hl => ?_)
      refine r_goto G 44 dX0_put_179 (by decide) ?_
      have g14 : ∀ c, c < v.nb → s.co c = c → v.hot c = true → (q.put s h).pl c = false → vp_updL (σ.2.2 14) (s.co (v.fr k)) (σ.2.2 14 (s.co (v.fr k)) + v.ct k) c = sumc v s q.pl c + sumI (gsc v s (q.put s h).pl h c) (k + 1) := by
        intro c z1 z2 z3 z4
        rw [gs2_yes (pl := (q.put s h).pl) c78 c88 c142 c152, h14 c z1 z2 z3 z4, gsc_s]
      exact ih _ H locs ls hH hR hF hu2 h15 h13 g14 (lv_sub hl [1, 2, 3, 0] rfl)
set_option maxHeartbeats 4000000 in
theorem X_put_L2 {E : Ev} {a : Nat → Nat} {d : Nat → ClassId} {σ0 : St} {v : Vw} {s : Cs} {q : Pl} {h : Nat} (G : CX E RX0 cX0_put 7) (K : KX E (xt d)) (hs : CsOk v s) (hq : PlOk v s q) (hh : h < v.nb) (hr : s.co h = h) (hhh : v.hot h = true) (hph : q.pl h = false) (hfr : 1 ≤ E.R.frames) (hlo : 22 ≤ E.R.locals) (hret : ∀ (pc : Nat) (ls : Array Slot) (H : Heap) (locs : List Loc) (σ : St), decode cX0_put pc = .ok (.ireturn, 1) → XR σ v → PF σ0 σ → UF v s (σ.2.1 12) → (∀ j, j < q.n + s.mn h → σ.2.1 15 j = nI ((q.put s h).od j)) → (∀ b, b < v.nb → σ.2.1 13 b = bI ((q.put s h).pl b)) → (∀ c, c < v.nb → s.co c = c → v.hot c = true → (q.put s h).pl c = false → σ.2.2 14 c = sumc v s q.pl c + sumI (gsc v s (q.put s h).pl h c) v.nw) → XH E a d σ H locs → WE E H locs pc ls [.int (nI (q.n + s.mn h))]) :
    ∀ (M : Nat) (σ : St) (k : Nat) (H : Heap) (locs : List Loc) (ls : Array Slot), XH E a d σ H locs → XR σ v → PF σ0 σ → UF v s (σ.2.1 12) → (∀ j, j < q.n + s.mn h → σ.2.1 15 j = nI ((q.put s h).od j)) → (∀ b, b < v.nb → σ.2.1 13 b = bI ((q.put s h).pl b)) → (∀ c, c < v.nb → s.co c = c → v.hot c = true → (q.put s h).pl c = false → σ.2.2 14 c = sumc v s q.pl c + sumI (gsc v s (q.put s h).pl h c) k) → k ≤ v.nw → v.nw - k < M → lv_has ls 7 [(0, .ref (a 0)), (1, .int (nI h)), (3, .int (nI (q.n + s.mn h))), (4, .int (nI k))] → WE E H locs 44 ls [] := by
  intro M
  induction M with
  | zero => exact fun σ k H locs ls _ _ _ _ _ _ _ _ q => absurd q (Nat.not_lt_zero _)
  | succ M ih =>
    intro σ k H locs ls hH hR hF hu h15 h13 h14 hk hM hl
    have hv := hR.ok
    have hbd := hv.bd
    refine r_iload G dX0_put_44 (lv_at hl 3 rfl) ?_
    refine xg_ways G K hH (lv_at hl 0 rfl) dX0_put_46 dX0_put_47 ?_
    refine r_toi (y := nI v.nw) (hR.nw) ?_
    refine n_icmp_ge G (by omega) (by omega) 182 dX0_put_50 (by decide) (fun c50 => ?_) (fun c50 => ?_)
    · refine r_iload_n G dX0_put_182 rfl (lv_at hl 2 rfl) ?_
      have e : k = v.nw := by omega
      subst e
      exact hret _ _ _ _ σ dX0_put_183 hR hF hu h15 h13 h14 hH
    · have hfb := hv.frb c50
      have htb := hv.tab c50
      have hcu := (hs.1 _ hfb).1
      have hcw := (hs.1 _ htb).1
      refine xg_from G K hH (lv_at hl 0 rfl) dX0_put_53 dX0_put_54 ?_
      refine r_iload G dX0_put_57 (lv_at hl 3 rfl) ?_
      refine xl_from G K hH (by omega) dX0_put_59 ?_
      refine r_toi (y := nI (v.fr k)) (hR.fr (by omega)) ?_
      have := hv.frb (k := k) (by omega)
      refine r_istore G [(5, .int (nI (v.fr k))), (0, .ref (a 0)), (1, .int (nI h)), (3, .int (nI (q.n + s.mn h))), (4, .int (nI k))] dX0_put_60 hl (by decide) rfl (fun ls hl => ?_)
      refine xg_to G K hH (lv_at hl 1 rfl) dX0_put_62 dX0_put_63 ?_
      refine r_iload G dX0_put_66 (lv_at hl 4 rfl) ?_
      refine xl_to G K hH (by omega) dX0_put_68 ?_
      refine r_toi (y := nI (v.ta k)) (hR.ta (by omega)) ?_
      have := hv.tab (k := k) (by omega)
      refine r_istore G [(6, .int (nI (v.ta k))), (5, .int (nI (v.fr k))), (0, .ref (a 0)), (1, .int (nI h)), (3, .int (nI (q.n + s.mn h))), (4, .int (nI k))] dX0_put_69 hl (by decide) rfl (fun ls hl => ?_)
      refine xg_isHot G K hH (lv_at hl 2 rfl) dX0_put_71 dX0_put_72 ?_
      refine r_iload G dX0_put_75 (lv_at hl 1 rfl) ?_
      refine xl_isHot G K hH (by omega) dX0_put_77 ?_
      refine r_toi (y := bI (v.hot (v.fr k))) (hR.hot (by omega)) ?_
      refine b_if_eq G 176 dX0_put_78 (by decide) (fun c78 => ?_) (fun c78 => ?_)
      · refine r_iinc G (k := 5) (nI (k + 1)) [(4, .int (nI (k + 1))), (6, .int (nI (v.ta k))), (5, .int (nI (v.fr k))), (0, .ref (a 0)), (1, .int (nI h)), (3, .int (nI (q.n + s.mn h)))] dX0_put_176 hl rfl (inc1 _) (by decide) rfl (fun ls hl => ?_)
        refine r_goto G 44 dX0_put_179 (by decide) ?_
        have g14 : ∀ c, c < v.nb → s.co c = c → v.hot c = true → (q.put s h).pl c = false → σ.2.2 14 c = sumc v s q.pl c + sumI (gsc v s (q.put s h).pl h c) (k + 1) := by
          intro c z1 z2 z3 z4
          rw [h14 c z1 z2 z3 z4, ← gsc_s, gs1_no (fun z => by rw [c78] at z; exact absurd z.1 (by decide)), gs2_no (fun z => by rw [c78] at z; exact absurd z.1 (by decide))]
        exact ih _ _ H locs ls hH hR hF hu h15 h13 g14 (by omega) (by omega) (lv_sub hl [3, 4, 5, 0] rfl)
      · refine xg_isHot G K hH (lv_at hl 2 rfl) dX0_put_81 dX0_put_82 ?_
        refine r_iload G dX0_put_85 (lv_at hl 0 rfl) ?_
        refine xl_isHot G K hH (by omega) dX0_put_87 ?_
        refine r_toi (y := bI (v.hot (v.ta k))) (hR.hot (by omega)) ?_
        refine b_if_ne G 94 dX0_put_88 (by decide) (fun c88 => ?_) (fun c88 => ?_)
        · refine r_aload_n G dX0_put_94 rfl (lv_at hl 2 rfl) ?_
          refine r_iload G dX0_put_95 (lv_at hl 1 rfl) ?_
          refine xcall_i G K hH rfl (X_headOf E.l E.D a d (v := v) (s := s) (b := v.fr k) hR hs hu hfb) q151 q153 qs6 q154 rfl ⟨by omega, by omega⟩ hl.1 (rest := []) rfl (Nat.le_of_ble_eq_true rfl) dX0_put_97 (fun r σ2 H locs hH hp => ?_)
          obtain ⟨rfl, f1, rfl, hu1⟩ := hp
          refine r_iload_n G dX0_put_100 rfl (lv_at hl 3 rfl) ?_
          refine n_icmp_ne G (by omega) (by omega) 135 dX0_put_101 (by decide) (fun c101 => ?_) (fun c101 => ?_)
          · have g14 : ∀ c, c < v.nb → s.co c = c → v.hot c = true → (q.put s h).pl c = false → σ.2.2 14 c = sumc v s q.pl c + sumI (gsc v s (q.put s h).pl h c) k + gs1 v s (q.put s h).pl h c k := by
              intro c z1 z2 z3 z4
              rw [h14 c z1 z2 z3 z4, gs1_no (fun z => c101 z.2.2.1)]
            refine X_put_B G K hs hq hh hr hhh hph hfr hlo c50 c78 c88 (fun σ H locs ls hH hR hF hu h15 h13 h14 hl => ih σ (k + 1) H locs ls hH hR hF hu h15 h13 h14 (by omega) (by omega) hl) _ H locs ls hH hR hF hu1 h15 h13 g14 (lv_sub hl [2, 3, 4, 5, 1, 0] rfl)
          · refine xg_isPlaced G K hH (lv_at hl 2 rfl) dX0_put_104 dX0_put_105 ?_
            refine r_iload G dX0_put_108 (lv_at hl 0 rfl) ?_
            refine xl_isPlaced G K hH (by omega) dX0_put_110 ?_
            refine r_toi (y := bI ((q.put s h).pl (v.ta k))) (h13 _ (by omega)) ?_
            refine b_if_ne G 135 dX0_put_111 (by decide) (fun c111 => ?_) (fun c111 => ?_)
            · have g14 : ∀ c, c < v.nb → s.co c = c → v.hot c = true → (q.put s h).pl c = false → σ.2.2 14 c = sumc v s q.pl c + sumI (gsc v s (q.put s h).pl h c) k + gs1 v s (q.put s h).pl h c k := by
                intro c z1 z2 z3 z4
                rw [h14 c z1 z2 z3 z4, gs1_no (fun z => by rw [c111] at z; exact absurd z.2.2.2 (by decide))]
              refine X_put_B G K hs hq hh hr hhh hph hfr hlo c50 c78 c88 (fun σ H locs ls hH hR hF hu h15 h13 h14 hl => ih σ (k + 1) H locs ls hH hR hF hu h15 h13 h14 (by omega) (by omega) hl) _ H locs ls hH hR hF hu1 h15 h13 g14 (lv_sub hl [2, 3, 4, 5, 1, 0] rfl)
            · refine xg_score G K hH (lv_at hl 2 rfl) dX0_put_114 dX0_put_115 ?_
              refine r_aload_n G dX0_put_118 rfl (lv_at hl 2 rfl) ?_
              refine r_iload G dX0_put_119 (lv_at hl 0 rfl) ?_
              refine xcall_i G K hH rfl (X_headOf E.l E.D a d (v := v) (s := s) (b := v.ta k) hR hs hu1 htb) q151 q153 qs6 q154 rfl ⟨by omega, by omega⟩ hl.1 (rest := [.ref (a 14)]) rfl (Nat.le_of_ble_eq_true rfl) dX0_put_121 (fun r σ2 H locs hH hp => ?_)
              obtain ⟨rfl, f2, rfl, hu2⟩ := hp
              refine r_dup2 G dX0_put_124 rfl rfl ?_
              refine xl_score G K hH (by omega) dX0_put_125 ?_
              refine xg_counts G K hH (lv_at hl 2 rfl) dX0_put_126 dX0_put_127 ?_
              refine r_iload G dX0_put_130 (lv_at hl 5 rfl) ?_
              refine xl_counts G K hH (by omega) dX0_put_132 ?_
              refine r_tol (y := (v.ct k)) (hR.ct (by omega)) ?_
              refine r_ladd G dX0_put_133 ?_
              refine xs_score G K hH (by omega) dX0_put_134 (fun H locs hH => ?_)
              have g14 : ∀ c, c < v.nb → s.co c = c → v.hot c = true → (q.put s h).pl c = false → vp_updL (σ.2.2 14) (s.co (v.ta k)) (σ.2.2 14 (s.co (v.ta k)) + v.ct k) c = sumc v s q.pl c + sumI (gsc v s (q.put s h).pl h c) k + gs1 v s (q.put s h).pl h c k := by
                intro c z1 z2 z3 z4
                rw [gs1_yes (pl := (q.put s h).pl) c78 c88 c101 c111, h14 c z1 z2 z3 z4]
              refine X_put_B G K hs hq hh hr hhh hph hfr hlo c50 c78 c88 (fun σ H locs ls hH hR hF hu h15 h13 h14 hl => ih σ (k + 1) H locs ls hH hR hF hu h15 h13 h14 (by omega) (by omega) hl) _ H locs ls hH hR hF hu2 h15 h13 g14 (lv_sub hl [2, 3, 4, 5, 1, 0] rfl)
        · refine r_goto G 176 dX0_put_91 (by decide) ?_
          refine r_iinc G (k := 5) (nI (k + 1)) [(4, .int (nI (k + 1))), (6, .int (nI (v.ta k))), (5, .int (nI (v.fr k))), (0, .ref (a 0)), (1, .int (nI h)), (3, .int (nI (q.n + s.mn h)))] dX0_put_176 hl rfl (inc1 _) (by decide) rfl (fun ls hl => ?_)
          refine r_goto G 44 dX0_put_179 (by decide) ?_
          have g14 : ∀ c, c < v.nb → s.co c = c → v.hot c = true → (q.put s h).pl c = false → σ.2.2 14 c = sumc v s q.pl c + sumI (gsc v s (q.put s h).pl h c) (k + 1) := by
            intro c z1 z2 z3 z4
            rw [h14 c z1 z2 z3 z4, ← gsc_s, gs1_no (fun z => by rw [c88] at z; exact absurd z.2.1 (by decide)), gs2_no (fun z => by rw [c88] at z; exact absurd z.2.1 (by decide))]
          exact ih _ _ H locs ls hH hR hF hu h15 h13 g14 (by omega) (by omega) (lv_sub hl [3, 4, 5, 0] rfl)
set_option maxHeartbeats 4000000 in
theorem X_put (l : Launch) (D : va_G) (a : Nat → Nat) (d : Nat → ClassId) {σ : St} {v : Vw} {s : Cs} {q : Pl} {h : Nat} (hR : XR σ v) (hs : CsOk v s) (hq : PlOk v s q) (hh : h < v.nb) (hr : s.co h = h) (hhh : v.hot h = true) (hph : q.pl h = false) (hNx : NxOk v s (σ.2.1 10)) (hu : UF v s (σ.2.1 12)) (hbn : q.n + s.mn h ≤ 200) (h15 : ∀ j, j < q.n → σ.2.1 15 j = nI (q.od j)) (h13 : ∀ b, b < v.nb → σ.2.1 13 b = bI (q.pl b)) (h14 : ∀ c, c < v.nb → s.co c = c → v.hot c = true → q.pl c = false → σ.2.2 14 c = sumc v s q.pl c) : CMi l yX0_put cX0_put 7 .int 1 22 D (xt d) (xw a d) [.ref (a 0), .int (nI h), .int (nI q.n)] σ (fun r σ' => r = nI (q.n + s.mn h) ∧ XR σ' v ∧ PF σ σ' ∧ UF v s (σ'.2.1 12) ∧ (∀ j, j < q.n + s.mn h → σ'.2.1 15 j = nI ((q.put s h).od j)) ∧ (∀ b, b < v.nb → σ'.2.1 13 b = bI ((q.put s h).pl b)) ∧ ∀ c, c < v.nb → s.co c = c → v.hot c = true → (q.put s h).pl c = false → σ'.2.2 14 c = sumc v s (q.put s h).pl c) := by
  refine CMi.of (by decide) (Nat.le_of_ble_eq_true rfl) ?_
  intro E ls G hfr hlo K hH hl hret
  have hl : lv_has ls 7 [(0, .ref (a 0)), (1, .int (nI h)), (2, .int (nI q.n))] := hl
  have G : CX E RX0 cX0_put 7 := G
  have hv := hR.ok
  have hbd := hv.bd
  have hm0 : 0 < s.mn h := by
    have := (hs.1 h hh).2.1
    rw [hr] at this
    omega
  have ht0 : s.tb h 0 = h := by
    have z1 := (hs.1 h hh).2.2.2
    rw [hr] at z1
    have z2 := z1.2.1
    rw [z1.1] at z2
    exact z2
  refine r_iload_n G dX0_put_0 rfl (lv_at hl 2 rfl) ?_
  refine r_istore_n G [(3, .int (nI q.n)), (0, .ref (a 0)), (1, .int (nI h)), (2, .int (nI q.n))] dX0_put_1 rfl hl (by decide) rfl (fun ls hl => ?_)
  refine r_iload_n G dX0_put_2 rfl (lv_at hl 2 rfl) ?_
  refine r_istore G [(4, .int (nI h)), (3, .int (nI q.n)), (0, .ref (a 0)), (1, .int (nI h)), (2, .int (nI q.n))] dX0_put_3 hl (by decide) rfl (fun ls hl => ?_)
  refine X_put_L1 G K (σ0 := σ) hs hq hh hr hhh hph hNx hbn (fun σ1 H locs ls hR hF hu g14 h15 h13 hH hl => ?_) (s.mn h + 1) σ 0 (nI h) _ _ ls hH hR ⟨rfl, rfl, rfl, rfl, rfl⟩ hu rfl (fun j hj => by rw [h15 j hj, put_od0 hj]) (fun b hb => by rw [h13 b hb, plg_0]) (Or.inl ⟨hm0, by rw [ht0]⟩) (by omega) (lv_sub hl [2, 3, 1, 0] rfl)
  refine r_iconst G (nI 0) dX0_put_41 (by decide) ?_
  refine r_istore G [(4, .int (nI 0)), (0, .ref (a 0)), (1, .int (nI h)), (3, .int (nI (q.n + s.mn h)))] dX0_put_42 hl (by decide) rfl (fun ls hl => ?_)
  refine X_put_L2 G K (σ0 := σ) hs hq hh hr hhh hph hfr hlo (fun pc ls H locs σ2 dg hR hF hu h15 h13 g2 hH => ?_) (v.nw + 1) _ 0 H locs ls hH hR hF hu h15 h13 ?_ (Nat.zero_le _) (by omega) (lv_sub hl [1, 2, 3, 0] rfl)
  · refine hret _ _ _ _ _ _ dg rfl hH ⟨rfl, hR, hF, hu, h15, h13, fun c z1 z2 z3 z4 => ?_⟩
    rw [g2 c z1 z2 z3 z4, gsc_sum hv hs hq hhh z1 z2 z3 z4 hph hr hh]
  · intro c z1 z2 z3 z4
    have z5 : q.pl c = false := by
      have z6 : (q.pl c || decide (s.co c = h)) = false := z4
      rw [Bool.or_eq_false_iff] at z6
      exact z6.1
    rw [g14, h14 c z1 z2 z3 z5]
    exact (Int64.add_zero _).symm
end
section
set_option maxRecDepth 100000
set_option maxHeartbeats 4000000 in
theorem X_weigh_L1 {E : Ev} {a : Nat → Nat} {d : Nat → ClassId} {σ0 : St} {v : Vw} {row : Nat → Nat} {n : Nat} {rk pq pt : Nat} (G : CX E RX0 cX0_weigh 6) (K : KX E (xt d)) (hR : XR σ0 v) (hrow : RowOk v row n) (hn : n ≤ 200) (hr : ∀ i, i < n → σ0.2.1 rk i = nI (row i)) (hq : ∀ σ, (xw a d σ)[pq]? = some (a rk, .inl (d rk, 200, .inl (σ.2.1 rk)))) (ht : (xt d)[pt]? = some (d rk, .int)) (hrk : rk ≠ 18) (kk : ∀ (f : Nat → Int32) (H : Heap) (locs : List Loc) (ls : Array Slot), (∀ b, b < v.nb → f b = -2) → XH E a d (sI σ0 18 f) H locs → lv_has ls 6 [(0, .ref (a 0)), (1, .ref (a rk)), (2, .int (nI n))] → WE E H locs 24 ls []) :
    ∀ (M : Nat) (f : Nat → Int32) (b : Nat) (H : Heap) (locs : List Loc) (ls : Array Slot), XH E a d (sI σ0 18 f) H locs → (∀ i, i < b → f i = -2) → b ≤ v.nb → v.nb - b < M → lv_has ls 6 [(0, .ref (a 0)), (1, .ref (a rk)), (2, .int (nI n)), (3, .int (nI b))] → WE E H locs 2 ls [] := by
  have hv := hR.ok
  have hbd := hv.bd
  intro M
  induction M with
  | zero => exact fun f b H locs ls _ _ _ q => absurd q (Nat.not_lt_zero _)
  | succ M ih =>
    intro f b H locs ls hH hf hb hM hl
    refine r_iload_n G dX0_weigh_2 rfl (lv_at hl 3 rfl) ?_
    refine xg_blocks G K hH (lv_at hl 0 rfl) dX0_weigh_3 dX0_weigh_4 ?_
    refine r_toi (y := nI v.nb) (hR.nb) ?_
    refine n_icmp_ge G (by omega) (by omega) 24 dX0_weigh_7 (by decide) (fun c7 => ?_) (fun c7 => ?_)
    · have e : b = v.nb := by omega
      subst e
      exact kk f H locs ls hf hH (lv_sub hl [0, 1, 2] rfl)
    · refine xg_place G K hH (lv_at hl 0 rfl) dX0_weigh_10 dX0_weigh_11 ?_
      refine r_iload_n G dX0_weigh_14 rfl (lv_at hl 3 rfl) ?_
      refine r_bipush G ((-2)) dX0_weigh_15 (by decide) ?_
      refine xs_place G K hH (by omega) dX0_weigh_17 (fun H locs hH => ?_)
      refine r_iinc G (k := 3) (nI (b + 1)) [(3, .int (nI (b + 1))), (0, .ref (a 0)), (1, .ref (a rk)), (2, .int (nI n))] dX0_weigh_18 hl rfl (inc1 _) (by decide) rfl (fun ls hl => ?_)
      refine r_goto G 2 dX0_weigh_21 (by decide) ?_
      have hH : XH E a d (sI σ0 18 (upd f b (-2))) H locs := by rw [sI_sI] at hH; exact hH
      exact ih _ _ H locs ls hH (upd_run (g := fun _ => -2) hf rfl) (by omega) (by omega) (lv_sub hl [1, 2, 3, 0] rfl)
set_option maxHeartbeats 4000000 in
theorem X_weigh_L2 {E : Ev} {a : Nat → Nat} {d : Nat → ClassId} {σ0 : St} {v : Vw} {row : Nat → Nat} {n : Nat} {rk pq pt : Nat} (G : CX E RX0 cX0_weigh 6) (K : KX E (xt d)) (hR : XR σ0 v) (hrow : RowOk v row n) (hn : n ≤ 200) (hr : ∀ i, i < n → σ0.2.1 rk i = nI (row i)) (hq : ∀ σ, (xw a d σ)[pq]? = some (a rk, .inl (d rk, 200, .inl (σ.2.1 rk)))) (ht : (xt d)[pt]? = some (d rk, .int)) (hrk : rk ≠ 18) (kk : ∀ (f : Nat → Int32) (H : Heap) (locs : List Loc) (ls : Array Slot), WgI v row n f → XH E a d (sI σ0 18 f) H locs → lv_has ls 6 [(0, .ref (a 0)), (1, .ref (a rk)), (2, .int (nI n))] → WE E H locs 46 ls []) :
    ∀ (M : Nat) (f : Nat → Int32) (k : Nat) (H : Heap) (locs : List Loc) (ls : Array Slot), XH E a d (sI σ0 18 f) H locs → WgI v row k f → k ≤ n → n - k < M → lv_has ls 6 [(0, .ref (a 0)), (1, .ref (a rk)), (2, .int (nI n)), (3, .int (nI k))] → WE E H locs 26 ls [] := by
  have hv := hR.ok
  have hbd := hv.bd
  intro M
  induction M with
  | zero => exact fun f k H locs ls _ _ _ q => absurd q (Nat.not_lt_zero _)
  | succ M ih =>
    intro f k H locs ls hH hf hk hM hl
    refine r_iload_n G dX0_weigh_26 rfl (lv_at hl 3 rfl) ?_
    refine r_iload_n G dX0_weigh_27 rfl (lv_at hl 2 rfl) ?_
    refine n_icmp_ge G (by omega) (by omega) 46 dX0_weigh_28 (by decide) (fun c28 => ?_) (fun c28 => ?_)
    · have e : k = n := by omega
      subst e
      exact kk f H locs ls hf hH (lv_sub hl [0, 1, 2] rfl)
    · refine xg_place G K hH (lv_at hl 0 rfl) dX0_weigh_31 dX0_weigh_32 ?_
      refine r_aload_n G dX0_weigh_35 rfl (lv_at hl 1 rfl) ?_
      refine r_iload_n G dX0_weigh_36 rfl (lv_at hl 3 rfl) ?_
      refine xl_any G K hH (hq _) ht (by omega) dX0_weigh_37 ?_
      refine r_toi (y := nI (row k)) ((congrFun (sI_ne hrk) _).trans (hr k (by omega))) ?_
      have := hrow.1 k (by omega)
      refine r_iload_n G dX0_weigh_38 rfl (lv_at hl 3 rfl) ?_
      refine xs_place G K hH (by omega) dX0_weigh_39 (fun H locs hH => ?_)
      refine r_iinc G (k := 3) (nI (k + 1)) [(3, .int (nI (k + 1))), (0, .ref (a 0)), (1, .ref (a rk)), (2, .int (nI n))] dX0_weigh_40 hl rfl (inc1 _) (by decide) rfl (fun ls hl => ?_)
      refine r_goto G 26 dX0_weigh_43 (by decide) ?_
      have hH : XH E a d (sI σ0 18 (upd f (row k) (nI k))) H locs := by rw [sI_sI] at hH; exact hH
      exact ih _ _ H locs ls hH hf.s (by omega) (by omega) (lv_sub hl [1, 2, 3, 0] rfl)
set_option maxHeartbeats 4000000 in
theorem X_weigh_L3 {E : Ev} {a : Nat → Nat} {d : Nat → ClassId} {σ0 : St} {v : Vw} {row : Nat → Nat} {n : Nat} {f : Nat → Int32} (G : CX E RX0 cX0_weigh 6) (K : KX E (xt d)) (hR : XR σ0 v) (hrow : RowOk v row n) (hn : n ≤ 200) (hf : WgI v row n f) (hret : ∀ (pc : Nat) (ls : Array Slot) (H : Heap) (locs : List Loc), decode cX0_weigh pc = .ok (.lreturn, 1) → XH E a d (sI σ0 18 f) H locs → WE E H locs pc ls [.long (wst v row n)]) :
    ∀ (M : Nat) (k : Nat) (H : Heap) (locs : List Loc) (ls : Array Slot), XH E a d (sI σ0 18 f) H locs → k ≤ v.nw → v.nw - k < M → lv_has ls 6 [(0, .ref (a 0)), (2, .int (nI n)), (3, .long (sumI (wtm v row (n - 1)) k)), (5, .int (nI k))] → WE E H locs 51 ls [] := by
  have hv := hR.ok
  have hbd := hv.bd
  intro M
  induction M with
  | zero => exact fun k H locs ls _ _ q => absurd q (Nat.not_lt_zero _)
  | succ M ih =>
    intro k H locs ls hH hk hM hl
    refine r_iload G dX0_weigh_51 (lv_at hl 3 rfl) ?_
    refine xg_ways G K hH (lv_at hl 0 rfl) dX0_weigh_53 dX0_weigh_54 ?_
    refine r_toi (y := nI v.nw) (hR.nw) ?_
    refine n_icmp_ge G (by omega) (by omega) 130 dX0_weigh_57 (by decide) (fun c57 => ?_) (fun c57 => ?_)
    · refine r_lload_n G dX0_weigh_130 rfl (lv_at hl 2 rfl) ?_
      have e : k = v.nw := by omega
      subst e
      exact hret _ _ _ _ dX0_weigh_131 hH
    · have hfb := hv.frb c57
      have htb := hv.tab c57
      refine xg_falls G K hH (lv_at hl 0 rfl) dX0_weigh_60 dX0_weigh_61 ?_
      refine r_iload G dX0_weigh_64 (lv_at hl 3 rfl) ?_
      refine xl_falls G K hH (by omega) dX0_weigh_66 ?_
      refine r_toi (y := bI (v.fa k)) (hR.fa (by omega)) ?_
      refine b_if_eq G 124 dX0_weigh_67 (by decide) (fun c67 => ?_) (fun c67 => ?_)
      · refine r_iinc G (k := 3) (nI (k + 1)) [(5, .int (nI (k + 1))), (0, .ref (a 0)), (2, .int (nI n)), (3, .long (sumI (wtm v row (n - 1)) k))] dX0_weigh_124 hl rfl (inc1 _) (by decide) rfl (fun ls hl => ?_)
        refine r_goto G 51 dX0_weigh_127 (by decide) ?_
        have e : sumI (wtm v row (n - 1)) (k + 1) = sumI (wtm v row (n - 1)) k := by
          rw [sumI_s, wtm_fa c67]
        rw [← e] at hl
        exact ih _ H locs ls hH (by omega) (by omega) (lv_sub hl [1, 2, 3, 0] rfl)
      · rcases hf _ hfb with ⟨j, hj, ej, fj⟩ | ⟨ej, fj⟩
        · refine xg_place G K hH (lv_at hl 0 rfl) dX0_weigh_70 dX0_weigh_71 ?_
          refine xg_from G K hH (lv_at hl 0 rfl) dX0_weigh_74 dX0_weigh_75 ?_
          refine r_iload G dX0_weigh_78 (lv_at hl 3 rfl) ?_
          refine xl_from G K hH (by omega) dX0_weigh_80 ?_
          refine r_toi (y := nI (v.fr k)) (hR.fr (by omega)) ?_
          have := hv.frb (k := k) (by omega)
          refine xl_place G K hH (by omega) dX0_weigh_81 ?_
          refine r_toi (y := nI j) (fj) ?_
          refine n_if_lt G (by omega) 124 dX0_weigh_82 (by decide) ?_
          rcases hf _ htb with ⟨i, hi, ei, fi⟩ | ⟨ei, fi⟩
          · refine xg_place G K hH (lv_at hl 0 rfl) dX0_weigh_85 dX0_weigh_86 ?_
            refine xg_to G K hH (lv_at hl 0 rfl) dX0_weigh_89 dX0_weigh_90 ?_
            refine r_iload G dX0_weigh_93 (lv_at hl 3 rfl) ?_
            refine xl_to G K hH (by omega) dX0_weigh_95 ?_
            refine r_toi (y := nI (v.ta k)) (hR.ta (by omega)) ?_
            have := hv.tab (k := k) (by omega)
            refine xl_place G K hH (by omega) dX0_weigh_96 ?_
            refine r_toi (y := nI i) (fi) ?_
            refine xg_place G K hH (lv_at hl 0 rfl) dX0_weigh_97 dX0_weigh_98 ?_
            refine xg_from G K hH (lv_at hl 0 rfl) dX0_weigh_101 dX0_weigh_102 ?_
            refine r_iload G dX0_weigh_105 (lv_at hl 3 rfl) ?_
            refine xl_from G K hH (by omega) dX0_weigh_107 ?_
            refine r_toi (y := nI (v.fr k)) (hR.fr (by omega)) ?_
            have := hv.frb (k := k) (by omega)
            refine xl_place G K hH (by omega) dX0_weigh_108 ?_
            refine r_toi (y := nI j) (fj) ?_
            refine r_iconst G (nI 1) dX0_weigh_109 (by decide) ?_
            refine r_iaddN G dX0_weigh_110 ?_
            refine n_icmp_ne G (by omega) (by omega) 124 dX0_weigh_111 (by decide) (fun c111 => ?_) (fun c111 => ?_)
            · refine r_iinc G (k := 3) (nI (k + 1)) [(5, .int (nI (k + 1))), (0, .ref (a 0)), (2, .int (nI n)), (3, .long (sumI (wtm v row (n - 1)) k))] dX0_weigh_124 hl rfl (inc1 _) (by decide) rfl (fun ls hl => ?_)
              refine r_goto G 51 dX0_weigh_127 (by decide) ?_
              have hno : ∀ x, x < n - 1 → row x = v.fr k → row (x + 1) = v.ta k → False := by
                intro x hx e1 e2
                have z1 := hrow.inj (by omega) hj (e1.trans ej.symm)
                have z2 := hrow.inj (i := x + 1) (by omega) hi (e2.trans ei.symm)
                omega
              have e : sumI (wtm v row (n - 1)) (k + 1) = sumI (wtm v row (n - 1)) k := by
                rw [sumI_s, wtm_no hno]
              rw [← e] at hl
              exact ih _ H locs ls hH (by omega) (by omega) (lv_sub hl [1, 2, 3, 0] rfl)
            · refine r_lload_n G dX0_weigh_114 rfl (lv_at hl 2 rfl) ?_
              refine xg_counts G K hH (lv_at hl 0 rfl) dX0_weigh_115 dX0_weigh_116 ?_
              refine r_iload G dX0_weigh_119 (lv_at hl 3 rfl) ?_
              refine xl_counts G K hH (by omega) dX0_weigh_121 ?_
              refine r_tol (y := (v.ct k)) (hR.ct (by omega)) ?_
              refine r_ladd G dX0_weigh_122 ?_
              refine r_lstore_n G [(3, .long ((sumI (wtm v row (n - 1)) k) + (v.ct k))), (0, .ref (a 0)), (2, .int (nI n)), (5, .int (nI k))] dX0_weigh_123 rfl hl (by decide) rfl (fun ls hl => ?_)
              refine r_iinc G (k := 3) (nI (k + 1)) [(5, .int (nI (k + 1))), (3, .long ((sumI (wtm v row (n - 1)) k) + (v.ct k))), (0, .ref (a 0)), (2, .int (nI n))] dX0_weigh_124 hl rfl (inc1 _) (by decide) rfl (fun ls hl => ?_)
              refine r_goto G 51 dX0_weigh_127 (by decide) ?_
              have e : sumI (wtm v row (n - 1)) (k + 1) = sumI (wtm v row (n - 1)) k + v.ct k := by
                rw [sumI_s, wtm_yes (i := j) c67 (by omega) ej (by rw [← c111]; exact ei)]
              rw [← e] at hl
              exact ih _ H locs ls hH (by omega) (by omega) (lv_sub hl [2, 3, 1, 0] rfl)
          · refine xg_place G K hH (lv_at hl 0 rfl) dX0_weigh_85 dX0_weigh_86 ?_
            refine xg_to G K hH (lv_at hl 0 rfl) dX0_weigh_89 dX0_weigh_90 ?_
            refine r_iload G dX0_weigh_93 (lv_at hl 3 rfl) ?_
            refine xl_to G K hH (by omega) dX0_weigh_95 ?_
            refine r_toi (y := nI (v.ta k)) (hR.ta (by omega)) ?_
            have := hv.tab (k := k) (by omega)
            refine xl_place G K hH (by omega) dX0_weigh_96 ?_
            refine r_toi (y := (-2)) (fi) ?_
            refine xg_place G K hH (lv_at hl 0 rfl) dX0_weigh_97 dX0_weigh_98 ?_
            refine xg_from G K hH (lv_at hl 0 rfl) dX0_weigh_101 dX0_weigh_102 ?_
            refine r_iload G dX0_weigh_105 (lv_at hl 3 rfl) ?_
            refine xl_from G K hH (by omega) dX0_weigh_107 ?_
            refine r_toi (y := nI (v.fr k)) (hR.fr (by omega)) ?_
            have := hv.frb (k := k) (by omega)
            refine xl_place G K hH (by omega) dX0_weigh_108 ?_
            refine r_toi (y := nI j) (fj) ?_
            refine r_iconst G (nI 1) dX0_weigh_109 (by decide) ?_
            refine r_iaddN G dX0_weigh_110 ?_
            refine r_icmp_ne G 124 dX0_weigh_111 (by decide) (fun c111 => ?_) (fun c111 => ?_)
            · refine r_iinc G (k := 3) (nI (k + 1)) [(5, .int (nI (k + 1))), (0, .ref (a 0)), (2, .int (nI n)), (3, .long (sumI (wtm v row (n - 1)) k))] dX0_weigh_124 hl rfl (inc1 _) (by decide) rfl (fun ls hl => ?_)
              refine r_goto G 51 dX0_weigh_127 (by decide) ?_
              have e : sumI (wtm v row (n - 1)) (k + 1) = sumI (wtm v row (n - 1)) k := by
                rw [sumI_s, wtm_no (fun x hx e1 e2 => ei (x + 1) (by omega) e2)]
              rw [← e] at hl
              exact ih _ H locs ls hH (by omega) (by omega) (lv_sub hl [1, 2, 3, 0] rfl)
            · exact absurd (congrArg Int32.toInt c111) (by rw [nI_toInt (by omega)]; show ¬ (-2 : Int) = _; omega)
        · refine xg_place G K hH (lv_at hl 0 rfl) dX0_weigh_70 dX0_weigh_71 ?_
          refine xg_from G K hH (lv_at hl 0 rfl) dX0_weigh_74 dX0_weigh_75 ?_
          refine r_iload G dX0_weigh_78 (lv_at hl 3 rfl) ?_
          refine xl_from G K hH (by omega) dX0_weigh_80 ?_
          refine r_toi (y := nI (v.fr k)) (hR.fr (by omega)) ?_
          have := hv.frb (k := k) (by omega)
          refine xl_place G K hH (by omega) dX0_weigh_81 ?_
          refine r_toi (y := (-2)) (fj) ?_
          refine r_if_lt G 124 dX0_weigh_82 (by decide) (fun c82 => ?_) (fun c82 => ?_)
          · refine r_iinc G (k := 3) (nI (k + 1)) [(5, .int (nI (k + 1))), (0, .ref (a 0)), (2, .int (nI n)), (3, .long (sumI (wtm v row (n - 1)) k))] dX0_weigh_124 hl rfl (inc1 _) (by decide) rfl (fun ls hl => ?_)
            refine r_goto G 51 dX0_weigh_127 (by decide) ?_
            have e : sumI (wtm v row (n - 1)) (k + 1) = sumI (wtm v row (n - 1)) k := by
              rw [sumI_s, wtm_no (fun x hx e1 e2 => ej x (by omega) e1)]
            rw [← e] at hl
            exact ih _ H locs ls hH (by omega) (by omega) (lv_sub hl [1, 2, 3, 0] rfl)
          · exact absurd (by decide) c82
set_option maxHeartbeats 4000000 in
theorem X_weigh (l : Launch) (D : va_G) (a : Nat → Nat) (d : Nat → ClassId) {σ : St} {v : Vw} {row : Nat → Nat} {n : Nat} {rk pq pt : Nat} (hR : XR σ v) (hrow : RowOk v row n) (hn : n ≤ 200) (hr : ∀ i, i < n → σ.2.1 rk i = nI (row i)) (hq : ∀ σ, (xw a d σ)[pq]? = some (a rk, .inl (d rk, 200, .inl (σ.2.1 rk)))) (ht : (xt d)[pt]? = some (d rk, .int)) (hrk : rk ≠ 18) : CMl l yX0_weigh cX0_weigh 6 0 0 D (xt d) (xw a d) [.ref (a 0), .ref (a rk), .int (nI n)] σ (fun r σ' => r = wst v row n ∧ ∃ f, σ' = sI σ 18 f) := by
  refine CMl.of (by decide) (Nat.le_of_ble_eq_true rfl) ?_
  intro E ls G hfr hlo K hH hl hret
  have hl : lv_has ls 6 [(0, .ref (a 0)), (1, .ref (a rk)), (2, .int (nI n))] := hl
  have G : CX E RX0 cX0_weigh 6 := G
  have hv := hR.ok
  have hbd := hv.bd
  have hH : XH E a d (sI σ 18 (σ.2.1 18)) E.s.heap [] := by rw [sI_me]; exact hH
  refine r_iconst G (nI 0) dX0_weigh_0 (by decide) ?_
  refine r_istore_n G [(3, .int (nI 0)), (0, .ref (a 0)), (1, .ref (a rk)), (2, .int (nI n))] dX0_weigh_1 rfl hl (by decide) rfl (fun ls hl => ?_)
  refine X_weigh_L1 G K hR hrow hn hr hq ht hrk (fun f H locs ls hf hH hl => ?_) (v.nb + 1) _ 0 _ _ ls hH (fun i hi => absurd hi (Nat.not_lt_zero i)) (Nat.zero_le _) (by omega) (lv_sub hl [1, 2, 3, 0] rfl)
  refine r_iconst G (nI 0) dX0_weigh_24 (by decide) ?_
  refine r_istore_n G [(3, .int (nI 0)), (0, .ref (a 0)), (1, .ref (a rk)), (2, .int (nI n))] dX0_weigh_25 rfl hl (by decide) rfl (fun ls hl => ?_)
  refine X_weigh_L2 G K hR hrow hn hr hq ht hrk (fun f H locs ls hf hH hl => ?_) (n + 1) f 0 H locs ls hH (fun b hb => Or.inr ⟨fun j hj => absurd hj (Nat.not_lt_zero j), hf b hb⟩) (Nat.zero_le _) (by omega) (lv_sub hl [1, 2, 3, 0] rfl)
  refine r_lconst G 0 dX0_weigh_46 (by decide) ?_
  refine r_lstore_n G [(3, .long 0), (0, .ref (a 0)), (1, .ref (a rk)), (2, .int (nI n))] dX0_weigh_47 rfl hl (by decide) rfl (fun ls hl => ?_)
  refine r_iconst G (nI 0) dX0_weigh_48 (by decide) ?_
  refine r_istore G [(5, .int (nI 0)), (3, .long 0), (0, .ref (a 0)), (1, .ref (a rk)), (2, .int (nI n))] dX0_weigh_49 hl (by decide) rfl (fun ls hl => ?_)
  exact X_weigh_L3 G K hR hrow hn hf (fun pc ls H locs dg hH => hret _ _ _ _ _ _ dg hH ⟨rfl, f, rfl⟩) (v.nw + 1) 0 H locs ls hH (Nat.zero_le _) (by omega) (lv_sub hl [2, 4, 1, 0] rfl)
end
section
set_option maxRecDepth 100000
def XD (σ : St) (v : Vw) : Prop := σ.1 19 = nI v.nh ∧ (∀ k, k < v.nh → σ.2.1 17 k = nI (v.rw k)) ∧ UF v v.cs (σ.2.1 12) ∧ ∀ j, j < 4 → σ.2.2 20 j = v.wt j
/-- the class' invariant between calls -/
def XI (σ : St) (v : Vw) : Prop := XR σ v ∧ ∃ w, σ.1 8 = bI w ∧ (w = true → XD σ v)
set_option maxHeartbeats 4000000 in
theorem X_work_A {E : Ev} {a : Nat → Nat} {d : Nat → ClassId} {v : Vw} (G : CX E RX0 cX0_work 4) (K : KX E (xt d)) (kk : ∀ (σ : St) (H : Heap) (locs : List Loc) (ls : Array Slot), XR σ v → σ.1 8 = bI true → CsX v v.cs (σ.2.1 10) (σ.2.1 11) (σ.2.1 12) → (∀ i, i < v.nb → σ.2.1 13 i = bI false) → (∀ i, i < v.nb → σ.2.2 14 i = 0) → σ.1 19 = nI v.nh → (∀ i, i < v.nb → σ.2.1 17 i = nI i) → (∀ i, i < v.nh → σ.2.1 16 i = nI (v.bn i)) → XH E a d σ H locs → lv_has ls 4 [(0, .ref (a 0))] → WE E H locs 77 ls []) :
    ∀ (M : Nat) (σ : St) (b : Nat) (H : Heap) (locs : List Loc) (ls : Array Slot), XH E a d σ H locs → XR σ v → σ.1 8 = bI true → CsX v v.cs (σ.2.1 10) (σ.2.1 11) (σ.2.1 12) → (∀ i, i < v.nb → σ.2.1 13 i = bI false) → (∀ i, i < v.nb → σ.2.2 14 i = 0) → σ.1 19 = nI (hc v b) → (∀ i, i < b → σ.2.1 17 i = nI i) → (∀ i, i < hc v b → σ.2.1 16 i = nI (bnf v b i)) → b ≤ v.nb → v.nb - b < M → lv_has ls 4 [(0, .ref (a 0)), (1, .int (nI b))] → WE E H locs 24 ls [] := by
  intro M
  induction M with
  | zero => exact fun σ b H locs ls _ _ _ _ _ _ _ _ _ _ q => absurd q (Nat.not_lt_zero _)
  | succ M ih =>
    intro σ b H locs ls hH hR h8 hC h13 h14 h19 h17 h16 hb hM hl
    have hv := hR.ok
    have hbd := hv.bd
    have hcb := hc_le v b
    refine r_iload_n G dX0_work_24 rfl (lv_at hl 1 rfl) ?_
    refine xg_blocks G K hH (lv_at hl 0 rfl) dX0_work_25 dX0_work_26 ?_
    refine r_toi (y := nI v.nb) (hR.nb) ?_
    refine n_icmp_ge G (by omega) (by omega) 77 dX0_work_29 (by decide) (fun c29 => ?_) (fun c29 => ?_)
    · have e : b = v.nb := by omega
      subst e
      exact kk σ H locs ls hR h8 hC h13 h14 h19 h17 h16 hH (lv_sub hl [0] rfl)
    · refine xg_rowOfBlocks G K hH (lv_at hl 0 rfl) dX0_work_32 dX0_work_33 ?_
      refine r_iload_n G dX0_work_36 rfl (lv_at hl 1 rfl) ?_
      refine r_iload_n G dX0_work_37 rfl (lv_at hl 1 rfl) ?_
      refine xs_rowOfBlocks G K hH (by omega) dX0_work_38 (fun H locs hH => ?_)
      refine xg_isHot G K hH (lv_at hl 0 rfl) dX0_work_39 dX0_work_40 ?_
      refine r_iload_n G dX0_work_43 rfl (lv_at hl 1 rfl) ?_
      refine xl_isHot G K hH (by omega) dX0_work_44 ?_
      refine r_toi (y := bI (v.hot b)) (hR.hot (by omega)) ?_
      refine b_if_ne G 51 dX0_work_45 (by decide) (fun c45 => ?_) (fun c45 => ?_)
      · refine xg_byNumber G K hH (lv_at hl 0 rfl) dX0_work_51 dX0_work_52 ?_
        refine xg_hot G K hH (lv_at hl 0 rfl) dX0_work_55 dX0_work_56 ?_
        refine r_toi (y := nI (hc v b)) (h19) ?_
        refine r_iload_n G dX0_work_59 rfl (lv_at hl 1 rfl) ?_
        refine xs_byNumber G K hH (by omega) dX0_work_60 (fun H locs hH => ?_)
        refine r_aload_n G dX0_work_61 rfl (lv_at hl 0 rfl) ?_
        refine r_dup G dX0_work_62 rfl ?_
        refine xgf_hot G K hH dX0_work_63 ?_
        refine r_toi (y := nI (hc v b)) (h19) ?_
        refine r_iconst G (nI 1) dX0_work_66 (by decide) ?_
        refine r_iaddN G dX0_work_67 ?_
        refine xp_hot G K hH dX0_work_68 (fun H locs hH => ?_)
        refine r_iinc G (k := 1) (nI (b + 1)) [(1, .int (nI (b + 1))), (0, .ref (a 0))] dX0_work_71 hl rfl (inc1 _) (by decide) rfl (fun ls hl => ?_)
        refine r_goto G 24 dX0_work_74 (by decide) ?_
        have g17 : ∀ i, i < b + 1 → upd (σ.2.1 17) b (nI b) i = nI i := upd_run (g := fun i => nI i) h17 rfl
        obtain ⟨e1, e2, e3⟩ := bnf_hot c45
        have g16 : ∀ i, i < hc v b + 1 → upd (σ.2.1 16) (hc v b) (nI b) i = nI (bnf v (b + 1) i) := upd_run (g := fun i => nI (bnf v (b + 1) i)) (fun i hi => by rw [h16 i hi, e2 i hi]) (by rw [e3])
        exact ih _ _ H locs ls hH hR h8 hC h13 h14 (by rw [e1]; rfl) g17 (by rw [e1]; exact g16) (by omega) (by omega) (lv_sub hl [1, 0] rfl)
      · refine r_goto G 71 dX0_work_48 (by decide) ?_
        refine r_iinc G (k := 1) (nI (b + 1)) [(1, .int (nI (b + 1))), (0, .ref (a 0))] dX0_work_71 hl rfl (inc1 _) (by decide) rfl (fun ls hl => ?_)
        refine r_goto G 24 dX0_work_74 (by decide) ?_
        have g17 : ∀ i, i < b + 1 → upd (σ.2.1 17) b (nI b) i = nI i := upd_run (g := fun i => nI i) h17 rfl
        obtain ⟨e1, e2⟩ := bnf_cold c45
        exact ih _ _ H locs ls hH hR h8 hC h13 h14 (by rw [e1]; exact h19) g17 (by rw [e1, e2]; exact h16) (by omega) (by omega) (lv_sub hl [1, 0] rfl)
set_option maxHeartbeats 4000000 in
theorem X_work_B {E : Ev} {a : Nat → Nat} {d : Nat → ClassId} {v : Vw} (G : CX E RX0 cX0_work 4) (K : KX E (xt d)) (hfr : 4 ≤ E.R.frames) (hlo : 95 ≤ E.R.locals) (kk : ∀ (σ : St) (H : Heap) (locs : List Loc) (ls : Array Slot), XR σ v → σ.1 8 = bI true → NxOk v v.cs (σ.2.1 10) → UF v v.cs (σ.2.1 12) → σ.1 19 = nI v.nh → (∀ i, i < v.nh → σ.2.1 16 i = nI (v.bn i)) → σ.2.2 20 2 = v.w2 → (∀ i, i < v.nh → σ.2.1 15 i = nI (v.bc i)) → XH E a d σ H locs → lv_has ls 4 [(0, .ref (a 0))] → WE E H locs 135 ls []) :
    ∀ (M : Nat) (σ : St) (t : Nat) (q : Pl) (H : Heap) (locs : List Loc) (ls : Array Slot), XH E a d σ H locs → q = plc v v.cs t → (t = 0 ∨ 0 < q.n) → XR σ v → σ.1 8 = bI true → NxOk v v.cs (σ.2.1 10) → UF v v.cs (σ.2.1 12) → σ.1 19 = nI v.nh → (∀ i, i < v.nh → σ.2.1 16 i = nI (v.bn i)) → σ.2.2 20 2 = v.w2 → (∀ b, b < v.nb → σ.2.1 13 b = bI (q.pl b)) → (∀ c, c < v.nb → v.cs.co c = c → v.hot c = true → q.pl c = false → σ.2.2 14 c = sumc v v.cs q.pl c) → (∀ j, j < q.n → σ.2.1 15 j = nI (q.od j)) → v.nh - q.n < M → lv_has ls 4 [(0, .ref (a 0)), (1, .int (nI q.n))] → WE E H locs 97 ls [] := by
  intro M
  induction M with
  | zero => exact fun σ t q H locs ls _ _ _ _ _ _ _ _ _ _ _ _ _ q => absurd q (Nat.not_lt_zero _)
  | succ M ih =>
    intro σ t q H locs ls hH hqe htn hR h8 hN hU h19 h16 h20 h13 h14 h15 hM hl
    have hv := hR.ok
    have hbd := hv.bd
    have hnh := nh_le v
    have hs := cs_ok hv
    have hq : PlOk v v.cs q := by
      rw [hqe]
      exact plc_ok hs t
    have hqn := hq.le hs
    refine r_iload_n G dX0_work_97 rfl (lv_at hl 1 rfl) ?_
    refine xg_hot G K hH (lv_at hl 0 rfl) dX0_work_98 dX0_work_99 ?_
    refine r_toi (y := nI v.nh) (h19) ?_
    refine n_icmp_ge G (by omega) (by omega) 135 dX0_work_102 (by decide) (fun c102 => ?_) (fun c102 => ?_)
    · have e : q = v.pf := by
        rw [hqe]
        refine plc_fin hv ?_
        rw [← hqe]
        exact c102
      have en := (pf_ok hv).2
      exact kk σ H locs ls hR h8 hN hU h19 h16 h20 (fun i hi => by rw [h15 i (by omega), e]; rfl) hH (lv_sub hl [0] rfl)
    · obtain ⟨c, hc, c1, c2, c3, c4, c5, c6, c7, c8⟩ := plc_step hs (t := t) (by rw [← hqe]; exact hq) (by rw [← hqe]; exact c102)
      rw [← hqe] at hc c4 c5 c7 c8
      refine r_aload_n G dX0_work_105 rfl (lv_at hl 0 rfl) ?_
      refine r_iload_n G dX0_work_106 rfl (lv_at hl 1 rfl) ?_
      refine n_if_ne G (by omega) 123 dX0_work_107 (by decide) (fun c107 => ?_) (fun c107 => ?_)
      · refine r_aload_n G dX0_work_123 rfl (lv_at hl 0 rfl) ?_
        refine xcall_i G K hH rfl (X_best E.l E.D a d (v := v) (s := v.cs) (q := q) hR hs hq h13 h14 hU hc) q159 q161 qs8 q162 rfl ⟨by omega, by omega⟩ hl.1 (rest := [.ref (a 0)]) rfl (Nat.le_of_ble_eq_true rfl) dX0_work_124 (fun r σ1 H locs hH hp => ?_)
        obtain ⟨rfl, f1, rfl, hU1⟩ := hp
        refine r_iload_n G dX0_work_127 rfl (lv_at hl 1 rfl) ?_
        refine xcall_i G K hH rfl (X_put E.l E.D a d (v := v) (s := v.cs) (q := q) (h := c) hR hs hq c1 c2 c3 c4 hN hU1 (by omega) h15 h13 h14) q163 q165 qs9 q166 rfl ⟨by omega, by omega⟩ hl.1 (rest := []) rfl (Nat.le_of_ble_eq_true rfl) dX0_work_128 (fun r σ2 H locs hH hp => ?_)
        obtain ⟨rfl, hR2, ⟨k1, k2, k3, k4, k5⟩, hU2, g15, g13, g14⟩ := hp
        refine r_istore_n G [(1, .int (nI (q.n + v.cs.mn c))), (0, .ref (a 0))] dX0_work_131 rfl hl (by decide) rfl (fun ls hl => ?_)
        refine r_goto G 97 dX0_work_132 (by decide) ?_
        exact ih σ2 (t + 1) (q.put v.cs c) H locs ls hH c5.symm (Or.inr (by show 0 < q.n + v.cs.mn c; omega)) hR2 ((congrFun k1 8).trans h8) (by rw [k2]; exact hN) hU2 ((congrFun k1 19).trans h19) (by rw [k3]; exact h16) ((congrFun k5 2).trans h20) g13 g14 g15 (by show v.nh - (q.n + v.cs.mn c) < M; omega) (lv_sub hl [1, 0] rfl)
      · have ht0 : t = 0 := htn.resolve_right (by omega)
        have e2 : v.cs.co (v.bn 0) = c := by
          have e := first_c (v := v) ht0 (by omega)
          rw [← hqe] at e
          exact Option.some.inj (e.symm.trans hc)
        have hb0 := ((bn_ok v).1 0 (by omega)).1
        refine r_aload_n G dX0_work_110 rfl (lv_at hl 0 rfl) ?_
        refine xg_byNumber G K hH (lv_at hl 0 rfl) dX0_work_111 dX0_work_112 ?_
        refine r_iconst G (nI 0) dX0_work_115 (by decide) ?_
        refine xl_byNumber G K hH (by omega) dX0_work_116 ?_
        refine r_toi (y := nI (v.bn 0)) (h16 _ (by omega)) ?_
        refine xcall_i G K hH rfl (X_headOf E.l E.D a d (v := v) (s := v.cs) (b := v.bn 0) hR hs hU hb0) q151 q153 qs6 q154 rfl ⟨by omega, by omega⟩ hl.1 (rest := [.ref (a 0)]) rfl (Nat.le_of_ble_eq_true rfl) dX0_work_117 (fun r σ1 H locs hH hp => ?_)
        obtain ⟨rfl, f1, rfl, hU1⟩ := hp
        refine r_toi (y := nI c) (by rw [e2]) ?_
        refine r_goto G 127 dX0_work_120 (by decide) ?_
        refine r_iload_n G dX0_work_127 rfl (lv_at hl 1 rfl) ?_
        refine xcall_i G K hH rfl (X_put E.l E.D a d (v := v) (s := v.cs) (q := q) (h := c) hR hs hq c1 c2 c3 c4 hN hU1 (by omega) h15 h13 h14) q163 q165 qs9 q166 rfl ⟨by omega, by omega⟩ hl.1 (rest := []) rfl (Nat.le_of_ble_eq_true rfl) dX0_work_128 (fun r σ2 H locs hH hp => ?_)
        obtain ⟨rfl, hR2, ⟨k1, k2, k3, k4, k5⟩, hU2, g15, g13, g14⟩ := hp
        refine r_istore_n G [(1, .int (nI (q.n + v.cs.mn c))), (0, .ref (a 0))] dX0_work_131 rfl hl (by decide) rfl (fun ls hl => ?_)
        refine r_goto G 97 dX0_work_132 (by decide) ?_
        exact ih σ2 (t + 1) (q.put v.cs c) H locs ls hH c5.symm (Or.inr (by show 0 < q.n + v.cs.mn c; omega)) hR2 ((congrFun k1 8).trans h8) (by rw [k2]; exact hN) hU2 ((congrFun k1 19).trans h19) (by rw [k3]; exact h16) ((congrFun k5 2).trans h20) g13 g14 g15 (by show v.nh - (q.n + v.cs.mn c) < M; omega) (lv_sub hl [1, 0] rfl)
set_option maxHeartbeats 4000000 in
theorem X_work_C {E : Ev} {a : Nat → Nat} {d : Nat → ClassId} {v : Vw} (G : CX E RX0 cX0_work 4) (K : KX E (xt d)) (hret : ∀ (pc : Nat) (ls : Array Slot) (H : Heap) (locs : List Loc) (σ : St), decode cX0_work pc = .ok (.return_, 1) → XH E a d σ H locs → XR σ v → σ.1 8 = bI true → XD σ v → WE E H locs pc ls []) :
    ∀ (M : Nat) (σ : St) (k : Nat) (H : Heap) (locs : List Loc) (ls : Array Slot), XH E a d σ H locs → XR σ v → σ.1 8 = bI true → UF v v.cs (σ.2.1 12) → σ.1 19 = nI v.nh → (∀ i, i < v.nh → σ.2.1 16 i = nI (v.bn i)) → (∀ i, i < v.nh → σ.2.1 15 i = nI (v.bc i)) → σ.2.2 20 1 = v.w1 → σ.2.2 20 2 = v.w2 → σ.2.2 20 3 = v.w3 → (∀ i, i < k → σ.2.1 17 i = nI (v.rw i)) → k ≤ v.nh → v.nh - k < M → lv_has ls 4 [(0, .ref (a 0)), (2, .int (bI v.bet)), (3, .int (nI k))] → WE E H locs 195 ls [] := by
  intro M
  induction M with
  | zero => exact fun σ k H locs ls _ _ _ _ _ _ _ _ _ _ _ _ q => absurd q (Nat.not_lt_zero _)
  | succ M ih =>
    intro σ k H locs ls hH hR h8 hU h19 h16 h15 w1 w2 w3 h17 hk hM hl
    have hv := hR.ok
    have hbd := hv.bd
    have hnh := nh_le v
    refine r_iload_n G dX0_work_195 rfl (lv_at hl 2 rfl) ?_
    refine xg_hot G K hH (lv_at hl 0 rfl) dX0_work_196 dX0_work_197 ?_
    refine r_toi (y := nI v.nh) (h19) ?_
    refine n_icmp_ge G (by omega) (by omega) 234 dX0_work_200 (by decide) (fun c200 => ?_) (fun c200 => ?_)
    · refine xg_weights G K hH (lv_at hl 0 rfl) dX0_work_234 dX0_work_235 ?_
      refine r_iconst G (nI 0) dX0_work_238 (by decide) ?_
      refine r_iload_n G dX0_work_239 rfl (lv_at hl 1 rfl) ?_
      refine b_if_eq G 252 dX0_work_240 (by decide) (fun c240 => ?_) (fun c240 => ?_)
      · refine xg_weights G K hH (lv_at hl 0 rfl) dX0_work_252 dX0_work_253 ?_
        refine r_iconst G (nI 1) dX0_work_256 (by decide) ?_
        refine xl_weights G K hH (by omega) dX0_work_257 ?_
        refine r_tol (y := v.w1) (w1) ?_
        refine r_tol (y := v.w0) (by unfold Vw.w0; rw [if_neg (by rw [c240]; decide)]) ?_
        refine xs_weights G K hH (by omega) dX0_work_258 (fun H locs hH => ?_)
        have e : k = v.nh := by omega
        subst e
        exact hret _ _ _ _ _ dX0_work_259 hH hR h8 ⟨h19, h17, hU, wt_all rfl w1 w2 w3⟩
      · refine xg_weights G K hH (lv_at hl 0 rfl) dX0_work_243 dX0_work_244 ?_
        refine r_iconst G (nI 3) dX0_work_247 (by decide) ?_
        refine xl_weights G K hH (by omega) dX0_work_248 ?_
        refine r_tol (y := v.w3) (w3) ?_
        refine r_goto G 258 dX0_work_249 (by decide) ?_
        refine r_tol (y := v.w0) (by unfold Vw.w0; rw [if_pos c240]) ?_
        refine xs_weights G K hH (by omega) dX0_work_258 (fun H locs hH => ?_)
        have e : k = v.nh := by omega
        subst e
        exact hret _ _ _ _ _ dX0_work_259 hH hR h8 ⟨h19, h17, hU, wt_all rfl w1 w2 w3⟩
    · refine xg_rowOfBlocks G K hH (lv_at hl 0 rfl) dX0_work_203 dX0_work_204 ?_
      refine r_iload_n G dX0_work_207 rfl (lv_at hl 2 rfl) ?_
      refine r_iload_n G dX0_work_208 rfl (lv_at hl 1 rfl) ?_
      refine b_if_eq G 221 dX0_work_209 (by decide) (fun c209 => ?_) (fun c209 => ?_)
      · refine xg_byNumber G K hH (lv_at hl 0 rfl) dX0_work_221 dX0_work_222 ?_
        refine r_iload_n G dX0_work_225 rfl (lv_at hl 2 rfl) ?_
        refine xl_byNumber G K hH (by omega) dX0_work_226 ?_
        refine r_toi (y := nI (v.bn k)) (h16 _ (by omega)) ?_
        refine r_toi (y := nI (v.rw k)) (by unfold Vw.rw; rw [if_neg (by rw [c209]; decide)]) ?_
        refine xs_rowOfBlocks G K hH (by omega) dX0_work_227 (fun H locs hH => ?_)
        refine r_iinc G (k := 2) (nI (k + 1)) [(3, .int (nI (k + 1))), (0, .ref (a 0)), (2, .int (bI v.bet))] dX0_work_228 hl rfl (inc1 _) (by decide) rfl (fun ls hl => ?_)
        refine r_goto G 195 dX0_work_231 (by decide) ?_
        have g17 : ∀ i, i < k + 1 → upd (σ.2.1 17) k (nI (v.rw k)) i = nI (v.rw i) := upd_run (g := fun i => nI (v.rw i)) h17 rfl
        exact ih _ _ H locs ls hH hR h8 hU h19 h16 h15 w1 w2 w3 g17 (by omega) (by omega) (lv_sub hl [1, 2, 0] rfl)
      · refine xg_byChains G K hH (lv_at hl 0 rfl) dX0_work_212 dX0_work_213 ?_
        refine r_iload_n G dX0_work_216 rfl (lv_at hl 2 rfl) ?_
        refine xl_byChains G K hH (by omega) dX0_work_217 ?_
        refine r_toi (y := nI (v.bc k)) (h15 _ (by omega)) ?_
        refine r_goto G 227 dX0_work_218 (by decide) ?_
        refine r_toi (y := nI (v.rw k)) (by unfold Vw.rw; rw [if_pos c209]) ?_
        refine xs_rowOfBlocks G K hH (by omega) dX0_work_227 (fun H locs hH => ?_)
        refine r_iinc G (k := 2) (nI (k + 1)) [(3, .int (nI (k + 1))), (0, .ref (a 0)), (2, .int (bI v.bet))] dX0_work_228 hl rfl (inc1 _) (by decide) rfl (fun ls hl => ?_)
        refine r_goto G 195 dX0_work_231 (by decide) ?_
        have g17 : ∀ i, i < k + 1 → upd (σ.2.1 17) k (nI (v.rw k)) i = nI (v.rw i) := upd_run (g := fun i => nI (v.rw i)) h17 rfl
        exact ih _ _ H locs ls hH hR h8 hU h19 h16 h15 w1 w2 w3 g17 (by omega) (by omega) (lv_sub hl [1, 2, 0] rfl)
set_option maxHeartbeats 4000000 in
theorem X_work (l : Launch) (D : va_G) (a : Nat → Nat) (d : Nat → ClassId) {σ : St} {v : Vw} (hI : XI σ v) : CMv l yX0_work cX0_work 4 4 95 D (xt d) (xw a d) [.ref (a 0)] σ (fun σ' => XR σ' v ∧ σ'.1 8 = bI true ∧ XD σ' v) := by
  refine CMv.of (by decide) (Nat.le_of_ble_eq_true rfl) ?_
  intro E ls G hfr hlo K hH hl hret
  have hl : lv_has ls 4 [(0, .ref (a 0))] := hl
  have G : CX E RX0 cX0_work 4 := G
  obtain ⟨hR, w, h8, hD⟩ := hI
  have hv := hR.ok
  have hbd := hv.bd
  have hs := cs_ok hv
  have hnh := nh_le v
  refine xg_isDone G K hH (lv_at hl 0 rfl) dX0_work_0 dX0_work_1 ?_
  refine r_toi (y := bI w) (h8) ?_
  refine b_if_eq G 8 dX0_work_4 (by decide) (fun c4 => ?_) (fun c4 => ?_)
  · refine r_aload_n G dX0_work_8 rfl (lv_at hl 0 rfl) ?_
    refine r_iconst G (nI 1) dX0_work_9 (by decide) ?_
    refine xp_isDone G K hH rfl rfl dX0_work_10 (fun H locs hH => ?_)
    refine r_aload_n G dX0_work_13 rfl (lv_at hl 0 rfl) ?_
    refine xcall_v G K hH rfl (X_join E.l E.D a d (v := v) hR) q135 q137 qs2 q138 rfl ⟨by omega, by omega⟩ hl.1 (rest := []) rfl (Nat.le_of_ble_eq_true rfl) dX0_work_14 (fun σ1 H locs hH hp => ?_)
    obtain ⟨hR1, hF1, hC1, h13, h14⟩ := hp
    refine r_aload_n G dX0_work_17 rfl (lv_at hl 0 rfl) ?_
    refine r_iconst G (nI 0) dX0_work_18 (by decide) ?_
    refine xp_hot G K hH dX0_work_19 (fun H locs hH => ?_)
    refine r_iconst G (nI 0) dX0_work_22 (by decide) ?_
    refine r_istore_n G [(1, .int (nI 0)), (0, .ref (a 0))] dX0_work_23 rfl hl (by decide) rfl (fun ls hl => ?_)
    refine X_work_A G K (fun σ H locs ls hR h8 hC h13 h14 h19 h17 h16 hH hl => ?_) (v.nb + 1) _ 0 H locs ls hH hR1 (congrFun hF1 8) hC1 h13 h14 rfl (fun i hi => absurd hi (Nat.not_lt_zero i)) (fun i hi => absurd hi (Nat.not_lt_zero i)) (Nat.zero_le _) (by omega) (lv_sub hl [1, 0] rfl)
    refine xg_weights G K hH (lv_at hl 0 rfl) dX0_work_77 dX0_work_78 ?_
    refine r_iconst G (nI 2) dX0_work_81 (by decide) ?_
    refine r_aload_n G dX0_work_82 rfl (lv_at hl 0 rfl) ?_
    refine xg_rowOfBlocks G K hH (lv_at hl 0 rfl) dX0_work_83 dX0_work_84 ?_
    refine xg_blocks G K hH (lv_at hl 0 rfl) dX0_work_87 dX0_work_88 ?_
    refine r_toi (y := nI v.nb) (hR.nb) ?_
    refine xcall_l G K hH rfl (X_weigh E.l E.D a d (v := v) (row := fun i => i) (n := v.nb) (rk := 17) (pq := 15) (pt := 14) hR (id_row v) (by omega) h17 (fun _ => rfl) rfl (by decide)) q155 q157 qs7 q158 rfl ⟨by omega, by omega⟩ hl.1 (rest := [.int (nI 2), .ref (a 20)]) rfl (Nat.le_of_ble_eq_true rfl) dX0_work_91 (fun r σ1 H locs hH hp => ?_)
    obtain ⟨rfl, f1, rfl⟩ := hp
    refine xs_weights G K hH (by omega) dX0_work_94 (fun H locs hH => ?_)
    refine r_iconst G (nI 0) dX0_work_95 (by decide) ?_
    refine r_istore_n G [(1, .int (nI 0)), (0, .ref (a 0))] dX0_work_96 rfl hl (by decide) rfl (fun ls hl => ?_)
    refine X_work_B G K hfr hlo (fun σ H locs ls hR h8 hN hU h19 h16 w2 h15 hH hl => ?_) (v.nh + 1) _ 0 Pl.ini H locs ls hH rfl (Or.inl rfl) hR h8 hC.1 hC.2.2 h19 h16 rfl h13 (fun c z1 z2 z3 z4 => (h14 c z1).trans (sumc_none v v.cs c).symm) (fun i hi => absurd hi (Nat.not_lt_zero i)) (by omega) (lv_sub hl [1, 0] rfl)
    refine xg_weights G K hH (lv_at hl 0 rfl) dX0_work_135 dX0_work_136 ?_
    refine r_iconst G (nI 3) dX0_work_139 (by decide) ?_
    refine r_aload_n G dX0_work_140 rfl (lv_at hl 0 rfl) ?_
    refine xg_byChains G K hH (lv_at hl 0 rfl) dX0_work_141 dX0_work_142 ?_
    refine xg_hot G K hH (lv_at hl 0 rfl) dX0_work_145 dX0_work_146 ?_
    refine r_toi (y := nI v.nh) (h19) ?_
    refine xcall_l G K hH rfl (X_weigh E.l E.D a d (v := v) (row := v.bc) (n := v.nh) (rk := 15) (pq := 13) (pt := 12) hR (bc_row hv) (by omega) h15 (fun _ => rfl) rfl (by decide)) q155 q157 qs7 q158 rfl ⟨by omega, by omega⟩ hl.1 (rest := [.int (nI 3), .ref (a 20)]) rfl (Nat.le_of_ble_eq_true rfl) dX0_work_149 (fun r σ1 H locs hH hp => ?_)
    obtain ⟨rfl, f1, rfl⟩ := hp
    refine xs_weights G K hH (by omega) dX0_work_152 (fun H locs hH => ?_)
    refine xg_weights G K hH (lv_at hl 0 rfl) dX0_work_153 dX0_work_154 ?_
    refine r_iconst G (nI 1) dX0_work_157 (by decide) ?_
    refine r_aload_n G dX0_work_158 rfl (lv_at hl 0 rfl) ?_
    refine xg_byNumber G K hH (lv_at hl 0 rfl) dX0_work_159 dX0_work_160 ?_
    refine xg_hot G K hH (lv_at hl 0 rfl) dX0_work_163 dX0_work_164 ?_
    refine r_toi (y := nI v.nh) (h19) ?_
    refine xcall_l G K hH rfl (X_weigh E.l E.D a d (v := v) (row := v.bn) (n := v.nh) (rk := 16) (pq := 14) (pt := 13) hR (bn_row v) (by omega) h16 (fun _ => rfl) rfl (by decide)) q155 q157 qs7 q158 rfl ⟨by omega, by omega⟩ hl.1 (rest := [.int (nI 1), .ref (a 20)]) rfl (Nat.le_of_ble_eq_true rfl) dX0_work_167 (fun r σ1 H locs hH hp => ?_)
    obtain ⟨rfl, f2, rfl⟩ := hp
    refine xs_weights G K hH (by omega) dX0_work_170 (fun H locs hH => ?_)
    refine xg_weights G K hH (lv_at hl 0 rfl) dX0_work_171 dX0_work_172 ?_
    refine r_iconst G (nI 3) dX0_work_175 (by decide) ?_
    refine xl_weights G K hH (by omega) dX0_work_176 ?_
    refine r_tol (y := v.w3) (rfl) ?_
    refine xg_weights G K hH (lv_at hl 0 rfl) dX0_work_177 dX0_work_178 ?_
    refine r_iconst G (nI 1) dX0_work_181 (by decide) ?_
    refine xl_weights G K hH (by omega) dX0_work_182 ?_
    refine r_tol (y := v.w1) (rfl) ?_
    refine l_cmp_le G 191 dX0_work_183 dX0_work_184 (by decide) (fun c183 => ?_) (fun c183 => ?_)
    · refine r_iconst G (nI 0) dX0_work_191 (by decide) ?_
      refine r_toi (y := bI v.bet) (bI_f (Int64.not_lt.mpr c183)) ?_
      refine r_istore_n G [(2, .int (bI v.bet)), (0, .ref (a 0))] dX0_work_192 rfl hl (by decide) rfl (fun ls hl => ?_)
      refine r_iconst G (nI 0) dX0_work_193 (by decide) ?_
      refine r_istore_n G [(3, .int (nI 0)), (2, .int (bI v.bet)), (0, .ref (a 0))] dX0_work_194 rfl hl (by decide) rfl (fun ls hl => ?_)
      exact X_work_C G K (fun pc ls H locs σ dg hH hR h8 hD => hret _ _ _ _ _ dg hH ⟨hR, h8, hD⟩) (v.nh + 1) _ 0 H locs ls hH hR h8 hU h19 h16 h15 rfl w2 rfl (fun i hi => absurd hi (Nat.not_lt_zero i)) (Nat.zero_le _) (by omega) (lv_sub hl [2, 1, 0] rfl)
    · refine r_iconst G (nI 1) dX0_work_187 (by decide) ?_
      refine r_goto G 192 dX0_work_188 (by decide) ?_
      refine r_toi (y := bI v.bet) (bI_t (Int64.not_le.mp c183)) ?_
      refine r_istore_n G [(2, .int (bI v.bet)), (0, .ref (a 0))] dX0_work_192 rfl hl (by decide) rfl (fun ls hl => ?_)
      refine r_iconst G (nI 0) dX0_work_193 (by decide) ?_
      refine r_istore_n G [(3, .int (nI 0)), (2, .int (bI v.bet)), (0, .ref (a 0))] dX0_work_194 rfl hl (by decide) rfl (fun ls hl => ?_)
      exact X_work_C G K (fun pc ls H locs σ dg hH hR h8 hD => hret _ _ _ _ _ dg hH ⟨hR, h8, hD⟩) (v.nh + 1) _ 0 H locs ls hH hR h8 hU h19 h16 h15 rfl w2 rfl (fun i hi => absurd hi (Nat.not_lt_zero i)) (Nat.zero_le _) (by omega) (lv_sub hl [2, 1, 0] rfl)
  · exact hret _ _ _ _ _ dX0_work_7 hH ⟨hR, by rw [h8, c4], hD c4⟩
end
section
set_option maxRecDepth 100000
set_option maxHeartbeats 4000000 in
theorem X_length (l : Launch) (D : va_G) (a : Nat → Nat) (d : Nat → ClassId) {σ : St} {v : Vw} (hI : XI σ v) : CMi l yX0_length cX0_length 1 .int 5 118 D (xt d) (xw a d) [.ref (a 0)] σ (fun r σ' => r = nI v.nh ∧ XI σ' v) := by
  refine CMi.of (by decide) (Nat.le_of_ble_eq_true rfl) ?_
  intro E ls G hfr hlo K hH hl hret
  have hl : lv_has ls 1 [(0, .ref (a 0))] := hl
  have G : CX E RX0 cX0_length 1 := G
  have hv := hI.1.ok
  have hbd := hv.bd
  have hnh := nh_le v
  refine r_aload_n G dX0_length_0 rfl (lv_at hl 0 rfl) ?_
  refine xcall_v G K hH rfl (X_work E.l E.D a d (v := v) hI) q131 q133 qs1 q134 rfl ⟨by omega, by omega⟩ hl.1 (rest := []) rfl (Nat.le_of_ble_eq_true rfl) dX0_length_1 (fun σ1 H locs hH hp => ?_)
  obtain ⟨hR, h8, hD⟩ := hp
  refine xg_hot G K hH (lv_at hl 0 rfl) dX0_length_4 dX0_length_5 ?_
  refine r_toi (y := nI v.nh) (hD.1) ?_
  exact hret _ _ _ _ _ _ dX0_length_8 rfl hH ⟨rfl, ⟨hR, true, h8, fun _ => hD⟩⟩
set_option maxHeartbeats 4000000 in
theorem X_row (l : Launch) (D : va_G) (a : Nat → Nat) (d : Nat → ClassId) {σ : St} {v : Vw} {k : Int32} (hI : XI σ v) : CMi l yX0_row cX0_row 2 .int 5 118 D (xt d) (xw a d) [.ref (a 0), .int k] σ (fun r σ' => r = aRow v k ∧ XI σ' v) := by
  refine CMi.of (by decide) (Nat.le_of_ble_eq_true rfl) ?_
  intro E ls G hfr hlo K hH hl hret
  have hl : lv_has ls 2 [(0, .ref (a 0)), (1, .int k)] := hl
  have G : CX E RX0 cX0_row 2 := G
  have hv := hI.1.ok
  have hbd := hv.bd
  have hnh := nh_le v
  refine r_aload_n G dX0_row_0 rfl (lv_at hl 0 rfl) ?_
  refine xcall_v G K hH rfl (X_work E.l E.D a d (v := v) hI) q131 q133 qs1 q134 rfl ⟨by omega, by omega⟩ hl.1 (rest := []) rfl (Nat.le_of_ble_eq_true rfl) dX0_row_1 (fun σ1 H locs hH hp => ?_)
  obtain ⟨hR, h8, hD⟩ := hp
  refine r_iload_n G dX0_row_4 rfl (lv_at hl 1 rfl) ?_
  refine r_if_lt G 25 dX0_row_5 (by decide) (fun c5 => ?_) (fun c5 => ?_)
  · refine r_iconst G ((-1)) dX0_row_25 (by decide) ?_
    exact hret _ _ _ _ _ _ dX0_row_26 rfl hH ⟨(aRow_n c5).symm, ⟨hR, true, h8, fun _ => hD⟩⟩
  · obtain ⟨j, hj, rfl⟩ := nI_of c5
    refine r_iload_n G dX0_row_8 rfl (lv_at hl 1 rfl) ?_
    refine xg_hot G K hH (lv_at hl 0 rfl) dX0_row_9 dX0_row_10 ?_
    refine r_toi (y := nI v.nh) (hD.1) ?_
    refine n_icmp_ge G (by omega) (by omega) 25 dX0_row_13 (by decide) (fun c13 => ?_) (fun c13 => ?_)
    · refine r_iconst G ((-1)) dX0_row_25 (by decide) ?_
      exact hret _ _ _ _ _ _ dX0_row_26 rfl hH ⟨(aRow_f c13 hj).symm, ⟨hR, true, h8, fun _ => hD⟩⟩
    · refine xg_rowOfBlocks G K hH (lv_at hl 0 rfl) dX0_row_16 dX0_row_17 ?_
      refine r_iload_n G dX0_row_20 rfl (lv_at hl 1 rfl) ?_
      refine xl_rowOfBlocks G K hH (by omega) dX0_row_21 ?_
      refine r_toi (y := nI (v.rw j)) (hD.2.1 _ c13) ?_
      refine r_goto G 26 dX0_row_22 (by decide) ?_
      exact hret _ _ _ _ _ _ dX0_row_26 rfl hH ⟨(aRow_t c13 hj).symm, ⟨hR, true, h8, fun _ => hD⟩⟩
set_option maxHeartbeats 4000000 in
theorem X_weight (l : Launch) (D : va_G) (a : Nat → Nat) (d : Nat → ClassId) {σ : St} {v : Vw} {k : Int32} (hI : XI σ v) : CMl l yX0_weight cX0_weight 2 5 118 D (xt d) (xw a d) [.ref (a 0), .int k] σ (fun r σ' => r = aWt v k ∧ XI σ' v) := by
  refine CMl.of (by decide) (Nat.le_of_ble_eq_true rfl) ?_
  intro E ls G hfr hlo K hH hl hret
  have hl : lv_has ls 2 [(0, .ref (a 0)), (1, .int k)] := hl
  have G : CX E RX0 cX0_weight 2 := G
  have hv := hI.1.ok
  have hbd := hv.bd
  have hnh := nh_le v
  refine r_aload_n G dX0_weight_0 rfl (lv_at hl 0 rfl) ?_
  refine xcall_v G K hH rfl (X_work E.l E.D a d (v := v) hI) q131 q133 qs1 q134 rfl ⟨by omega, by omega⟩ hl.1 (rest := []) rfl (Nat.le_of_ble_eq_true rfl) dX0_weight_1 (fun σ1 H locs hH hp => ?_)
  obtain ⟨hR, h8, hD⟩ := hp
  refine r_iload_n G dX0_weight_4 rfl (lv_at hl 1 rfl) ?_
  refine r_if_lt G 22 dX0_weight_5 (by decide) (fun c5 => ?_) (fun c5 => ?_)
  · refine r_ldc2 G (v := (-1)) q115 dX0_weight_22 ?_
    exact hret _ _ _ _ _ _ dX0_weight_25 hH ⟨(aWt_n c5).symm, ⟨hR, true, h8, fun _ => hD⟩⟩
  · obtain ⟨j, hj, rfl⟩ := nI_of c5
    refine r_iload_n G dX0_weight_8 rfl (lv_at hl 1 rfl) ?_
    refine r_iconst G (nI 3) dX0_weight_9 (by decide) ?_
    refine n_icmp_gt G (by omega) (by omega) 22 dX0_weight_10 (by decide) (fun c10 => ?_) (fun c10 => ?_)
    · refine r_ldc2 G (v := (-1)) q115 dX0_weight_22 ?_
      exact hret _ _ _ _ _ _ dX0_weight_25 hH ⟨(aWt_f c10 hj).symm, ⟨hR, true, h8, fun _ => hD⟩⟩
    · refine xg_weights G K hH (lv_at hl 0 rfl) dX0_weight_13 dX0_weight_14 ?_
      refine r_iload_n G dX0_weight_17 rfl (lv_at hl 1 rfl) ?_
      refine xl_weights G K hH (by omega) dX0_weight_18 ?_
      refine r_tol (y := (v.wt j)) (hD.2.2.2 _ (by omega)) ?_
      refine r_goto G 25 dX0_weight_19 (by decide) ?_
      exact hret _ _ _ _ _ _ dX0_weight_25 hH ⟨(aWt_t (by omega)).symm, ⟨hR, true, h8, fun _ => hD⟩⟩
set_option maxHeartbeats 4000000 in
theorem X_chain (l : Launch) (D : va_G) (a : Nat → Nat) (d : Nat → ClassId) {σ : St} {v : Vw} {k : Int32} (hI : XI σ v) : CMi l yX0_chain cX0_chain 2 .int 5 118 D (xt d) (xw a d) [.ref (a 0), .int k] σ (fun r σ' => r = aCh v k ∧ XI σ' v) := by
  refine CMi.of (by decide) (Nat.le_of_ble_eq_true rfl) ?_
  intro E ls G hfr hlo K hH hl hret
  have hl : lv_has ls 2 [(0, .ref (a 0)), (1, .int k)] := hl
  have G : CX E RX0 cX0_chain 2 := G
  have hv := hI.1.ok
  have hbd := hv.bd
  have hnh := nh_le v
  refine r_aload_n G dX0_chain_0 rfl (lv_at hl 0 rfl) ?_
  refine xcall_v G K hH rfl (X_work E.l E.D a d (v := v) hI) q131 q133 qs1 q134 rfl ⟨by omega, by omega⟩ hl.1 (rest := []) rfl (Nat.le_of_ble_eq_true rfl) dX0_chain_1 (fun σ1 H locs hH hp => ?_)
  obtain ⟨hR, h8, hD⟩ := hp
  refine r_aload_n G dX0_chain_4 rfl (lv_at hl 0 rfl) ?_
  refine r_iload_n G dX0_chain_5 rfl (lv_at hl 1 rfl) ?_
  refine xcall_i G K hH rfl (X_isBlock E.l E.D a d (v := v) hR) q107 q109 qs0 q110 rfl ⟨by omega, by omega⟩ hl.1 (rest := []) rfl (Nat.le_of_ble_eq_true rfl) dX0_chain_6 (fun r σ2 H locs hH hp => ?_)
  obtain ⟨rfl, es⟩ := hp
  rw [es] at hH
  refine b_if_eq G 29 dX0_chain_9 (by decide) (fun c9 => ?_) (fun c9 => ?_)
  · refine r_iconst G ((-1)) dX0_chain_29 (by decide) ?_
    exact hret _ _ _ _ _ _ dX0_chain_30 rfl hH ⟨(aCh_n c9).symm, ⟨hR, true, h8, fun _ => hD⟩⟩
  · obtain ⟨j, hj, rfl⟩ := inB_t c9
    refine xg_isHot G K hH (lv_at hl 0 rfl) dX0_chain_12 dX0_chain_13 ?_
    refine r_iload_n G dX0_chain_16 rfl (lv_at hl 1 rfl) ?_
    refine xl_isHot G K hH (by omega) dX0_chain_17 ?_
    refine r_toi (y := bI (v.hot j)) (hR.hot (by omega)) ?_
    refine b_if_eq G 29 dX0_chain_18 (by decide) (fun c18 => ?_) (fun c18 => ?_)
    · refine r_iconst G ((-1)) dX0_chain_29 (by decide) ?_
      exact hret _ _ _ _ _ _ dX0_chain_30 rfl hH ⟨(aCh_f (by omega) c18).symm, ⟨hR, true, h8, fun _ => hD⟩⟩
    · refine r_aload_n G dX0_chain_21 rfl (lv_at hl 0 rfl) ?_
      refine r_iload_n G dX0_chain_22 rfl (lv_at hl 1 rfl) ?_
      refine xcall_i G K hH rfl (X_headOf E.l E.D a d (v := v) (s := v.cs) (b := j) hR (cs_ok hv) hD.2.2.1 hj) q151 q153 qs6 q154 rfl ⟨by omega, by omega⟩ hl.1 (rest := []) rfl (Nat.le_of_ble_eq_true rfl) dX0_chain_23 (fun r σ2 H locs hH hp => ?_)
      obtain ⟨rfl, f2, rfl, hU2⟩ := hp
      refine r_goto G 30 dX0_chain_26 (by decide) ?_
      exact hret _ _ _ _ _ _ dX0_chain_30 rfl hH ⟨(aCh_t hj (by omega) c18).symm, hR, true, h8, fun _ => ⟨hD.1, hD.2.1, hU2, hD.2.2.2⟩⟩
end
section
/-! PLAIN LAW 9: what the script's calls change -/
set_option maxRecDepth 100000
def okN (n : Int32) : Bool := decide (1 ≤ n.toInt ∧ n.toInt ≤ 200)
theorem okN_nI {j : Nat} (hj : j < 2147483648) : okN (nI j) = decide (1 ≤ j ∧ j ≤ 200) := by
  unfold okN
  rw [nI_toInt hj]
  by_cases h : 1 ≤ j ∧ j ≤ 200
  · rw [decide_eq_true h]
    exact decide_eq_true ⟨by omega, by omega⟩
  · rw [decide_eq_false h]
    exact decide_eq_false (fun z => h (by omega))
theorem okN_n {n : Int32} (h : n < nI 1) : okN n = false := by
  have h1 := Int32.lt_iff_toInt_lt.mp h
  rw [nI_toInt (by decide)] at h1
  exact decide_eq_false (fun z => by omega)
theorem sz_of {n : Int32} (h : ¬ n < nI 1) : ∃ j : Nat, 1 ≤ j ∧ j < 2147483648 ∧ n = nI j := by
  have h1 : ¬ n < 0 := by
    intro z
    refine h (Int32.lt_iff_toInt_lt.mpr ?_)
    have z1 := Int32.lt_iff_toInt_lt.mp z
    rw [Int32.toInt_zero] at z1
    rw [nI_toInt (by decide)]
    omega
  obtain ⟨j, hj, e⟩ := nI_of h1
  refine ⟨j, ?_, hj, e⟩
  rcases Nat.eq_zero_or_pos j with q | q
  · subst q
    rw [e] at h
    exact absurd (by decide) h
  · exact q
def Vw.mt (n : Nat) : Vw := (n, 0, fun _ => false, fun _ => 0, fun _ => 0, fun _ => 0, fun _ => false)
def Vw.size (v : Vw) (n : Int32) : Vw := if okN n = true then Vw.mt (nN n) else v
theorem mt_ok {n : Nat} (h1 : 1 ≤ n) (h2 : n ≤ 200) : (Vw.mt n).ok := ⟨⟨h1, h2, Nat.zero_le _⟩, fun k hk => absurd hk (Nat.not_lt_zero k), fun j k hj => absurd hj (Nat.not_lt_zero j)⟩
theorem size_t {v : Vw} {j : Nat} (h1 : 1 ≤ j) (h2 : j ≤ 200) : v.size (nI j) = Vw.mt j ∧ okN (nI j) = true := by
  have e : okN (nI j) = true := by
    rw [okN_nI (by omega)]
    exact decide_eq_true ⟨h1, h2⟩
  refine ⟨?_, e⟩
  unfold Vw.size
  rw [if_pos e, nN_nI (by omega)]
theorem size_f {v : Vw} {n : Int32} (h : okN n = false) : v.size n = v := by
  unfold Vw.size
  rw [if_neg (by rw [h]; decide)]
def Vw.setHot (v : Vw) (j : Nat) (h : Bool) : Vw := (v.nb, v.nw, fun x => if x = j then h else v.hot x, v.fr, v.ta, v.ct, v.fa)
def Vw.heat (v : Vw) (b : Int32) (h : Bool) : Vw := if inB v.nb b = true then v.setHot (nN b) h else v
theorem heat_t {v : Vw} {j : Nat} (h : Bool) (hj : j < v.nb) (hb : v.nb ≤ 200) : v.heat (nI j) h = v.setHot j h := by
  unfold Vw.heat
  rw [inB_nI (by omega), decide_eq_true hj, if_pos rfl, nN_nI (by omega)]
theorem heat_f {v : Vw} {b : Int32} (h : Bool) (hb : inB v.nb b = false) : v.heat b h = v := by
  unfold Vw.heat
  rw [if_neg (by rw [hb]; decide)]
/-- the way between two blocks -/
def Vw.ix (v : Vw) (u w : Int32) : Option Nat := (List.range v.nw).find? (fun k => decide (nI (v.fr k) = u ∧ nI (v.ta k) = w))
theorem ix_none {v : Vw} {u w : Int32} (h : ∀ k, k < v.nw → nI (v.fr k) = u → nI (v.ta k) = w → False) : v.ix u w = none := by
  unfold Vw.ix
  rw [List.find?_eq_none]
  intro k hk z
  have z1 := of_decide_eq_true z
  exact h k (List.mem_range.mp hk) z1.1 z1.2
theorem ix_some {v : Vw} {u w : Int32} {k : Nat} (hv : v.ok) (hk : k < v.nw) (h1 : nI (v.fr k) = u) (h2 : nI (v.ta k) = w) : v.ix u w = some k := by
  unfold Vw.ix
  rcases e : (List.range v.nw).find? (fun k => decide (nI (v.fr k) = u ∧ nI (v.ta k) = w)) with _ | j
  · rw [List.find?_eq_none] at e
    exact absurd (decide_eq_true ⟨h1, h2⟩) (e k (List.mem_range.mpr hk))
  · have z0 := List.find?_some e
    have z1 : nI (v.fr j) = u ∧ nI (v.ta j) = w := of_decide_eq_true z0
    have z2 := List.mem_range.mp (List.mem_of_find?_eq_some e)
    obtain ⟨a1, a2, -⟩ := hv.2.1 j z2
    obtain ⟨b1, b2, -⟩ := hv.2.1 k hk
    have hb := hv.1
    have e1 := (nI_eq (by omega) (by omega)).mp (z1.1.trans h1.symm)
    have e2 := (nI_eq (by omega) (by omega)).mp (z1.2.trans h2.symm)
    rw [hv.2.2 j k z2 hk e1 e2]
def aCnt (v : Vw) (u w : Int32) : Int64 := match v.ix u w with
  | some k => v.ct k
  | none => 0
theorem aCnt_t {v : Vw} {u w : Int32} {k : Nat} (h : v.ix u w = some k) : aCnt v u w = v.ct k := by
  unfold aCnt
  rw [h]
theorem aCnt_f {v : Vw} {u w : Int32} (h : v.ix u w = none) : aCnt v u w = 0 := by
  unfold aCnt
  rw [h]
theorem ix_out1 {v : Vw} (hv : v.ok) {u w : Int32} (h : inB v.nb u = false) : v.ix u w = none := by
  refine ix_none (fun k hk e1 e2 => ?_)
  have h1 := (hv.2.1 k hk).1
  have hb := hv.1
  rw [← e1, inB_nI (by omega), decide_eq_true h1] at h
  cases h
theorem ix_out2 {v : Vw} (hv : v.ok) {u w : Int32} (h : inB v.nb w = false) : v.ix u w = none := by
  refine ix_none (fun k hk e1 e2 => ?_)
  have h1 := (hv.2.1 k hk).2.1
  have hb := hv.1
  rw [← e2, inB_nI (by omega), decide_eq_true h1] at h
  cases h
def addc (c z : Int64) : Int64 := if c + z < 1000000000000000 then c + z else 1000000000000000
theorem addc_alt (c z : Int64) : (if 1000000000000000 < c + z then 1000000000000000 else c + z) = addc c z := by
  unfold addc
  generalize c + z = x
  by_cases h1 : (1000000000000000 : Int64) < x
  · rw [if_pos h1, if_neg (fun h2 => absurd (Int64.lt_iff_toInt_lt.mp h1) (by have := Int64.lt_iff_toInt_lt.mp h2; omega))]
  · rw [if_neg h1]
    by_cases h2 : x < (1000000000000000 : Int64)
    · rw [if_pos h2]
    · rw [if_neg h2]
      refine Int64.toInt_inj.mp ?_
      have z1 : ¬ (1000000000000000 : Int64).toInt < x.toInt := fun q => h1 (Int64.lt_iff_toInt_lt.mpr q)
      have z2 : ¬ x.toInt < (1000000000000000 : Int64).toInt := fun q => h2 (Int64.lt_iff_toInt_lt.mpr q)
      omega
theorem addc_bd {c z : Int64} (h1 : 0 ≤ c.toInt) (h2 : c.toInt ≤ 1000000000000000) (h3 : 0 ≤ z.toInt) (h4 : z.toInt ≤ 1000000000) : 0 ≤ (addc c z).toInt ∧ (addc c z).toInt ≤ 1000000000000000 := by
  unfold addc
  have e := add_bd h1 h2 h3 h4 (by omega)
  by_cases h : c + z < 1000000000000000
  · rw [if_pos h]
    have h5 := Int64.lt_iff_toInt_lt.mp h
    have h6 : (1000000000000000 : Int64).toInt = 1000000000000000 := by decide
    omega
  · rw [if_neg h]
    decide
theorem cnt_bd {j : Nat} (h : j ≤ 1000000000) : 0 ≤ (nI j).toInt64.toInt ∧ (nI j).toInt64.toInt ≤ 1000000000 := by
  rw [Int32.toInt_toInt64, nI_toInt (by omega)]
  omega
def Vw.addAt (v : Vw) (k : Nat) (z : Int64) (f : Bool) : Vw := (v.nb, v.nw, v.hot, v.fr, v.ta, fun i => if i = k then addc (v.ct k) z else v.ct i, fun i => if i = k then f else v.fa i)
def Vw.push (v : Vw) (u w : Nat) : Vw := (v.nb, v.nw + 1, v.hot, fun i => if i = v.nw then u else v.fr i, fun i => if i = v.nw then w else v.ta i, fun i => if i = v.nw then 0 else v.ct i, v.fa)
def Vw.way (v : Vw) (u w c : Int32) (f : Bool) : Vw × Int64 :=
  if inB v.nb u = true ∧ inB v.nb w = true then
    if 0 ≤ c.toInt ∧ c.toInt ≤ 1000000000 then
      match v.ix u w with
      | some k => (v.addAt k c.toInt64 f, addc (v.ct k) c.toInt64)
      | none => if v.nw = 1000 then (v, -3) else ((v.push (nN u) (nN w)).addAt v.nw c.toInt64 f, addc 0 c.toInt64)
    else (v, -2)
  else (v, -1)
theorem way_b1 {v : Vw} {u w c : Int32} {f : Bool} (h : inB v.nb u = false) : v.way u w c f = (v, -1) := by
  unfold Vw.way
  rw [if_neg]
  exact fun z => by rw [h] at z; exact absurd z.1 (by decide)
theorem way_b2 {v : Vw} {u w c : Int32} {f : Bool} (h : inB v.nb w = false) : v.way u w c f = (v, -1) := by
  unfold Vw.way
  rw [if_neg]
  exact fun z => by rw [h] at z; exact absurd z.2 (by decide)
theorem way_c1 {v : Vw} {u w c : Int32} {f : Bool} (h1 : inB v.nb u = true) (h2 : inB v.nb w = true) (h : c < 0) : v.way u w c f = (v, -2) := by
  unfold Vw.way
  rw [if_pos ⟨h1, h2⟩, if_neg]
  have h3 := Int32.lt_iff_toInt_lt.mp h
  rw [Int32.toInt_zero] at h3
  omega
theorem way_c2 {v : Vw} {u w : Int32} {j : Nat} {f : Bool} (h1 : inB v.nb u = true) (h2 : inB v.nb w = true) (hj : j < 2147483648) (h : 1000000000 < j) : v.way u w (nI j) f = (v, -2) := by
  unfold Vw.way
  rw [if_pos ⟨h1, h2⟩, if_neg]
  rw [nI_toInt hj]
  omega
theorem way_in {v : Vw} {u w : Int32} {j : Nat} {f : Bool} (h1 : inB v.nb u = true) (h2 : inB v.nb w = true) (h : j ≤ 1000000000) : v.way u w (nI j) f = match v.ix u w with
      | some k => (v.addAt k (nI j).toInt64 f, addc (v.ct k) (nI j).toInt64)
      | none => if v.nw = 1000 then (v, -3) else ((v.push (nN u) (nN w)).addAt v.nw (nI j).toInt64 f, addc 0 (nI j).toInt64) := by
  unfold Vw.way
  rw [if_pos ⟨h1, h2⟩, if_pos]
  rw [nI_toInt (by omega)]
  omega
theorem way_old {v : Vw} {u w : Int32} {j k : Nat} {f : Bool} (h1 : inB v.nb u = true) (h2 : inB v.nb w = true) (h : j ≤ 1000000000) (hx : v.ix u w = some k) : v.way u w (nI j) f = (v.addAt k (nI j).toInt64 f, addc (v.ct k) (nI j).toInt64) := by
  rw [way_in h1 h2 h, hx]
theorem way_full {v : Vw} {u w : Int32} {j : Nat} {f : Bool} (h1 : inB v.nb u = true) (h2 : inB v.nb w = true) (h : j ≤ 1000000000) (hx : v.ix u w = none) (hn : v.nw = 1000) : v.way u w (nI j) f = (v, -3) := by
  rw [way_in h1 h2 h, hx]
  exact if_pos hn
theorem way_new {v : Vw} {i1 i2 j : Nat} {f : Bool} (h1 : i1 < v.nb) (h2 : i2 < v.nb) (hb : v.nb ≤ 200) (h : j ≤ 1000000000) (hx : v.ix (nI i1) (nI i2) = none) (hn : v.nw ≠ 1000) : v.way (nI i1) (nI i2) (nI j) f = ((v.push i1 i2).addAt v.nw (nI j).toInt64 f, addc 0 (nI j).toInt64) := by
  rw [way_in (by rw [inB_nI (by omega)]; exact decide_eq_true h1) (by rw [inB_nI (by omega)]; exact decide_eq_true h2) h, hx, nN_nI (by omega), nN_nI (by omega)]
  exact if_neg hn
theorem addAt_ok {v : Vw} {k : Nat} {z : Int64} {f : Bool} (hv : v.ok) (hk : k < v.nw) (h1 : 0 ≤ z.toInt ∧ z.toInt ≤ 1000000000) : (v.addAt k z f).ok := by
  obtain ⟨a, b, c⟩ := hv
  refine ⟨a, fun i hi => ?_, c⟩
  obtain ⟨b1, b2, b3, b4⟩ := b i hi
  refine ⟨b1, b2, ?_⟩
  show 0 ≤ (if i = k then addc (v.ct k) z else v.ct i).toInt ∧ (if i = k then addc (v.ct k) z else v.ct i).toInt ≤ 1000000000000000
  by_cases e : i = k
  · rw [if_pos e]
    obtain ⟨-, -, d3, d4⟩ := b k hk
    exact addc_bd d3 d4 h1.1 h1.2
  · rw [if_neg e]
    exact ⟨b3, b4⟩
theorem push_fr (v : Vw) (u w i : Nat) : (v.push u w).fr i = if i = v.nw then u else v.fr i := rfl
theorem push_ta (v : Vw) (u w i : Nat) : (v.push u w).ta i = if i = v.nw then w else v.ta i := rfl
theorem push_ct (v : Vw) (u w i : Nat) : (v.push u w).ct i = if i = v.nw then 0 else v.ct i := rfl
theorem push_ok {v : Vw} {u w : Nat} (hv : v.ok) (hu : u < v.nb) (hw : w < v.nb) (hn : v.nw ≠ 1000) (hx : ∀ k, k < v.nw → v.fr k = u → v.ta k = w → False) : (v.push u w).ok := by
  obtain ⟨a, b, c⟩ := hv
  refine ⟨⟨a.1, a.2.1, ?_⟩, fun i hi => ?_, fun i j hi hj => ?_⟩
  · show v.nw + 1 ≤ 1000
    omega
  · have hi' : i < v.nw + 1 := hi
    rw [push_fr, push_ta, push_ct]
    by_cases e : i = v.nw
    · rw [if_pos e, if_pos e, if_pos e]
      exact ⟨hu, hw, by decide, by decide⟩
    · rw [if_neg e, if_neg e, if_neg e]
      exact b i (by omega)
  · have hi' : i < v.nw + 1 := hi
    have hj' : j < v.nw + 1 := hj
    rw [push_fr, push_ta, push_fr, push_ta]
    by_cases e : i = v.nw
    · by_cases e2 : j = v.nw
      · exact fun _ _ => by omega
      · rw [if_pos e, if_pos e, if_neg e2, if_neg e2]
        exact fun z1 z2 => absurd trivial (fun _ => hx j (by omega) z1.symm z2.symm)
    · by_cases e2 : j = v.nw
      · rw [if_neg e, if_neg e, if_pos e2, if_pos e2]
        exact fun z1 z2 => absurd trivial (fun _ => hx i (by omega) z1 z2)
      · rw [if_neg e, if_neg e, if_neg e2, if_neg e2]
        exact c i j (by omega) (by omega)
theorem WyOk.push {v : Vw} {f : Nat → Int32} {u w : Nat} (h : WyOk v f) (hb : v.nb ≤ 200) (hu : u < v.nb) (hw : w < v.nb) : WyOk (v.push u w) (upd f (u * 200 + w) (nI (v.nw + 1))) := by
  intro x y hx hy
  have hx' : x < v.nb := hx
  have hy' : y < v.nb := hy
  by_cases e : x = u ∧ y = w
  · obtain ⟨e1, e2⟩ := e
    subst e1
    subst e2
    refine Or.inl ⟨v.nw, Nat.lt_succ_self _, ?_, ?_, upd_me _ _ _⟩
    · rw [push_fr, if_pos rfl]
    · rw [push_ta, if_pos rfl]
  · have ne : x * 200 + y ≠ u * 200 + w := fun z => e (by omega)
    rw [upd_ne ne]
    rcases h x y hx' hy' with ⟨k, k1, k2, k3, k4⟩ | ⟨k1, k2⟩
    · refine Or.inl ⟨k, Nat.lt_succ_of_lt k1, ?_, ?_, k4⟩
      · rw [push_fr, if_neg (by omega)]
        exact k2
      · rw [push_ta, if_neg (by omega)]
        exact k3
    · refine Or.inr ⟨fun k hk => ?_, k2⟩
      have hk' : k < v.nw + 1 := hk
      rw [push_fr, push_ta]
      by_cases z : k = v.nw
      · rw [if_pos z, if_pos z]
        exact fun z1 z2 => e ⟨z1.symm, z2.symm⟩
      · rw [if_neg z, if_neg z]
        exact k1 k (by omega)
theorem s16 {n : Nat} (h : n < 32768) : (nI n).toInt16.toInt32 = nI n := by
  refine Int32.toInt_inj.mp ?_
  rw [Int16.toInt_toInt32, Int32.toInt_toInt16, nI_toInt (by omega)]
  exact Int.bmod_eq_of_le (by omega) (by omega)
/-- as XR, but for whether the way k falls -/
def XRx (k : Nat) (σ : St) (v : Vw) : Prop := v.ok ∧ σ.1 0 = nI v.nb ∧ σ.1 7 = nI v.nw ∧ (∀ b, b < v.nb → σ.2.1 1 b = bI (v.hot b)) ∧ (∀ k, k < v.nw → σ.2.1 2 k = nI (v.fr k)) ∧ (∀ k, k < v.nw → σ.2.1 3 k = nI (v.ta k)) ∧ (∀ k, k < v.nw → σ.2.2 4 k = v.ct k) ∧ (∀ i, i < v.nw → i ≠ k → σ.2.1 5 i = bI (v.fa i)) ∧ WyOk v (σ.2.1 6)
theorem XR.x {σ : St} {v : Vw} (h : XR σ v) (k : Nat) : XRx k σ v := by
  obtain ⟨h1, h2, h3, h4, h5, h6, h7, h8, h9⟩ := h
  exact ⟨h1, h2, h3, h4, h5, h6, h7, fun i hi _ => h8 i hi, h9⟩
theorem XRx.add {σ : St} {v : Vw} {k : Nat} {z : Int64} {f : Bool} (h : XRx k σ v) (hk : k < v.nw) (hz : 0 ≤ z.toInt ∧ z.toInt ≤ 1000000000) : XR (sI (sL σ 4 (vp_updL (σ.2.2 4) k (addc (v.ct k) z))) 5 (upd (σ.2.1 5) k (bI f))) (v.addAt k z f) := by
  obtain ⟨h1, h2, h3, h4, h5, h6, h7, h8, h9⟩ := h
  have g7 : ∀ i, i < v.nw → vp_updL (σ.2.2 4) k (addc (v.ct k) z) i = (v.addAt k z f).ct i := by
    intro i hi
    show _ = if i = k then addc (v.ct k) z else v.ct i
    by_cases e : i = k
    · rw [if_pos e, e, updL_me]
    · rw [if_neg e, updL_ne e]
      exact h7 i hi
  have g8 : ∀ i, i < v.nw → upd (σ.2.1 5) k (bI f) i = bI ((v.addAt k z f).fa i) := by
    intro i hi
    show _ = bI (if i = k then f else v.fa i)
    by_cases e : i = k
    · rw [if_pos e, e, upd_me]
    · rw [if_neg e, upd_ne e]
      exact h8 i hi e
  exact ⟨addAt_ok h1 hk hz, h2, h3, h4, h5, h6, g7, g8, h9⟩
theorem XR.push {σ : St} {v : Vw} {u w : Nat} (h : XR σ v) (hu : u < v.nb) (hw : w < v.nb) (hn : v.nw ≠ 1000) (hx : ∀ k, k < v.nw → v.fr k = u → v.ta k = w → False) : XRx v.nw (sL (sI (sI (sI (sF σ 7 (nI (v.nw + 1))) 6 (upd (σ.2.1 6) (u * 200 + w) (nI (v.nw + 1)))) 2 (upd (σ.2.1 2) v.nw (nI u))) 3 (upd (σ.2.1 3) v.nw (nI w))) 4 (vp_updL (σ.2.2 4) v.nw 0)) (v.push u w) := by
  obtain ⟨h1, h2, h3, h4, h5, h6, h7, h8, h9⟩ := h
  have g5 : ∀ i, i < v.nw + 1 → upd (σ.2.1 2) v.nw (nI u) i = nI ((v.push u w).fr i) := by
    intro i hi
    rw [push_fr]
    by_cases e : i = v.nw
    · rw [if_pos e, e, upd_me]
    · rw [if_neg e, upd_ne e]
      exact h5 i (by omega)
  have g6 : ∀ i, i < v.nw + 1 → upd (σ.2.1 3) v.nw (nI w) i = nI ((v.push u w).ta i) := by
    intro i hi
    rw [push_ta]
    by_cases e : i = v.nw
    · rw [if_pos e, e, upd_me]
    · rw [if_neg e, upd_ne e]
      exact h6 i (by omega)
  have g7 : ∀ i, i < v.nw + 1 → vp_updL (σ.2.2 4) v.nw 0 i = (v.push u w).ct i := by
    intro i hi
    rw [push_ct]
    by_cases e : i = v.nw
    · rw [if_pos e, e, updL_me]
    · rw [if_neg e, updL_ne e]
      exact h7 i (by omega)
  have g8 : ∀ i, i < v.nw + 1 → i ≠ v.nw → σ.2.1 5 i = bI ((v.push u w).fa i) := fun i hi hne => h8 i (by omega)
  exact ⟨push_ok h1 hu hw hn hx, h2, rfl, h4, g5, g6, g7, g8, h9.push h1.1.2.1 hu hw⟩
theorem XR.setHot {σ : St} {v : Vw} {j : Nat} {f : Bool} (h : XR σ v) : XR (sI σ 1 (upd (σ.2.1 1) j (bI f))) (v.setHot j f) := by
  obtain ⟨h1, h2, h3, h4, h5, h6, h7, h8, h9⟩ := h
  have g4 : ∀ i, i < v.nb → upd (σ.2.1 1) j (bI f) i = bI ((v.setHot j f).hot i) := by
    intro i hi
    show _ = bI (if i = j then f else v.hot i)
    by_cases e : i = j
    · rw [if_pos e, e, upd_me]
    · rw [if_neg e, upd_ne e]
      exact h4 i hi
  exact ⟨h1, h2, h3, g4, h5, h6, h7, h8, h9⟩
/-- as MR, but for whether the way k falls -/
def MRx (k : Nat) (σ : St) (v : Vw) : Prop := v.ok ∧ σ.1 0 = nI v.nb ∧ σ.1 2 = nI v.nw ∧ (∀ b, b < v.nb → σ.2.1 1 b = bI (v.hot b)) ∧ (∀ k, k < v.nw → σ.2.1 3 k = nI (v.fr k)) ∧ (∀ k, k < v.nw → σ.2.1 4 k = nI (v.ta k)) ∧ (∀ k, k < v.nw → σ.2.2 5 k = v.ct k) ∧ (∀ i, i < v.nw → i ≠ k → σ.2.1 6 i = bI (v.fa i))
theorem MR.x {σ : St} {v : Vw} (h : MR σ v) (k : Nat) : MRx k σ v := by
  obtain ⟨h1, h2, h3, h4, h5, h6, h7, h8⟩ := h
  exact ⟨h1, h2, h3, h4, h5, h6, h7, fun i hi _ => h8 i hi⟩
theorem MRx.add {σ : St} {v : Vw} {k : Nat} {z : Int64} {f : Bool} (h : MRx k σ v) (hk : k < v.nw) (hz : 0 ≤ z.toInt ∧ z.toInt ≤ 1000000000) : MR (sI (sL σ 5 (vp_updL (σ.2.2 5) k (addc (v.ct k) z))) 6 (upd (σ.2.1 6) k (bI f))) (v.addAt k z f) := by
  obtain ⟨h1, h2, h3, h4, h5, h6, h7, h8⟩ := h
  have g7 : ∀ i, i < v.nw → vp_updL (σ.2.2 5) k (addc (v.ct k) z) i = (v.addAt k z f).ct i := by
    intro i hi
    show _ = if i = k then addc (v.ct k) z else v.ct i
    by_cases e : i = k
    · rw [if_pos e, e, updL_me]
    · rw [if_neg e, updL_ne e]
      exact h7 i hi
  have g8 : ∀ i, i < v.nw → upd (σ.2.1 6) k (bI f) i = bI ((v.addAt k z f).fa i) := by
    intro i hi
    show _ = bI (if i = k then f else v.fa i)
    by_cases e : i = k
    · rw [if_pos e, e, upd_me]
    · rw [if_neg e, upd_ne e]
      exact h8 i hi e
  exact ⟨addAt_ok h1 hk hz, h2, h3, h4, h5, h6, g7, g8⟩
theorem MR.push {σ : St} {v : Vw} {u w : Nat} (h : MR σ v) (hu : u < v.nb) (hw : w < v.nb) (hn : v.nw ≠ 1000) (hx : ∀ k, k < v.nw → v.fr k = u → v.ta k = w → False) : MRx v.nw (sL (sI (sI (sF σ 2 (nI (v.nw + 1))) 3 (upd (σ.2.1 3) v.nw (nI u))) 4 (upd (σ.2.1 4) v.nw (nI w))) 5 (vp_updL (σ.2.2 5) v.nw 0)) (v.push u w) := by
  obtain ⟨h1, h2, h3, h4, h5, h6, h7, h8⟩ := h
  have g5 : ∀ i, i < v.nw + 1 → upd (σ.2.1 3) v.nw (nI u) i = nI ((v.push u w).fr i) := by
    intro i hi
    rw [push_fr]
    by_cases e : i = v.nw
    · rw [if_pos e, e, upd_me]
    · rw [if_neg e, upd_ne e]
      exact h5 i (by omega)
  have g6 : ∀ i, i < v.nw + 1 → upd (σ.2.1 4) v.nw (nI w) i = nI ((v.push u w).ta i) := by
    intro i hi
    rw [push_ta]
    by_cases e : i = v.nw
    · rw [if_pos e, e, upd_me]
    · rw [if_neg e, upd_ne e]
      exact h6 i (by omega)
  have g7 : ∀ i, i < v.nw + 1 → vp_updL (σ.2.2 5) v.nw 0 i = (v.push u w).ct i := by
    intro i hi
    rw [push_ct]
    by_cases e : i = v.nw
    · rw [if_pos e, e, updL_me]
    · rw [if_neg e, updL_ne e]
      exact h7 i (by omega)
  have g8 : ∀ i, i < v.nw + 1 → i ≠ v.nw → σ.2.1 6 i = bI ((v.push u w).fa i) := fun i hi hne => h8 i (by omega)
  exact ⟨push_ok h1 hu hw hn hx, h2, rfl, h4, g5, g6, g7, g8⟩
theorem MR.setHot {σ : St} {v : Vw} {j : Nat} {f : Bool} (h : MR σ v) : MR (sI σ 1 (upd (σ.2.1 1) j (bI f))) (v.setHot j f) := by
  obtain ⟨h1, h2, h3, h4, h5, h6, h7, h8⟩ := h
  have g4 : ∀ i, i < v.nb → upd (σ.2.1 1) j (bI f) i = bI ((v.setHot j f).hot i) := by
    intro i hi
    show _ = bI (if i = j then f else v.hot i)
    by_cases e : i = j
    · rw [if_pos e, e, upd_me]
    · rw [if_neg e, upd_ne e]
      exact h4 i hi
  exact ⟨h1, h2, h3, g4, h5, h6, h7, h8⟩
theorem XR.mt {σ : St} {n : Nat} (h1 : 1 ≤ n) (h2 : n ≤ 200) (e1 : σ.1 0 = nI n) (e2 : σ.1 7 = nI 0) (e3 : ∀ i, i < n → σ.2.1 1 i = bI false) (e4 : ∀ i, i < 40000 → σ.2.1 6 i = nI 0) : XR σ (Vw.mt n) :=
  ⟨mt_ok h1 h2, e1, e2, e3, fun k hk => absurd hk (Nat.not_lt_zero k), fun k hk => absurd hk (Nat.not_lt_zero k), fun k hk => absurd hk (Nat.not_lt_zero k), fun k hk => absurd hk (Nat.not_lt_zero k), fun u w hu hw => Or.inr ⟨fun k hk => absurd hk (Nat.not_lt_zero k), e4 _ (by have hu' : u < n := hu; have hw' : w < n := hw; omega)⟩⟩
theorem MR.mt {σ : St} {n : Nat} (h1 : 1 ≤ n) (h2 : n ≤ 200) (e1 : σ.1 0 = nI n) (e2 : σ.1 2 = nI 0) (e3 : ∀ i, i < 200 → σ.2.1 1 i = bI false) : MR σ (Vw.mt n) :=
  ⟨mt_ok h1 h2, e1, e2, fun i hi => e3 i (by have hi' : i < n := hi; omega), fun k hk => absurd hk (Nat.not_lt_zero k), fun k hk => absurd hk (Nat.not_lt_zero k), fun k hk => absurd hk (Nat.not_lt_zero k), fun k hk => absurd hk (Nat.not_lt_zero k)⟩
end
section
set_option maxRecDepth 100000
set_option maxHeartbeats 4000000 in
theorem X_size_L1 {E : Ev} {a : Nat → Nat} {d : Nat → ClassId} {n : Nat} (G : CX E RX0 cX0_size 3) (K : KX E (xt d)) (hn : n ≤ 200) (kk : ∀ (σ : St) (H : Heap) (locs : List Loc) (ls : Array Slot), XH E a d σ H locs → σ.1 0 = nI n → σ.1 7 = nI 0 → (∀ i, i < n → σ.2.1 1 i = bI false) → lv_has ls 3 [(0, .ref (a 0))] → WE E H locs 44 ls []) :
    ∀ (M : Nat) (σ : St) (b : Nat) (H : Heap) (locs : List Loc) (ls : Array Slot), XH E a d σ H locs → σ.1 0 = nI n → σ.1 7 = nI 0 → (∀ i, i < b → σ.2.1 1 i = bI false) → b ≤ n → n - b < M → lv_has ls 3 [(0, .ref (a 0)), (1, .int (nI n)), (2, .int (nI b))] → WE E H locs 26 ls [] := by
  intro M
  induction M with
  | zero => exact fun σ b H locs ls _ _ _ _ _ q => absurd q (Nat.not_lt_zero _)
  | succ M ih =>
    intro σ b H locs ls hH e1 e2 h1 hb hM hl
    refine r_iload_n G dX0_size_26 rfl (lv_at hl 2 rfl) ?_
    refine r_iload_n G dX0_size_27 rfl (lv_at hl 1 rfl) ?_
    refine n_icmp_ge G (by omega) (by omega) 44 dX0_size_28 (by decide) (fun c28 => ?_) (fun c28 => ?_)
    · have e : b = n := by omega
      subst e
      exact kk σ H locs ls hH e1 e2 h1 (lv_sub hl [0] rfl)
    · refine xg_isHot G K hH (lv_at hl 0 rfl) dX0_size_31 dX0_size_32 ?_
      refine r_iload_n G dX0_size_35 rfl (lv_at hl 2 rfl) ?_
      refine r_iconst G (nI 0) dX0_size_36 (by decide) ?_
      refine xs_isHot G K hH (by omega) (by decide) dX0_size_37 (fun H locs hH => ?_)
      refine r_iinc G (k := 2) (nI (b + 1)) [(2, .int (nI (b + 1))), (0, .ref (a 0)), (1, .int (nI n))] dX0_size_38 hl rfl (inc1 _) (by decide) rfl (fun ls hl => ?_)
      refine r_goto G 26 dX0_size_41 (by decide) ?_
      have g1 : ∀ i, i < b + 1 → upd (σ.2.1 1) b (nI 0) i = bI false := upd_run (g := fun _ => bI false) h1 rfl
      exact ih _ _ H locs ls hH e1 e2 g1 (by omega) (by omega) (lv_sub hl [1, 2, 0] rfl)
set_option maxHeartbeats 4000000 in
theorem X_size_L2 {E : Ev} {a : Nat → Nat} {d : Nat → ClassId} {n : Nat} (G : CX E RX0 cX0_size 3) (K : KX E (xt d)) (kk : ∀ (σ : St) (H : Heap) (locs : List Loc) (ls : Array Slot), XH E a d σ H locs → σ.1 0 = nI n → σ.1 7 = nI 0 → (∀ i, i < n → σ.2.1 1 i = bI false) → (∀ i, i < 40000 → σ.2.1 6 i = nI 0) → lv_has ls 3 [(0, .ref (a 0))] → WE E H locs 68 ls []) :
    ∀ (M : Nat) (σ : St) (k : Nat) (H : Heap) (locs : List Loc) (ls : Array Slot), XH E a d σ H locs → σ.1 0 = nI n → σ.1 7 = nI 0 → (∀ i, i < n → σ.2.1 1 i = bI false) → (∀ i, i < k → σ.2.1 6 i = nI 0) → k ≤ 40000 → 40000 - k < M → lv_has ls 3 [(0, .ref (a 0)), (2, .int (nI k))] → WE E H locs 46 ls [] := by
  intro M
  induction M with
  | zero => exact fun σ b H locs ls _ _ _ _ _ _ q => absurd q (Nat.not_lt_zero _)
  | succ M ih =>
    intro σ k H locs ls hH e1 e2 h1 h6 hk hM hl
    refine r_iload_n G dX0_size_46 rfl (lv_at hl 1 rfl) ?_
    refine xg_wayOf G K hH (lv_at hl 0 rfl) dX0_size_47 dX0_size_48 ?_
    refine xlen_wayOf G K hH dX0_size_51 ?_
    refine n_icmp_ge G (by omega) (by omega) 68 dX0_size_52 (by decide) (fun c52 => ?_) (fun c52 => ?_)
    · have e : k = 40000 := by omega
      subst e
      exact kk σ H locs ls hH e1 e2 h1 h6 (lv_sub hl [0] rfl)
    · refine xg_wayOf G K hH (lv_at hl 0 rfl) dX0_size_55 dX0_size_56 ?_
      refine r_iload_n G dX0_size_59 rfl (lv_at hl 1 rfl) ?_
      refine r_iconst G (nI 0) dX0_size_60 (by decide) ?_
      refine xs_wayOf G K hH (by omega) (by decide) dX0_size_61 (fun H locs hH => ?_)
      refine r_iinc G (k := 1) (nI (k + 1)) [(2, .int (nI (k + 1))), (0, .ref (a 0))] dX0_size_62 hl rfl (inc1 _) (by decide) rfl (fun ls hl => ?_)
      refine r_goto G 46 dX0_size_65 (by decide) ?_
      have g6 : ∀ i, i < k + 1 → upd (σ.2.1 6) k (nI 0) i = nI 0 := upd_run (g := fun _ => nI 0) h6 rfl
      exact ih _ _ H locs ls hH e1 e2 h1 g6 (by omega) (by omega) (lv_sub hl [1, 0] rfl)
set_option maxHeartbeats 4000000 in
theorem X_size (l : Launch) (D : va_G) (a : Nat → Nat) (d : Nat → ClassId) {σ : St} {v : Vw} {n : Int32} (hI : XI σ v) : CMi l yX0_size cX0_size 3 .boolean 0 0 D (xt d) (xw a d) [.ref (a 0), .int n] σ (fun r σ' => r = bI (okN n) ∧ XI σ' (v.size n)) := by
  refine CMi.of (by decide) (Nat.le_of_ble_eq_true rfl) ?_
  intro E ls G hfr hlo K hH hl hret
  have hl : lv_has ls 3 [(0, .ref (a 0)), (1, .int n)] := hl
  have G : CX E RX0 cX0_size 3 := G
  refine r_iload_n G dX0_size_0 rfl (lv_at hl 1 rfl) ?_
  refine r_iconst G (nI 1) dX0_size_1 (by decide) ?_
  refine r_icmp_lt G 12 dX0_size_2 (by decide) (fun c2 => ?_) (fun c2 => ?_)
  · refine r_iconst G (nI 0) dX0_size_12 (by decide) ?_
    have e := okN_n c2
    exact hret _ _ _ _ _ _ dX0_size_13 rfl hH ⟨by rw [e]; rfl, by rw [size_f e]; exact hI⟩
  · obtain ⟨j, h1, hj, rfl⟩ := sz_of c2
    refine r_iload_n G dX0_size_5 rfl (lv_at hl 1 rfl) ?_
    refine r_sipush G (nI 200) dX0_size_6 (by decide) ?_
    refine n_icmp_le G (by omega) (by omega) 14 dX0_size_9 (by decide) (fun c9 => ?_) (fun c9 => ?_)
    · refine r_aload_n G dX0_size_14 rfl (lv_at hl 0 rfl) ?_
      refine r_iload_n G dX0_size_15 rfl (lv_at hl 1 rfl) ?_
      refine xp_blocks G K hH dX0_size_16 (fun H locs hH => ?_)
      refine r_aload_n G dX0_size_19 rfl (lv_at hl 0 rfl) ?_
      refine r_iconst G (nI 0) dX0_size_20 (by decide) ?_
      refine xp_ways G K hH dX0_size_21 (fun H locs hH => ?_)
      refine r_iconst G (nI 0) dX0_size_24 (by decide) ?_
      refine r_istore_n G [(2, .int (nI 0)), (0, .ref (a 0)), (1, .int (nI j))] dX0_size_25 rfl hl (by decide) rfl (fun ls hl => ?_)
      refine X_size_L1 G K (n := j) c9 (fun σ H locs ls hH e1 e2 g1 hl => ?_) (j + 1) _ 0 _ _ ls hH rfl rfl (fun i hi => absurd hi (Nat.not_lt_zero i)) (Nat.zero_le _) (by omega) (lv_sub hl [1, 2, 0] rfl)
      refine r_iconst G (nI 0) dX0_size_44 (by decide) ?_
      refine r_istore_n G [(2, .int (nI 0)), (0, .ref (a 0))] dX0_size_45 rfl hl (by decide) rfl (fun ls hl => ?_)
      refine X_size_L2 G K (n := j) (fun σ H locs ls hH e1 e2 g1 g6 hl => ?_) 40001 _ 0 H locs ls hH e1 e2 g1 (fun i hi => absurd hi (Nat.not_lt_zero i)) (Nat.zero_le _) (by omega) (lv_sub hl [1, 0] rfl)
      refine r_aload_n G dX0_size_68 rfl (lv_at hl 0 rfl) ?_
      refine r_iconst G (nI 0) dX0_size_69 (by decide) ?_
      refine xp_isDone G K hH rfl rfl dX0_size_70 (fun H locs hH => ?_)
      refine r_iconst G (nI 1) dX0_size_73 (by decide) ?_
      obtain ⟨z1, z2⟩ := size_t (v := v) h1 c9
      exact hret _ _ _ _ _ _ dX0_size_74 rfl hH ⟨by rw [z2]; rfl, by rw [z1]; exact ⟨XR.mt h1 c9 e1 e2 g1 g6, false, rfl, (fun z => by cases z)⟩⟩
    · refine r_iconst G (nI 0) dX0_size_12 (by decide) ?_
      have e : okN (nI j) = false := by
        rw [okN_nI hj]
        exact decide_eq_false (by omega)
      exact hret _ _ _ _ _ _ dX0_size_13 rfl hH ⟨by rw [e]; rfl, by rw [size_f e]; exact hI⟩
set_option maxHeartbeats 4000000 in
theorem X_heat (l : Launch) (D : va_G) (a : Nat → Nat) (d : Nat → ClassId) {σ : St} {v : Vw} {b : Int32} {h : Bool} (hI : XI σ v) : CMi l yX0_heat cX0_heat 3 .boolean 1 21 D (xt d) (xw a d) [.ref (a 0), .int b, .int (bI h)] σ (fun r σ' => r = bI (inB v.nb b) ∧ XI σ' (v.heat b h)) := by
  refine CMi.of (by decide) (Nat.le_of_ble_eq_true rfl) ?_
  intro E ls G hfr hlo K hH hl hret
  have hl : lv_has ls 3 [(0, .ref (a 0)), (1, .int b), (2, .int (bI h))] := hl
  have G : CX E RX0 cX0_heat 3 := G
  have hR := hI.1
  have hv := hR.ok
  have hbd := hv.bd
  refine r_aload_n G dX0_heat_0 rfl (lv_at hl 0 rfl) ?_
  refine r_iload_n G dX0_heat_1 rfl (lv_at hl 1 rfl) ?_
  refine xcall_i G K hH rfl (X_isBlock E.l E.D a d (v := v) hR) q107 q109 qs0 q110 rfl ⟨by omega, by omega⟩ hl.1 (rest := []) rfl (Nat.le_of_ble_eq_true rfl) dX0_heat_2 (fun r σ2 H locs hH hp => ?_)
  obtain ⟨rfl, es⟩ := hp
  rw [es] at hH
  refine b_if_ne G 10 dX0_heat_5 (by decide) (fun c5 => ?_) (fun c5 => ?_)
  · obtain ⟨j, hj, rfl⟩ := inB_t c5
    refine xg_isHot G K hH (lv_at hl 0 rfl) dX0_heat_10 dX0_heat_11 ?_
    refine r_iload_n G dX0_heat_14 rfl (lv_at hl 1 rfl) ?_
    refine r_iload_n G dX0_heat_15 rfl (lv_at hl 2 rfl) ?_
    refine xs_isHot G K hH (by omega) (bI_vp _) dX0_heat_16 (fun H locs hH => ?_)
    refine r_aload_n G dX0_heat_17 rfl (lv_at hl 0 rfl) ?_
    refine r_iconst G (nI 0) dX0_heat_18 (by decide) ?_
    refine xp_isDone G K hH rfl rfl dX0_heat_19 (fun H locs hH => ?_)
    refine r_iconst G (nI 1) dX0_heat_22 (by decide) ?_
    exact hret _ _ _ _ _ _ dX0_heat_23 rfl hH ⟨by rw [c5]; rfl, by rw [heat_t _ hj hbd.2.1]; exact ⟨hR.setHot, false, rfl, (fun z => by cases z)⟩⟩
  · refine r_iconst G (nI 0) dX0_heat_8 (by decide) ?_
    exact hret _ _ _ _ _ _ dX0_heat_9 rfl hH ⟨by rw [c5]; rfl, by rw [heat_f _ c5]; exact hI⟩
set_option maxHeartbeats 4000000 in
theorem X_way_B {E : Ev} {a : Nat → Nat} {d : Nat → ClassId} {v : Vw} {k n : Nat} {f : Bool} (G : CX E RX0 cX0_way 6) (K : KX E (xt d)) (hfr : 1 ≤ E.R.frames) (hlo : 23 ≤ E.R.locals) (hk : k < v.nw) (hn : n ≤ 1000000000) (hret : ∀ (pc : Nat) (ls : Array Slot) (H : Heap) (locs : List Loc) (σ : St), decode cX0_way pc = .ok (.lreturn, 1) → XH E a d σ H locs → XI σ (v.addAt k (nI n).toInt64 f) → WE E H locs pc ls [.long (addc (v.ct k) (nI n).toInt64)]) :
    ∀ (σ : St) (H : Heap) (locs : List Loc) (ls : Array Slot), XH E a d σ H locs → XRx k σ v → lv_has ls 6 [(0, .ref (a 0)), (3, .int (nI n)), (4, .int (bI f)), (5, .int (nI k))] → WE E H locs 126 ls [] := by
  intro σ H locs ls hH hx hl
  have hv := hx.1
  have hbd := hv.bd
  have hct : σ.2.2 4 k = v.ct k := hx.2.2.2.2.2.2.1 k hk
  refine xg_counts G K hH (lv_at hl 0 rfl) dX0_way_126 dX0_way_127 ?_
  refine r_iload G dX0_way_130 (lv_at hl 3 rfl) ?_
  refine r_ldc2 G (v := 1000000000000000) q119 dX0_way_132 ?_
  refine xg_counts G K hH (lv_at hl 0 rfl) dX0_way_135 dX0_way_136 ?_
  refine r_iload G dX0_way_139 (lv_at hl 3 rfl) ?_
  refine xl_counts G K hH (by omega) dX0_way_141 ?_
  refine r_tol (y := (v.ct k)) (hct) ?_
  refine r_iload_n G dX0_way_142 rfl (lv_at hl 1 rfl) ?_
  refine r_i2l G ((nI n).toInt64) dX0_way_143 (rfl) ?_
  refine r_ladd G dX0_way_144 ?_
  refine r_min G q120 hl.1 (by omega) (by show _ + 15 ≤ _; simp [Value.category]; omega) dX0_way_145 ?_
  refine r_tol (y := (addc (v.ct k) (nI n).toInt64)) (rfl) ?_
  refine xs_counts G K hH (by omega) dX0_way_148 (fun H locs hH => ?_)
  refine xg_falls G K hH (lv_at hl 0 rfl) dX0_way_149 dX0_way_150 ?_
  refine r_iload G dX0_way_153 (lv_at hl 3 rfl) ?_
  refine r_iload G dX0_way_155 (lv_at hl 2 rfl) ?_
  refine xs_falls G K hH (by omega) (bI_vp _) dX0_way_157 (fun H locs hH => ?_)
  refine r_aload_n G dX0_way_158 rfl (lv_at hl 0 rfl) ?_
  refine r_iconst G (nI 0) dX0_way_159 (by decide) ?_
  refine xp_isDone G K hH rfl rfl dX0_way_160 (fun H locs hH => ?_)
  refine xg_counts G K hH (lv_at hl 0 rfl) dX0_way_163 dX0_way_164 ?_
  refine r_iload G dX0_way_167 (lv_at hl 3 rfl) ?_
  refine xl_counts G K hH (by omega) dX0_way_169 ?_
  refine r_tol (y := (addc (v.ct k) (nI n).toInt64)) (updL_me _ _ _) ?_
  exact hret _ _ _ _ _ dX0_way_170 hH ⟨hx.add hk (cnt_bd hn), false, rfl, (fun z => by cases z)⟩
set_option maxHeartbeats 4000000 in
theorem X_way (l : Launch) (D : va_G) (a : Nat → Nat) (d : Nat → ClassId) {σ : St} {v : Vw} {u w c : Int32} {f : Bool} (hI : XI σ v) : CMl l yX0_way cX0_way 6 1 23 D (xt d) (xw a d) [.ref (a 0), .int u, .int w, .int c, .int (bI f)] σ (fun r σ' => r = (v.way u w c f).2 ∧ XI σ' (v.way u w c f).1) := by
  refine CMl.of (by decide) (Nat.le_of_ble_eq_true rfl) ?_
  intro E ls G hfr hlo K hH hl hret
  have hl : lv_has ls 6 [(0, .ref (a 0)), (1, .int u), (2, .int w), (3, .int c), (4, .int (bI f))] := hl
  have G : CX E RX0 cX0_way 6 := G
  have hR := hI.1
  have hv := hR.ok
  have hbd := hv.bd
  refine r_aload_n G dX0_way_0 rfl (lv_at hl 0 rfl) ?_
  refine r_iload_n G dX0_way_1 rfl (lv_at hl 1 rfl) ?_
  refine xcall_i G K hH rfl (X_isBlock E.l E.D a d (v := v) hR) q107 q109 qs0 q110 rfl ⟨by omega, by omega⟩ hl.1 (rest := []) rfl (Nat.le_of_ble_eq_true rfl) dX0_way_2 (fun r σ2 H locs hH hp => ?_)
  obtain ⟨rfl, es1⟩ := hp
  rw [es1] at hH
  refine b_if_eq G 16 dX0_way_5 (by decide) (fun c5 => ?_) (fun c5 => ?_)
  · refine r_ldc2 G (v := (-1)) q115 dX0_way_16 ?_
    exact hret _ _ _ _ _ _ dX0_way_19 hH ⟨by rw [way_b1 c5], by rw [way_b1 c5]; exact hI⟩
  · refine r_aload_n G dX0_way_8 rfl (lv_at hl 0 rfl) ?_
    refine r_iload_n G dX0_way_9 rfl (lv_at hl 2 rfl) ?_
    refine xcall_i G K hH rfl (X_isBlock E.l E.D a d (v := v) hR) q107 q109 qs0 q110 rfl ⟨by omega, by omega⟩ hl.1 (rest := []) rfl (Nat.le_of_ble_eq_true rfl) dX0_way_10 (fun r σ2 H locs hH hp => ?_)
    obtain ⟨rfl, es2⟩ := hp
    rw [es2] at hH
    refine b_if_ne G 20 dX0_way_13 (by decide) (fun c13 => ?_) (fun c13 => ?_)
    · refine r_iload_n G dX0_way_20 rfl (lv_at hl 3 rfl) ?_
      refine r_if_lt G 30 dX0_way_21 (by decide) (fun c21 => ?_) (fun c21 => ?_)
      · refine r_ldc2 G (v := (-2)) q117 dX0_way_30 ?_
        exact hret _ _ _ _ _ _ dX0_way_33 hH ⟨by rw [way_c1 c5 c13 c21], by rw [way_c1 c5 c13 c21]; exact hI⟩
      · obtain ⟨n, hn, rfl⟩ := nI_of c21
        refine r_iload_n G dX0_way_24 rfl (lv_at hl 3 rfl) ?_
        refine r_ldc G (v := nI 1000000000) q116 dX0_way_25 ?_
        refine n_icmp_le G (by omega) (by omega) 34 dX0_way_27 (by decide) (fun c27 => ?_) (fun c27 => ?_)
        · obtain ⟨i1, hi1, rfl⟩ := inB_t c5
          obtain ⟨i2, hi2, rfl⟩ := inB_t c13
          rcases hR.way i1 i2 hi1 hi2 with ⟨k, hk, k1, k2, k3⟩ | ⟨k1, k3⟩
          · have hx := ix_some hv hk (congrArg nI k1) (congrArg nI k2)
            refine xg_wayOf G K hH (lv_at hl 0 rfl) dX0_way_34 dX0_way_35 ?_
            refine r_iload_n G dX0_way_38 rfl (lv_at hl 1 rfl) ?_
            refine r_sipush G (nI 200) dX0_way_39 (by decide) ?_
            refine r_imulN G dX0_way_42 ?_
            refine r_iload_n G dX0_way_43 rfl (lv_at hl 2 rfl) ?_
            refine r_iaddN G dX0_way_44 ?_
            refine xl_wayOf G K hH (by omega) dX0_way_45 ?_
            refine r_toi (y := nI (k + 1)) (k3) ?_
            refine r_iconst G (nI 1) dX0_way_46 (by decide) ?_
            refine r_isubN G (by omega) dX0_way_47 ?_
            refine r_toi (y := nI k) (by rw [Nat.add_sub_cancel]) ?_
            refine r_istore G [(5, .int (nI k)), (0, .ref (a 0)), (1, .int (nI i1)), (2, .int (nI i2)), (3, .int (nI n)), (4, .int (bI f))] dX0_way_48 hl (by decide) rfl (fun ls hl => ?_)
            refine r_iload G dX0_way_50 (lv_at hl 0 rfl) ?_
            refine n_if_ge G (by omega) 126 dX0_way_52 (by decide) ?_
            exact X_way_B G K (v := v) (k := k) hfr hlo hk c27 (fun pc ls H locs σ dg hH hI => hret _ _ _ _ _ _ dg hH ⟨by rw [way_old c5 c13 c27 hx], by rw [way_old c5 c13 c27 hx]; exact hI⟩) _ H locs ls hH (hR.x k) (lv_sub hl [1, 4, 5, 0] rfl)
          · have hx : v.ix (nI i1) (nI i2) = none := ix_none (fun k hk z1 z2 => by have := hv.frb hk; have := hv.tab hk; exact k1 k hk ((nI_eq (by omega) (by omega)).mp z1) ((nI_eq (by omega) (by omega)).mp z2))
            refine xg_wayOf G K hH (lv_at hl 0 rfl) dX0_way_34 dX0_way_35 ?_
            refine r_iload_n G dX0_way_38 rfl (lv_at hl 1 rfl) ?_
            refine r_sipush G (nI 200) dX0_way_39 (by decide) ?_
            refine r_imulN G dX0_way_42 ?_
            refine r_iload_n G dX0_way_43 rfl (lv_at hl 2 rfl) ?_
            refine r_iaddN G dX0_way_44 ?_
            refine xl_wayOf G K hH (by omega) dX0_way_45 ?_
            refine r_toi (y := (nI 0)) (k3) ?_
            refine r_iconst G (nI 1) dX0_way_46 (by decide) ?_
            refine r_isub G dX0_way_47 ?_
            refine r_toi (y := (-1)) (rfl) ?_
            refine r_istore G [(5, .int (-1)), (0, .ref (a 0)), (1, .int (nI i1)), (2, .int (nI i2)), (3, .int (nI n)), (4, .int (bI f))] dX0_way_48 hl (by decide) rfl (fun ls hl => ?_)
            refine r_iload G dX0_way_50 (lv_at hl 0 rfl) ?_
            refine m1_if_ge G 126 dX0_way_52 (by decide) ?_
            refine xg_ways G K hH (lv_at hl 1 rfl) dX0_way_55 dX0_way_56 ?_
            refine r_toi (y := nI v.nw) (hR.nw) ?_
            refine r_sipush G (nI 1000) dX0_way_59 (by decide) ?_
            refine n_icmp_ne G (by omega) (by omega) 69 dX0_way_62 (by decide) (fun c62 => ?_) (fun c62 => ?_)
            · refine xg_ways G K hH (lv_at hl 1 rfl) dX0_way_69 dX0_way_70 ?_
              refine r_toi (y := nI v.nw) (hR.nw) ?_
              refine r_istore G [(5, .int (nI v.nw)), (0, .ref (a 0)), (1, .int (nI i1)), (2, .int (nI i2)), (3, .int (nI n)), (4, .int (bI f))] dX0_way_73 hl (by decide) rfl (fun ls hl => ?_)
              refine r_aload_n G dX0_way_75 rfl (lv_at hl 1 rfl) ?_
              refine r_dup G dX0_way_76 rfl ?_
              refine xgf_ways G K hH dX0_way_77 ?_
              refine r_toi (y := nI v.nw) (hR.nw) ?_
              refine r_iconst G (nI 1) dX0_way_80 (by decide) ?_
              refine r_iaddN G dX0_way_81 ?_
              refine xp_ways G K hH dX0_way_82 (fun H locs hH => ?_)
              refine xg_wayOf G K hH (lv_at hl 1 rfl) dX0_way_85 dX0_way_86 ?_
              refine r_iload_n G dX0_way_89 rfl (lv_at hl 2 rfl) ?_
              refine r_sipush G (nI 200) dX0_way_90 (by decide) ?_
              refine r_imulN G dX0_way_93 ?_
              refine r_iload_n G dX0_way_94 rfl (lv_at hl 3 rfl) ?_
              refine r_iaddN G dX0_way_95 ?_
              refine xg_ways G K hH (lv_at hl 1 rfl) dX0_way_96 dX0_way_97 ?_
              refine r_toi (y := nI (v.nw + 1)) (rfl) ?_
              refine r_i2s G (nI (v.nw + 1)) dX0_way_100 (s16 (by omega)) ?_
              refine xs_wayOf G K hH (by omega) (s16 (by omega)) dX0_way_101 (fun H locs hH => ?_)
              refine xg_from G K hH (lv_at hl 1 rfl) dX0_way_102 dX0_way_103 ?_
              refine r_iload G dX0_way_106 (lv_at hl 0 rfl) ?_
              refine r_iload_n G dX0_way_108 rfl (lv_at hl 2 rfl) ?_
              refine xs_from G K hH (by omega) dX0_way_109 (fun H locs hH => ?_)
              refine xg_to G K hH (lv_at hl 1 rfl) dX0_way_110 dX0_way_111 ?_
              refine r_iload G dX0_way_114 (lv_at hl 0 rfl) ?_
              refine r_iload_n G dX0_way_116 rfl (lv_at hl 3 rfl) ?_
              refine xs_to G K hH (by omega) dX0_way_117 (fun H locs hH => ?_)
              refine xg_counts G K hH (lv_at hl 1 rfl) dX0_way_118 dX0_way_119 ?_
              refine r_iload G dX0_way_122 (lv_at hl 0 rfl) ?_
              refine r_lconst G 0 dX0_way_124 (by decide) ?_
              refine xs_counts G K hH (by omega) dX0_way_125 (fun H locs hH => ?_)
              exact X_way_B G K (v := v.push i1 i2) (k := v.nw) hfr hlo (Nat.lt_succ_self _) c27 (fun pc ls H locs σ dg hH hI => hret _ _ _ _ _ _ dg hH ⟨by rw [way_new hi1 hi2 hbd.2.1 c27 hx c62, push_ct, if_pos rfl], by rw [way_new hi1 hi2 hbd.2.1 c27 hx c62]; exact hI⟩) _ H locs ls hH (hR.push hi1 hi2 c62 k1) (lv_sub hl [1, 4, 5, 0] rfl)
            · refine r_ldc2 G (v := (-3)) q118 dX0_way_65 ?_
              exact hret _ _ _ _ _ _ dX0_way_68 hH ⟨by rw [way_full c5 c13 c27 hx c62], by rw [way_full c5 c13 c27 hx c62]; exact hI⟩
        · refine r_ldc2 G (v := (-2)) q117 dX0_way_30 ?_
          exact hret _ _ _ _ _ _ dX0_way_33 hH ⟨by rw [way_c2 c5 c13 hn c27], by rw [way_c2 c5 c13 hn c27]; exact hI⟩
    · refine r_ldc2 G (v := (-1)) q115 dX0_way_16 ?_
      exact hret _ _ _ _ _ _ dX0_way_19 hH ⟨by rw [way_b2 c13], by rw [way_b2 c13]; exact hI⟩
set_option maxHeartbeats 4000000 in
theorem X_count (l : Launch) (D : va_G) (a : Nat → Nat) (d : Nat → ClassId) {σ : St} {v : Vw} {u w : Int32} (hI : XI σ v) : CMl l yX0_count cX0_count 4 1 23 D (xt d) (xw a d) [.ref (a 0), .int u, .int w] σ (fun r σ' => r = aCnt v u w ∧ XI σ' v) := by
  refine CMl.of (by decide) (Nat.le_of_ble_eq_true rfl) ?_
  intro E ls G hfr hlo K hH hl hret
  have hl : lv_has ls 4 [(0, .ref (a 0)), (1, .int u), (2, .int w)] := hl
  have G : CX E RX0 cX0_count 4 := G
  have hR := hI.1
  have hv := hR.ok
  have hbd := hv.bd
  refine r_aload_n G dX0_count_0 rfl (lv_at hl 0 rfl) ?_
  refine r_iload_n G dX0_count_1 rfl (lv_at hl 1 rfl) ?_
  refine xcall_i G K hH rfl (X_isBlock E.l E.D a d (v := v) hR) q107 q109 qs0 q110 rfl ⟨by omega, by omega⟩ hl.1 (rest := []) rfl (Nat.le_of_ble_eq_true rfl) dX0_count_2 (fun r σ2 H locs hH hp => ?_)
  obtain ⟨rfl, es1⟩ := hp
  rw [es1] at hH
  refine b_if_eq G 33 dX0_count_5 (by decide) (fun c5 => ?_) (fun c5 => ?_)
  · refine r_iconst G ((-1)) dX0_count_33 (by decide) ?_
    refine r_istore_n G [(3, .int (-1)), (0, .ref (a 0)), (1, .int u), (2, .int w)] dX0_count_34 rfl hl (by decide) rfl (fun ls hl => ?_)
    refine r_iload_n G dX0_count_35 rfl (lv_at hl 0 rfl) ?_
    refine m1_if_ge G 43 dX0_count_36 (by decide) ?_
    refine r_lconst G 0 dX0_count_39 (by decide) ?_
    refine r_goto G 49 dX0_count_40 (by decide) ?_
    exact hret _ _ _ _ _ _ dX0_count_49 hH ⟨(aCnt_f (ix_out1 hv c5)).symm, hI⟩
  · refine r_aload_n G dX0_count_8 rfl (lv_at hl 0 rfl) ?_
    refine r_iload_n G dX0_count_9 rfl (lv_at hl 2 rfl) ?_
    refine xcall_i G K hH rfl (X_isBlock E.l E.D a d (v := v) hR) q107 q109 qs0 q110 rfl ⟨by omega, by omega⟩ hl.1 (rest := []) rfl (Nat.le_of_ble_eq_true rfl) dX0_count_10 (fun r σ2 H locs hH hp => ?_)
    obtain ⟨rfl, es2⟩ := hp
    rw [es2] at hH
    refine b_if_eq G 33 dX0_count_13 (by decide) (fun c13 => ?_) (fun c13 => ?_)
    · refine r_iconst G ((-1)) dX0_count_33 (by decide) ?_
      refine r_istore_n G [(3, .int (-1)), (0, .ref (a 0)), (1, .int u), (2, .int w)] dX0_count_34 rfl hl (by decide) rfl (fun ls hl => ?_)
      refine r_iload_n G dX0_count_35 rfl (lv_at hl 0 rfl) ?_
      refine m1_if_ge G 43 dX0_count_36 (by decide) ?_
      refine r_lconst G 0 dX0_count_39 (by decide) ?_
      refine r_goto G 49 dX0_count_40 (by decide) ?_
      exact hret _ _ _ _ _ _ dX0_count_49 hH ⟨(aCnt_f (ix_out2 hv c13)).symm, hI⟩
    · obtain ⟨i1, hi1, rfl⟩ := inB_t c5
      obtain ⟨i2, hi2, rfl⟩ := inB_t c13
      rcases hR.way i1 i2 hi1 hi2 with ⟨k, hk, k1, k2, k3⟩ | ⟨k1, k3⟩
      · have hx := ix_some hv hk (congrArg nI k1) (congrArg nI k2)
        refine xg_wayOf G K hH (lv_at hl 0 rfl) dX0_count_16 dX0_count_17 ?_
        refine r_iload_n G dX0_count_20 rfl (lv_at hl 1 rfl) ?_
        refine r_sipush G (nI 200) dX0_count_21 (by decide) ?_
        refine r_imulN G dX0_count_24 ?_
        refine r_iload_n G dX0_count_25 rfl (lv_at hl 2 rfl) ?_
        refine r_iaddN G dX0_count_26 ?_
        refine xl_wayOf G K hH (by omega) dX0_count_27 ?_
        refine r_toi (y := nI (k + 1)) (k3) ?_
        refine r_iconst G (nI 1) dX0_count_28 (by decide) ?_
        refine r_isubN G (by omega) dX0_count_29 ?_
        refine r_toi (y := nI k) (by rw [Nat.add_sub_cancel]) ?_
        refine r_goto G 34 dX0_count_30 (by decide) ?_
        refine r_istore_n G [(3, .int (nI k)), (0, .ref (a 0)), (1, .int (nI i1)), (2, .int (nI i2))] dX0_count_34 rfl hl (by decide) rfl (fun ls hl => ?_)
        refine r_iload_n G dX0_count_35 rfl (lv_at hl 0 rfl) ?_
        refine n_if_ge G (by omega) 43 dX0_count_36 (by decide) ?_
        refine xg_counts G K hH (lv_at hl 1 rfl) dX0_count_43 dX0_count_44 ?_
        refine r_iload_n G dX0_count_47 rfl (lv_at hl 0 rfl) ?_
        refine xl_counts G K hH (by omega) dX0_count_48 ?_
        refine r_tol (y := (v.ct k)) (hR.ct (by omega)) ?_
        exact hret _ _ _ _ _ _ dX0_count_49 hH ⟨(aCnt_t hx).symm, hI⟩
      · have hx : v.ix (nI i1) (nI i2) = none := ix_none (fun k hk z1 z2 => by have := hv.frb hk; have := hv.tab hk; exact k1 k hk ((nI_eq (by omega) (by omega)).mp z1) ((nI_eq (by omega) (by omega)).mp z2))
        refine xg_wayOf G K hH (lv_at hl 0 rfl) dX0_count_16 dX0_count_17 ?_
        refine r_iload_n G dX0_count_20 rfl (lv_at hl 1 rfl) ?_
        refine r_sipush G (nI 200) dX0_count_21 (by decide) ?_
        refine r_imulN G dX0_count_24 ?_
        refine r_iload_n G dX0_count_25 rfl (lv_at hl 2 rfl) ?_
        refine r_iaddN G dX0_count_26 ?_
        refine xl_wayOf G K hH (by omega) dX0_count_27 ?_
        refine r_toi (y := (nI 0)) (k3) ?_
        refine r_iconst G (nI 1) dX0_count_28 (by decide) ?_
        refine r_isub G dX0_count_29 ?_
        refine r_toi (y := (-1)) (rfl) ?_
        refine r_goto G 34 dX0_count_30 (by decide) ?_
        refine r_istore_n G [(3, .int (-1)), (0, .ref (a 0)), (1, .int (nI i1)), (2, .int (nI i2))] dX0_count_34 rfl hl (by decide) rfl (fun ls hl => ?_)
        refine r_iload_n G dX0_count_35 rfl (lv_at hl 0 rfl) ?_
        refine m1_if_ge G 43 dX0_count_36 (by decide) ?_
        refine r_lconst G 0 dX0_count_39 (by decide) ?_
        refine r_goto G 49 dX0_count_40 (by decide) ?_
        exact hret _ _ _ _ _ _ dX0_count_49 hH ⟨(aCnt_f hx).symm, hI⟩
end
section
/-- the reference: what it keeps once it is known -/
def MD (σ : St) (v : Vw) : Prop := σ.1 13 = nI v.nh ∧ (∀ i, i < v.nh → σ.2.1 11 i = nI (v.bc i)) ∧ (∀ i, i < v.nh → σ.2.1 12 i = nI (v.bn i)) ∧ σ.1 14 = bI v.bet ∧ (∀ b, b < v.nb → v.hot b = true → σ.2.1 10 b = nI (v.cs.co b)) ∧ ∀ c, c < v.nb → v.hot c = true → v.cs.co c = c → σ.2.1 8 (200 * c) = nI c
def MI (σ : St) (v : Vw) : Prop := MR σ v ∧ ∃ w, σ.1 7 = bI w ∧ (w = true → MD σ v)
end
section
set_option maxRecDepth 100000
set_option maxHeartbeats 4000000 in
theorem M_size_L1 {E : Ev} {a : Nat → Nat} {d : Nat → ClassId} {n : Nat} (G : CX E RX1 cX1_size 3) (K : KX E (mt d)) (hn : n ≤ 200) (kk : ∀ (σ : St) (H : Heap) (locs : List Loc) (ls : Array Slot), MH E a d σ H locs → σ.1 0 = nI n → σ.1 2 = nI 0 → (∀ i, i < 200 → σ.2.1 1 i = bI false) → lv_has ls 3 [(0, .ref (a 0))] → WE E H locs 46 ls []) :
    ∀ (M : Nat) (σ : St) (b : Nat) (H : Heap) (locs : List Loc) (ls : Array Slot), MH E a d σ H locs → σ.1 0 = nI n → σ.1 2 = nI 0 → (∀ i, i < b → σ.2.1 1 i = bI false) → b ≤ 200 → 200 - b < M → lv_has ls 3 [(0, .ref (a 0)), (1, .int (nI n)), (2, .int (nI b))] → WE E H locs 26 ls [] := by
  intro M
  induction M with
  | zero => exact fun σ b H locs ls _ _ _ _ _ q => absurd q (Nat.not_lt_zero _)
  | succ M ih =>
    intro σ b H locs ls hH e1 e2 h1 hb hM hl
    refine r_iload_n G dX1_size_26 rfl (lv_at hl 2 rfl) ?_
    refine r_sipush G (nI 200) dX1_size_27 (by decide) ?_
    refine n_icmp_ge G (by omega) (by omega) 46 dX1_size_30 (by decide) (fun c30 => ?_) (fun c30 => ?_)
    · have e : b = 200 := by omega
      subst e
      exact kk σ H locs ls hH e1 e2 h1 (lv_sub hl [0] rfl)
    · refine mg_hot G K hH (lv_at hl 0 rfl) dX1_size_33 dX1_size_34 ?_
      refine r_iload_n G dX1_size_37 rfl (lv_at hl 2 rfl) ?_
      refine r_iconst G (nI 0) dX1_size_38 (by decide) ?_
      refine ms_hot G K hH (by omega) (by decide) dX1_size_39 (fun H locs hH => ?_)
      refine r_iinc G (k := 2) (nI (b + 1)) [(2, .int (nI (b + 1))), (0, .ref (a 0)), (1, .int (nI n))] dX1_size_40 hl rfl (inc1 _) (by decide) rfl (fun ls hl => ?_)
      refine r_goto G 26 dX1_size_43 (by decide) ?_
      have g1 : ∀ i, i < b + 1 → upd (σ.2.1 1) b (nI 0) i = bI false := upd_run (g := fun _ => bI false) h1 rfl
      exact ih _ _ H locs ls hH e1 e2 g1 (by omega) (by omega) (lv_sub hl [1, 2, 0] rfl)
set_option maxHeartbeats 4000000 in
theorem M_size (l : Launch) (D : va_G) (a : Nat → Nat) (d : Nat → ClassId) {σ : St} {v : Vw} {n : Int32} (hI : MI σ v) : CMi l yX1_size cX1_size 3 .boolean 0 0 D (mt d) (mw a d) [.ref (a 0), .int n] σ (fun r σ' => r = bI (okN n) ∧ MI σ' (v.size n)) := by
  refine CMi.of (by decide) (Nat.le_of_ble_eq_true rfl) ?_
  intro E ls G hfr hlo K hH hl hret
  have hl : lv_has ls 3 [(0, .ref (a 0)), (1, .int n)] := hl
  have G : CX E RX1 cX1_size 3 := G
  refine r_iload_n G dX1_size_0 rfl (lv_at hl 1 rfl) ?_
  refine r_iconst G (nI 1) dX1_size_1 (by decide) ?_
  refine r_icmp_lt G 12 dX1_size_2 (by decide) (fun c2 => ?_) (fun c2 => ?_)
  · refine r_iconst G (nI 0) dX1_size_12 (by decide) ?_
    have e := okN_n c2
    exact hret _ _ _ _ _ _ dX1_size_13 rfl hH ⟨by rw [e]; rfl, by rw [size_f e]; exact hI⟩
  · obtain ⟨j, h1, hj, rfl⟩ := sz_of c2
    refine r_iload_n G dX1_size_5 rfl (lv_at hl 1 rfl) ?_
    refine r_sipush G (nI 200) dX1_size_6 (by decide) ?_
    refine n_icmp_le G (by omega) (by omega) 14 dX1_size_9 (by decide) (fun c9 => ?_) (fun c9 => ?_)
    · refine r_aload_n G dX1_size_14 rfl (lv_at hl 0 rfl) ?_
      refine r_iload_n G dX1_size_15 rfl (lv_at hl 1 rfl) ?_
      refine mp_blocks G K hH dX1_size_16 (fun H locs hH => ?_)
      refine r_aload_n G dX1_size_19 rfl (lv_at hl 0 rfl) ?_
      refine r_iconst G (nI 0) dX1_size_20 (by decide) ?_
      refine mp_ways G K hH dX1_size_21 (fun H locs hH => ?_)
      refine r_iconst G (nI 0) dX1_size_24 (by decide) ?_
      refine r_istore_n G [(2, .int (nI 0)), (0, .ref (a 0)), (1, .int (nI j))] dX1_size_25 rfl hl (by decide) rfl (fun ls hl => ?_)
      refine M_size_L1 G K (n := j) c9 (fun σ H locs ls hH e1 e2 g1 hl => ?_) (200 + 1) _ 0 _ _ ls hH rfl rfl (fun i hi => absurd hi (Nat.not_lt_zero i)) (Nat.zero_le _) (by omega) (lv_sub hl [1, 2, 0] rfl)
      refine r_aload_n G dX1_size_46 rfl (lv_at hl 0 rfl) ?_
      refine r_iconst G (nI 0) dX1_size_47 (by decide) ?_
      refine mp_isKnown G K hH rfl rfl dX1_size_48 (fun H locs hH => ?_)
      refine r_iconst G (nI 1) dX1_size_51 (by decide) ?_
      obtain ⟨z1, z2⟩ := size_t (v := v) h1 c9
      exact hret _ _ _ _ _ _ dX1_size_52 rfl hH ⟨by rw [z2]; rfl, by rw [z1]; exact ⟨MR.mt h1 c9 e1 e2 g1, false, rfl, (fun z => by cases z)⟩⟩
    · refine r_iconst G (nI 0) dX1_size_12 (by decide) ?_
      have e : okN (nI j) = false := by
        rw [okN_nI hj]
        exact decide_eq_false (by omega)
      exact hret _ _ _ _ _ _ dX1_size_13 rfl hH ⟨by rw [e]; rfl, by rw [size_f e]; exact hI⟩
set_option maxHeartbeats 4000000 in
theorem M_heat (l : Launch) (D : va_G) (a : Nat → Nat) (d : Nat → ClassId) {σ : St} {v : Vw} {b : Int32} {h : Bool} (hI : MI σ v) : CMi l yX1_heat cX1_heat 3 .boolean 1 21 D (mt d) (mw a d) [.ref (a 0), .int b, .int (bI h)] σ (fun r σ' => r = bI (inB v.nb b) ∧ MI σ' (v.heat b h)) := by
  refine CMi.of (by decide) (Nat.le_of_ble_eq_true rfl) ?_
  intro E ls G hfr hlo K hH hl hret
  have hl : lv_has ls 3 [(0, .ref (a 0)), (1, .int b), (2, .int (bI h))] := hl
  have G : CX E RX1 cX1_heat 3 := G
  have hR := hI.1
  have hv := hR.ok
  have hbd := hv.bd
  refine r_aload_n G dX1_heat_0 rfl (lv_at hl 0 rfl) ?_
  refine r_iload_n G dX1_heat_1 rfl (lv_at hl 1 rfl) ?_
  refine mcall_i G K hH rfl (M_isBlock E.l E.D a d (v := v) hR) q249 q251 qs10 q252 rfl ⟨by omega, by omega⟩ hl.1 (rest := []) rfl (Nat.le_of_ble_eq_true rfl) dX1_heat_2 (fun r σ2 H locs hH hp => ?_)
  obtain ⟨rfl, es⟩ := hp
  rw [es] at hH
  refine b_if_ne G 10 dX1_heat_5 (by decide) (fun c5 => ?_) (fun c5 => ?_)
  · obtain ⟨j, hj, rfl⟩ := inB_t c5
    refine mg_hot G K hH (lv_at hl 0 rfl) dX1_heat_10 dX1_heat_11 ?_
    refine r_iload_n G dX1_heat_14 rfl (lv_at hl 1 rfl) ?_
    refine r_iload_n G dX1_heat_15 rfl (lv_at hl 2 rfl) ?_
    refine ms_hot G K hH (by omega) (bI_vp _) dX1_heat_16 (fun H locs hH => ?_)
    refine r_aload_n G dX1_heat_17 rfl (lv_at hl 0 rfl) ?_
    refine r_iconst G (nI 0) dX1_heat_18 (by decide) ?_
    refine mp_isKnown G K hH rfl rfl dX1_heat_19 (fun H locs hH => ?_)
    refine r_iconst G (nI 1) dX1_heat_22 (by decide) ?_
    exact hret _ _ _ _ _ _ dX1_heat_23 rfl hH ⟨by rw [c5]; rfl, by rw [heat_t _ hj hbd.2.1]; exact ⟨hR.setHot, false, rfl, (fun z => by cases z)⟩⟩
  · refine r_iconst G (nI 0) dX1_heat_8 (by decide) ?_
    exact hret _ _ _ _ _ _ dX1_heat_9 rfl hH ⟨by rw [c5]; rfl, by rw [heat_f _ c5]; exact hI⟩
def FdI (v : Vw) (u w : Int32) (r : Int32) : Prop := (∃ k, k < v.nw ∧ nI (v.fr k) = u ∧ nI (v.ta k) = w ∧ r = nI k) ∨ ((∀ k, k < v.nw → nI (v.fr k) = u → nI (v.ta k) = w → False) ∧ r = -1)
set_option maxHeartbeats 4000000 in
theorem M_find_L {E : Ev} {a : Nat → Nat} {d : Nat → ClassId} {σ : St} {v : Vw} {u w : Int32} (G : CX E RX1 cX1_find 4) (K : KX E (mt d)) (hR : MR σ v) (hret : ∀ (pc : Nat) (ls : Array Slot) (H : Heap) (locs : List Loc) (r : Int32), decode cX1_find pc = .ok (.ireturn, 1) → MH E a d σ H locs → FdI v u w r → WE E H locs pc ls [.int r]) :
    ∀ (M : Nat) (k : Nat) (H : Heap) (locs : List Loc) (ls : Array Slot), MH E a d σ H locs → (∀ i, i < k → nI (v.fr i) = u → nI (v.ta i) = w → False) → k ≤ v.nw → v.nw - k < M → lv_has ls 4 [(0, .ref (a 0)), (1, .int u), (2, .int w), (3, .int (nI k))] → WE E H locs 2 ls [] := by
  have hv := hR.ok
  have hbd := hv.bd
  intro M
  induction M with
  | zero => exact fun k H locs ls _ _ _ q => absurd q (Nat.not_lt_zero _)
  | succ M ih =>
    intro k H locs ls hH hn hk hM hl
    refine r_iload_n G dX1_find_2 rfl (lv_at hl 3 rfl) ?_
    refine mg_ways G K hH (lv_at hl 0 rfl) dX1_find_3 dX1_find_4 ?_
    refine r_toi (y := nI v.nw) (hR.nw) ?_
    refine n_icmp_ge G (by omega) (by omega) 38 dX1_find_7 (by decide) (fun c7 => ?_) (fun c7 => ?_)
    · refine r_iconst G ((-1)) dX1_find_38 (by decide) ?_
      have e : k = v.nw := by omega
      subst e
      exact hret _ _ _ _ _ dX1_find_39 hH (Or.inr ⟨hn, rfl⟩)
    · refine mg_from G K hH (lv_at hl 0 rfl) dX1_find_10 dX1_find_11 ?_
      refine r_iload_n G dX1_find_14 rfl (lv_at hl 3 rfl) ?_
      refine ml_from G K hH (by omega) dX1_find_15 ?_
      refine r_toi (y := nI (v.fr k)) (hR.fr (by omega)) ?_
      have := hv.frb (k := k) (by omega)
      refine r_iload_n G dX1_find_16 rfl (lv_at hl 1 rfl) ?_
      refine r_icmp_ne G 32 dX1_find_17 (by decide) (fun c17 => ?_) (fun c17 => ?_)
      · refine r_iinc G (k := 3) (nI (k + 1)) [(3, .int (nI (k + 1))), (0, .ref (a 0)), (1, .int u), (2, .int w)] dX1_find_32 hl rfl (inc1 _) (by decide) rfl (fun ls hl => ?_)
        refine r_goto G 2 dX1_find_35 (by decide) ?_
        have hn2 : ∀ i, i < k + 1 → nI (v.fr i) = u → nI (v.ta i) = w → False := by
          intro i hi z1 z2
          by_cases e : i = k
          · subst e
            exact c17 z1
          · exact hn i (by omega) z1 z2
        exact ih _ H locs ls hH hn2 (by omega) (by omega) (lv_sub hl [1, 2, 3, 0] rfl)
      · refine mg_to G K hH (lv_at hl 0 rfl) dX1_find_20 dX1_find_21 ?_
        refine r_iload_n G dX1_find_24 rfl (lv_at hl 3 rfl) ?_
        refine ml_to G K hH (by omega) dX1_find_25 ?_
        refine r_toi (y := nI (v.ta k)) (hR.ta (by omega)) ?_
        have := hv.tab (k := k) (by omega)
        refine r_iload_n G dX1_find_26 rfl (lv_at hl 2 rfl) ?_
        refine r_icmp_ne G 32 dX1_find_27 (by decide) (fun c27 => ?_) (fun c27 => ?_)
        · refine r_iinc G (k := 3) (nI (k + 1)) [(3, .int (nI (k + 1))), (0, .ref (a 0)), (1, .int u), (2, .int w)] dX1_find_32 hl rfl (inc1 _) (by decide) rfl (fun ls hl => ?_)
          refine r_goto G 2 dX1_find_35 (by decide) ?_
          have hn2 : ∀ i, i < k + 1 → nI (v.fr i) = u → nI (v.ta i) = w → False := by
            intro i hi z1 z2
            by_cases e : i = k
            · subst e
              exact c27 z2
            · exact hn i (by omega) z1 z2
          exact ih _ H locs ls hH hn2 (by omega) (by omega) (lv_sub hl [1, 2, 3, 0] rfl)
        · refine r_iload_n G dX1_find_30 rfl (lv_at hl 3 rfl) ?_
          exact hret _ _ _ _ _ dX1_find_31 hH (Or.inl ⟨k, c7, c17, c27, rfl⟩)
set_option maxHeartbeats 4000000 in
theorem M_find (l : Launch) (D : va_G) (a : Nat → Nat) (d : Nat → ClassId) {σ : St} {v : Vw} {u w : Int32} (hR : MR σ v) : CMi l yX1_find cX1_find 4 .int 0 0 D (mt d) (mw a d) [.ref (a 0), .int u, .int w] σ (fun r σ' => FdI v u w r ∧ σ' = σ) := by
  refine CMi.of (by decide) (Nat.le_of_ble_eq_true rfl) ?_
  intro E ls G hfr hlo K hH hl hret
  have hl : lv_has ls 4 [(0, .ref (a 0)), (1, .int u), (2, .int w)] := hl
  have G : CX E RX1 cX1_find 4 := G
  refine r_iconst G (nI 0) dX1_find_0 (by decide) ?_
  refine r_istore_n G [(3, .int (nI 0)), (0, .ref (a 0)), (1, .int u), (2, .int w)] dX1_find_1 rfl hl (by decide) rfl (fun ls hl => ?_)
  exact M_find_L G K hR (fun pc ls H locs r dg hH hf => hret _ _ _ _ _ _ dg rfl hH ⟨hf, rfl⟩) (v.nw + 1) 0 _ _ ls hH (fun i hi => absurd hi (Nat.not_lt_zero i)) (Nat.zero_le _) (by omega) (lv_sub hl [1, 2, 3, 0] rfl)
set_option maxHeartbeats 4000000 in
theorem M_way_B {E : Ev} {a : Nat → Nat} {d : Nat → ClassId} {v : Vw} {k n : Nat} {f : Bool} (G : CX E RX1 cX1_way 6) (K : KX E (mt d)) (hfr : 1 ≤ E.R.frames) (hlo : 23 ≤ E.R.locals) (hk : k < v.nw) (hn : n ≤ 1000000000) (hret : ∀ (pc : Nat) (ls : Array Slot) (H : Heap) (locs : List Loc) (σ : St), decode cX1_way pc = .ok (.lreturn, 1) → MH E a d σ H locs → MI σ (v.addAt k (nI n).toInt64 f) → WE E H locs pc ls [.long (addc (v.ct k) (nI n).toInt64)]) :
    ∀ (σ : St) (H : Heap) (locs : List Loc) (ls : Array Slot), MH E a d σ H locs → MRx k σ v → lv_has ls 6 [(0, .ref (a 0)), (3, .int (nI n)), (4, .int (bI f)), (5, .int (nI k))] → WE E H locs 101 ls [] := by
  intro σ H locs ls hH hx hl
  have hv := hx.1
  have hbd := hv.bd
  have hct : σ.2.2 5 k = v.ct k := hx.2.2.2.2.2.2.1 k hk
  refine mg_counts G K hH (lv_at hl 0 rfl) dX1_way_101 dX1_way_102 ?_
  refine r_iload G dX1_way_105 (lv_at hl 3 rfl) ?_
  refine mg_counts G K hH (lv_at hl 0 rfl) dX1_way_107 dX1_way_108 ?_
  refine r_iload G dX1_way_111 (lv_at hl 3 rfl) ?_
  refine ml_counts G K hH (by omega) dX1_way_113 ?_
  refine r_tol (y := (v.ct k)) (hct) ?_
  refine r_iload_n G dX1_way_114 rfl (lv_at hl 1 rfl) ?_
  refine r_i2l G ((nI n).toInt64) dX1_way_115 (rfl) ?_
  refine r_ladd G dX1_way_116 ?_
  refine r_ldc2 G (v := 1000000000000000) q265 dX1_way_117 ?_
  refine r_min G q266 hl.1 (by omega) (by show _ + 15 ≤ _; simp [Value.category]; omega) dX1_way_120 ?_
  refine r_tol (y := (addc (v.ct k) (nI n).toInt64)) (addc_alt _ _) ?_
  refine ms_counts G K hH (by omega) dX1_way_123 (fun H locs hH => ?_)
  refine mg_fall G K hH (lv_at hl 0 rfl) dX1_way_124 dX1_way_125 ?_
  refine r_iload G dX1_way_128 (lv_at hl 3 rfl) ?_
  refine r_iload G dX1_way_130 (lv_at hl 2 rfl) ?_
  refine ms_fall G K hH (by omega) (bI_vp _) dX1_way_132 (fun H locs hH => ?_)
  refine r_aload_n G dX1_way_133 rfl (lv_at hl 0 rfl) ?_
  refine r_iconst G (nI 0) dX1_way_134 (by decide) ?_
  refine mp_isKnown G K hH rfl rfl dX1_way_135 (fun H locs hH => ?_)
  refine mg_counts G K hH (lv_at hl 0 rfl) dX1_way_138 dX1_way_139 ?_
  refine r_iload G dX1_way_142 (lv_at hl 3 rfl) ?_
  refine ml_counts G K hH (by omega) dX1_way_144 ?_
  refine r_tol (y := (addc (v.ct k) (nI n).toInt64)) (updL_me _ _ _) ?_
  exact hret _ _ _ _ _ dX1_way_145 hH ⟨hx.add hk (cnt_bd hn), false, rfl, (fun z => by cases z)⟩
set_option maxHeartbeats 4000000 in
theorem M_way (l : Launch) (D : va_G) (a : Nat → Nat) (d : Nat → ClassId) {σ : St} {v : Vw} {u w c : Int32} {f : Bool} (hI : MI σ v) : CMl l yX1_way cX1_way 6 1 23 D (mt d) (mw a d) [.ref (a 0), .int u, .int w, .int c, .int (bI f)] σ (fun r σ' => r = (v.way u w c f).2 ∧ MI σ' (v.way u w c f).1) := by
  refine CMl.of (by decide) (Nat.le_of_ble_eq_true rfl) ?_
  intro E ls G hfr hlo K hH hl hret
  have hl : lv_has ls 6 [(0, .ref (a 0)), (1, .int u), (2, .int w), (3, .int c), (4, .int (bI f))] := hl
  have G : CX E RX1 cX1_way 6 := G
  have hR := hI.1
  have hv := hR.ok
  have hbd := hv.bd
  refine r_aload_n G dX1_way_0 rfl (lv_at hl 0 rfl) ?_
  refine r_iload_n G dX1_way_1 rfl (lv_at hl 1 rfl) ?_
  refine mcall_i G K hH rfl (M_isBlock E.l E.D a d (v := v) hR) q249 q251 qs10 q252 rfl ⟨by omega, by omega⟩ hl.1 (rest := []) rfl (Nat.le_of_ble_eq_true rfl) dX1_way_2 (fun r σ2 H locs hH hp => ?_)
  obtain ⟨rfl, es1⟩ := hp
  rw [es1] at hH
  refine b_if_eq G 16 dX1_way_5 (by decide) (fun c5 => ?_) (fun c5 => ?_)
  · refine r_ldc2 G (v := (-1)) q257 dX1_way_16 ?_
    exact hret _ _ _ _ _ _ dX1_way_19 hH ⟨by rw [way_b1 c5], by rw [way_b1 c5]; exact hI⟩
  · refine r_aload_n G dX1_way_8 rfl (lv_at hl 0 rfl) ?_
    refine r_iload_n G dX1_way_9 rfl (lv_at hl 2 rfl) ?_
    refine mcall_i G K hH rfl (M_isBlock E.l E.D a d (v := v) hR) q249 q251 qs10 q252 rfl ⟨by omega, by omega⟩ hl.1 (rest := []) rfl (Nat.le_of_ble_eq_true rfl) dX1_way_10 (fun r σ2 H locs hH hp => ?_)
    obtain ⟨rfl, es2⟩ := hp
    rw [es2] at hH
    refine b_if_ne G 20 dX1_way_13 (by decide) (fun c13 => ?_) (fun c13 => ?_)
    · refine r_iload_n G dX1_way_20 rfl (lv_at hl 3 rfl) ?_
      refine r_if_lt G 30 dX1_way_21 (by decide) (fun c21 => ?_) (fun c21 => ?_)
      · refine r_ldc2 G (v := (-2)) q259 dX1_way_30 ?_
        exact hret _ _ _ _ _ _ dX1_way_33 hH ⟨by rw [way_c1 c5 c13 c21], by rw [way_c1 c5 c13 c21]; exact hI⟩
      · obtain ⟨n, hn, rfl⟩ := nI_of c21
        refine r_iload_n G dX1_way_24 rfl (lv_at hl 3 rfl) ?_
        refine r_ldc G (v := nI 1000000000) q258 dX1_way_25 ?_
        refine n_icmp_le G (by omega) (by omega) 34 dX1_way_27 (by decide) (fun c27 => ?_) (fun c27 => ?_)
        · obtain ⟨i1, hi1, rfl⟩ := inB_t c5
          obtain ⟨i2, hi2, rfl⟩ := inB_t c13
          refine r_aload_n G dX1_way_34 rfl (lv_at hl 0 rfl) ?_
          refine r_iload_n G dX1_way_35 rfl (lv_at hl 1 rfl) ?_
          refine r_iload_n G dX1_way_36 rfl (lv_at hl 2 rfl) ?_
          refine mcall_i G K hH rfl (M_find E.l E.D a d (v := v) hR) q260 q262 qs11 q263 rfl ⟨by omega, by omega⟩ hl.1 (rest := []) rfl (Nat.le_of_ble_eq_true rfl) dX1_way_37 (fun r σ2 H locs hH hp => ?_)
          obtain ⟨hf, es3⟩ := hp
          rw [es3] at hH
          rcases hf with ⟨k, hk, k1, k2, rfl⟩ | ⟨k1, rfl⟩
          · have hx := ix_some hv hk k1 k2
            refine r_istore G [(5, .int (nI k)), (0, .ref (a 0)), (1, .int (nI i1)), (2, .int (nI i2)), (3, .int (nI n)), (4, .int (bI f))] dX1_way_40 hl (by decide) rfl (fun ls hl => ?_)
            refine r_iload G dX1_way_42 (lv_at hl 0 rfl) ?_
            refine n_if_ge G (by omega) 101 dX1_way_44 (by decide) ?_
            exact M_way_B G K (v := v) (k := k) hfr hlo hk c27 (fun pc ls H locs σ dg hH hI => hret _ _ _ _ _ _ dg hH ⟨by rw [way_old c5 c13 c27 hx], by rw [way_old c5 c13 c27 hx]; exact hI⟩) _ H locs ls hH (hR.x k) (lv_sub hl [1, 4, 5, 0] rfl)
          · have hx := ix_none k1
            have k1 : ∀ k, k < v.nw → v.fr k = i1 → v.ta k = i2 → False := fun k hk z1 z2 => k1 k hk (congrArg nI z1) (congrArg nI z2)
            refine r_istore G [(5, .int (-1)), (0, .ref (a 0)), (1, .int (nI i1)), (2, .int (nI i2)), (3, .int (nI n)), (4, .int (bI f))] dX1_way_40 hl (by decide) rfl (fun ls hl => ?_)
            refine r_iload G dX1_way_42 (lv_at hl 0 rfl) ?_
            refine m1_if_ge G 101 dX1_way_44 (by decide) ?_
            refine mg_ways G K hH (lv_at hl 1 rfl) dX1_way_47 dX1_way_48 ?_
            refine r_toi (y := nI v.nw) (hR.nw) ?_
            refine r_sipush G (nI 1000) dX1_way_51 (by decide) ?_
            refine n_icmp_ne G (by omega) (by omega) 61 dX1_way_54 (by decide) (fun c54 => ?_) (fun c54 => ?_)
            · refine mg_ways G K hH (lv_at hl 1 rfl) dX1_way_61 dX1_way_62 ?_
              refine r_toi (y := nI v.nw) (hR.nw) ?_
              refine r_istore G [(5, .int (nI v.nw)), (0, .ref (a 0)), (1, .int (nI i1)), (2, .int (nI i2)), (3, .int (nI n)), (4, .int (bI f))] dX1_way_65 hl (by decide) rfl (fun ls hl => ?_)
              refine r_aload_n G dX1_way_67 rfl (lv_at hl 1 rfl) ?_
              refine r_dup G dX1_way_68 rfl ?_
              refine mgf_ways G K hH dX1_way_69 ?_
              refine r_toi (y := nI v.nw) (hR.nw) ?_
              refine r_iconst G (nI 1) dX1_way_72 (by decide) ?_
              refine r_iaddN G dX1_way_73 ?_
              refine mp_ways G K hH dX1_way_74 (fun H locs hH => ?_)
              refine mg_from G K hH (lv_at hl 1 rfl) dX1_way_77 dX1_way_78 ?_
              refine r_iload G dX1_way_81 (lv_at hl 0 rfl) ?_
              refine r_iload_n G dX1_way_83 rfl (lv_at hl 2 rfl) ?_
              refine ms_from G K hH (by omega) dX1_way_84 (fun H locs hH => ?_)
              refine mg_to G K hH (lv_at hl 1 rfl) dX1_way_85 dX1_way_86 ?_
              refine r_iload G dX1_way_89 (lv_at hl 0 rfl) ?_
              refine r_iload_n G dX1_way_91 rfl (lv_at hl 3 rfl) ?_
              refine ms_to G K hH (by omega) dX1_way_92 (fun H locs hH => ?_)
              refine mg_counts G K hH (lv_at hl 1 rfl) dX1_way_93 dX1_way_94 ?_
              refine r_iload G dX1_way_97 (lv_at hl 0 rfl) ?_
              refine r_lconst G 0 dX1_way_99 (by decide) ?_
              refine ms_counts G K hH (by omega) dX1_way_100 (fun H locs hH => ?_)
              exact M_way_B G K (v := v.push i1 i2) (k := v.nw) hfr hlo (Nat.lt_succ_self _) c27 (fun pc ls H locs σ dg hH hI => hret _ _ _ _ _ _ dg hH ⟨by rw [way_new hi1 hi2 hbd.2.1 c27 hx c54, push_ct, if_pos rfl], by rw [way_new hi1 hi2 hbd.2.1 c27 hx c54]; exact hI⟩) _ H locs ls hH (hR.push hi1 hi2 c54 k1) (lv_sub hl [1, 4, 5, 0] rfl)
            · refine r_ldc2 G (v := (-3)) q264 dX1_way_57 ?_
              exact hret _ _ _ _ _ _ dX1_way_60 hH ⟨by rw [way_full c5 c13 c27 hx c54], by rw [way_full c5 c13 c27 hx c54]; exact hI⟩
        · refine r_ldc2 G (v := (-2)) q259 dX1_way_30 ?_
          exact hret _ _ _ _ _ _ dX1_way_33 hH ⟨by rw [way_c2 c5 c13 hn c27], by rw [way_c2 c5 c13 hn c27]; exact hI⟩
    · refine r_ldc2 G (v := (-1)) q257 dX1_way_16 ?_
      exact hret _ _ _ _ _ _ dX1_way_19 hH ⟨by rw [way_b2 c13], by rw [way_b2 c13]; exact hI⟩
set_option maxHeartbeats 4000000 in
theorem M_count (l : Launch) (D : va_G) (a : Nat → Nat) (d : Nat → ClassId) {σ : St} {v : Vw} {u w : Int32} (hI : MI σ v) : CMl l yX1_count cX1_count 4 1 23 D (mt d) (mw a d) [.ref (a 0), .int u, .int w] σ (fun r σ' => r = aCnt v u w ∧ MI σ' v) := by
  refine CMl.of (by decide) (Nat.le_of_ble_eq_true rfl) ?_
  intro E ls G hfr hlo K hH hl hret
  have hl : lv_has ls 4 [(0, .ref (a 0)), (1, .int u), (2, .int w)] := hl
  have G : CX E RX1 cX1_count 4 := G
  have hR := hI.1
  have hv := hR.ok
  have hbd := hv.bd
  refine r_aload_n G dX1_count_0 rfl (lv_at hl 0 rfl) ?_
  refine r_iload_n G dX1_count_1 rfl (lv_at hl 1 rfl) ?_
  refine r_iload_n G dX1_count_2 rfl (lv_at hl 2 rfl) ?_
  refine mcall_i G K hH rfl (M_find E.l E.D a d (v := v) hR) q260 q262 qs11 q263 rfl ⟨by omega, by omega⟩ hl.1 (rest := []) rfl (Nat.le_of_ble_eq_true rfl) dX1_count_3 (fun r σ2 H locs hH hp => ?_)
  obtain ⟨hf, es3⟩ := hp
  rw [es3] at hH
  rcases hf with ⟨k, hk, k1, k2, rfl⟩ | ⟨k1, rfl⟩
  · have hx := ix_some hv hk k1 k2
    refine r_istore_n G [(3, .int (nI k)), (0, .ref (a 0)), (1, .int u), (2, .int w)] dX1_count_6 rfl hl (by decide) rfl (fun ls hl => ?_)
    refine r_iload_n G dX1_count_7 rfl (lv_at hl 0 rfl) ?_
    refine n_if_ge G (by omega) 15 dX1_count_8 (by decide) ?_
    refine mg_counts G K hH (lv_at hl 1 rfl) dX1_count_15 dX1_count_16 ?_
    refine r_iload_n G dX1_count_19 rfl (lv_at hl 0 rfl) ?_
    refine ml_counts G K hH (by omega) dX1_count_20 ?_
    refine r_tol (y := (v.ct k)) (hR.ct (by omega)) ?_
    exact hret _ _ _ _ _ _ dX1_count_21 hH ⟨(aCnt_t hx).symm, hI⟩
  · have hx := ix_none k1
    refine r_istore_n G [(3, .int (-1)), (0, .ref (a 0)), (1, .int u), (2, .int w)] dX1_count_6 rfl hl (by decide) rfl (fun ls hl => ?_)
    refine r_iload_n G dX1_count_7 rfl (lv_at hl 0 rfl) ?_
    refine m1_if_ge G 15 dX1_count_8 (by decide) ?_
    refine r_lconst G 0 dX1_count_11 (by decide) ?_
    refine r_goto G 21 dX1_count_12 (by decide) ?_
    exact hret _ _ _ _ _ _ dX1_count_21 hH ⟨(aCnt_f hx).symm, hI⟩
end
section
/-! PLAIN LAW 10: chains and ways as the reference keeps them -/
set_option maxRecDepth 100000
def CsM (v : Vw) (s : Cs) (tb mn co : Nat → Int32) : Prop := (∀ b, b < v.nb → (v.hot b = true → co b = nI (s.co b)) ∧ (v.hot b = false → co b = -1)) ∧ (∀ c, c < v.nb → v.hot c = true → mn c = nI (s.mn c)) ∧ ∀ c, c < v.nb → v.hot c = true → s.co c = c → ∀ i, i < s.mn c → tb (200 * c + i) = nI (s.tb c i)
theorem CsM.ini {v : Vw} {tb mn co : Nat → Int32} (h1 : ∀ b, b < v.nb → (v.hot b = true → co b = nI b) ∧ (v.hot b = false → co b = -1)) (h2 : ∀ c, c < v.nb → v.hot c = true → mn c = nI 1) (h3 : ∀ c, c < v.nb → tb (200 * c) = nI c) : CsM v Cs.ini tb mn co := by
  refine ⟨h1, h2, fun c hc _ _ i hi => ?_⟩
  have h4 : i < 1 := hi
  have h5 : i = 0 := by omega
  rw [h5]
  exact h3 c hc
theorem ne_m1 {j : Nat} (h : j < 2147483648) : ¬ (-1 : Int32) = nI j := by
  intro z
  have z1 := congrArg Int32.toInt z
  rw [nI_toInt h] at z1
  have z2 : (-1 : Int32).toInt = -1 := by decide
  omega
theorem CsM.iff {v : Vw} {s : Cs} {tb mn co : Nat → Int32} (h : CsM v s tb mn co) (hs : CsOk v s) (hb : v.nb ≤ 200) {u c : Nat} (hu : u < v.nb) (hc : c < v.nb) (hh : v.hot c = true) : co u = nI c ↔ s.co u = c := by
  obtain ⟨b1, b2, b3, b4, b5, b6⟩ := hs.1 u hu
  cases e : v.hot u with
  | true =>
    rw [(h.1 u hu).1 e]
    exact nI_eq (by omega) (by omega)
  | false =>
    rw [(h.1 u hu).2 e]
    constructor
    · intro z
      exact absurd z (ne_m1 (by omega))
    · intro z
      rw [z, hh, e] at b6
      cases b6
/-- while the chain of w goes behind the chain of u: j of it done -/
def JnI (v : Vw) (s : Cs) (u w j : Nat) (tb mn co : Nat → Int32) : Prop := (∀ b, b < v.nb → (v.hot b = true → co b = nI (if s.co b = s.co w ∧ s.ps b < j then s.co u else s.co b)) ∧ (v.hot b = false → co b = -1)) ∧ (∀ c, c < v.nb → v.hot c = true → mn c = nI (s.mn c)) ∧ (∀ c, c < v.nb → v.hot c = true → s.co c = c → ∀ i, i < s.mn c → tb (200 * c + i) = nI (s.tb c i)) ∧ ∀ i, i < j → tb (200 * s.co u + s.mn (s.co u) + i) = nI (s.tb (s.co w) i)
theorem JnI.start {v : Vw} {s : Cs} {u w : Nat} {tb mn co : Nat → Int32} (h : CsM v s tb mn co) : JnI v s u w 0 tb mn co := by
  refine ⟨fun b hb => ⟨fun z => ?_, (h.1 b hb).2⟩, h.2.1, h.2.2, fun i hi => absurd hi (Nat.not_lt_zero i)⟩
  rw [if_neg (fun q => absurd q.2 (Nat.not_lt_zero _))]
  exact (h.1 b hb).1 z
theorem JnI.step {v : Vw} {s : Cs} {u w j : Nat} {tb mn co : Nat → Int32} (hs : CsOk v s) (hb : v.nb ≤ 200) (hu : u < v.nb) (hw : w < v.nb) (hhu : v.hot u = true) (hhw : v.hot w = true) (hne : s.co u ≠ s.co w) (h : JnI v s u w j tb mn co) (hj : j < s.mn (s.co w)) : JnI v s u w (j + 1) (upd tb (200 * s.co u + s.mn (s.co u) + j) (nI (s.tb (s.co w) j))) mn (upd co (s.tb (s.co w) j) (nI (s.co u))) := by
  obtain ⟨u1, u2, u3, u4, u5, u6⟩ := hs.1 u hu
  obtain ⟨w1, w2, w3, w4, w5, w6⟩ := hs.1 w hw
  have room := hs.room u1 w1 hne (by rw [u6, hhu]) (by rw [w6, hhw])
  have hnh := nh_le v
  obtain ⟨t1, t2, t3⟩ := hs.2.1 _ w1 w3 j hj
  obtain ⟨h1, h2, h3, h4⟩ := h
  refine ⟨fun b hb' => ⟨fun z => ?_, fun z => ?_⟩, h2, fun c hc hhc hcr i hi => ?_, fun i hi => ?_⟩
  · by_cases e : b = s.tb (s.co w) j
    · rw [e, upd_me, if_pos ⟨t2, by omega⟩]
    · rw [upd_ne e, (h1 b hb').1 z]
      by_cases e2 : s.co b = s.co w
      · have e3 : s.ps b ≠ j := fun q => e (hs.inj hb' t1 (by rw [e2, t2]) (by rw [q, t3]))
        by_cases e4 : s.ps b < j
        · rw [if_pos ⟨e2, e4⟩, if_pos ⟨e2, by omega⟩]
        · rw [if_neg (fun q => e4 q.2), if_neg (fun q => by have := q.2; omega)]
      · rw [if_neg (fun q => e2 q.1), if_neg (fun q => e2 q.1)]
  · have e : b ≠ s.tb (s.co w) j := by
      intro q
      have q2 := (hs.1 _ t1).2.2.2.2.2
      rw [t2, w6, hhw, ← q, z] at q2
      cases q2
    rw [upd_ne e]
    exact (h1 b hb').2 z
  · have e : 200 * c + i ≠ 200 * s.co u + s.mn (s.co u) + j := by
      intro q
      by_cases e2 : c = s.co u
      · rw [← e2] at q
        omega
      · have r2 := hs.room hc u1 e2 hhc (by rw [u6, hhu])
        omega
    rw [upd_ne e]
    exact h3 c hc hhc hcr i hi
  · by_cases e : i = j
    · rw [e, upd_me]
    · rw [upd_ne (by omega)]
      exact h4 i (by omega)
theorem JnI.fin {v : Vw} {s : Cs} {u w : Nat} {tb mn co : Nat → Int32} (hs : CsOk v s) (hu : u < v.nb) (hw : w < v.nb) (hne : s.co u ≠ s.co w) (h : JnI v s u w (s.mn (s.co w)) tb mn co) : CsM v (s.jn u w) tb (upd (upd mn (s.co u) (nI (s.mn (s.co u) + s.mn (s.co w)))) (s.co w) (nI 0)) co := by
  obtain ⟨u1, u2, u3, u4, u5, u6⟩ := hs.1 u hu
  obtain ⟨w1, w2, w3, w4, w5, w6⟩ := hs.1 w hw
  have eco : ∀ b, (s.jn u w).co b = if s.co b = s.co w then s.co u else s.co b := fun _ => rfl
  have emn : ∀ x, (s.jn u w).mn x = if x = s.co u then s.mn (s.co u) + s.mn (s.co w) else if x = s.co w then 0 else s.mn x := fun _ => rfl
  have etb : ∀ x i, (s.jn u w).tb x i = if x = s.co u ∧ s.mn (s.co u) ≤ i then s.tb (s.co w) (i - s.mn (s.co u)) else s.tb x i := fun _ _ => rfl
  generalize s.jn u w = s' at eco emn etb ⊢
  obtain ⟨h1, h2, h3, h4⟩ := h
  refine ⟨fun b hb => ⟨fun z => ?_, (h1 b hb).2⟩, fun c hc hhc => ?_, fun c hc hhc hcr i hi => ?_⟩
  · rw [(h1 b hb).1 z, eco]
    by_cases e : s.co b = s.co w
    · have b2 := (hs.1 b hb).2.1
      rw [e] at b2
      rw [if_pos ⟨e, b2⟩, if_pos e]
    · rw [if_neg (fun q => e q.1), if_neg e]
  · rw [emn]
    by_cases e : c = s.co u
    · rw [if_pos e, e, upd_ne hne, upd_me]
    · rw [if_neg e]
      by_cases e2 : c = s.co w
      · rw [if_pos e2, e2, upd_me]
      · rw [if_neg e2, upd_ne e2, upd_ne e]
        exact h2 c hc hhc
  · rw [eco] at hcr
    by_cases e : s.co c = s.co w
    · rw [if_pos e] at hcr
      rw [← hcr, u3] at e
      exact absurd e hne
    · rw [if_neg e] at hcr
      by_cases e2 : c = s.co u
      · subst e2
        rw [emn, if_pos rfl] at hi
        rw [etb]
        by_cases e3 : s.mn (s.co u) ≤ i
        · rw [if_pos ⟨rfl, e3⟩, ← h4 (i - s.mn (s.co u)) (by omega)]
          congr 1
          omega
        · rw [if_neg (fun q => e3 q.2)]
          exact h3 _ hc hhc hcr i (by omega)
      · have e4 : c ≠ s.co w := fun q => e (by rw [hcr, q])
        rw [emn, if_neg e2, if_neg e4] at hi
        rw [etb, if_neg (fun q => e2 q.1)]
        exact h3 c hc hhc hcr i hi
/-- a way that may join and was not among the first i -/
def unl (v : Vw) (i k : Nat) : Bool := v.cand k && !((List.range i).any (fun j => decide (v.sq j = k)))
theorem unl_iff {v : Vw} {i k : Nat} : unl v i k = true ↔ v.cand k = true ∧ ∀ j, j < i → v.sq j ≠ k := by
  unfold unl
  rw [Bool.and_eq_true, Bool.not_eq_true', List.any_eq_false]
  constructor
  · rintro ⟨h1, h2⟩
    exact ⟨h1, fun j hj e => h2 j (List.mem_range.mpr hj) (decide_eq_true e)⟩
  · rintro ⟨h1, h2⟩
    exact ⟨h1, fun j hj e => h2 j (List.mem_range.mp hj) (of_decide_eq_true e)⟩
theorem unl_0 (v : Vw) (k : Nat) : unl v 0 k = v.cand k := by
  unfold unl
  simp
theorem unl_s {v : Vw} {i k : Nat} (h : v.sq i ≠ k) : unl v (i + 1) k = unl v i k := by
  rw [Bool.eq_iff_iff, unl_iff, unl_iff]
  constructor
  · rintro ⟨h1, h2⟩
    exact ⟨h1, fun j hj => h2 j (by omega)⟩
  · rintro ⟨h1, h2⟩
    refine ⟨h1, fun j hj => ?_⟩
    by_cases e : j = i
    · rw [e]
      exact h
    · exact h2 j (by omega)
theorem unl_me (v : Vw) (i : Nat) : unl v (i + 1) (v.sq i) = false := by
  cases e : unl v (i + 1) (v.sq i) with
  | false => rfl
  | true => exact absurd rfl ((unl_iff.mp e).2 i (by omega))
def LkI (v : Vw) (i : Nat) (f : Nat → Int32) : Prop := ∀ k, k < v.nw → f k = bI (!(unl v i k))
theorem LkI.s {v : Vw} {i : Nat} {f : Nat → Int32} (h : LkI v i f) : LkI v (i + 1) (upd f (v.sq i) (nI 1)) := by
  intro k hk
  by_cases e : k = v.sq i
  · rw [e, upd_me, unl_me]
    rfl
  · rw [upd_ne e, unl_s (Ne.symm e)]
    exact h k hk
theorem unl_best {v : Vw} (hv : v.ok) {i b : Nat} (hi : i ≤ v.sn) (hb : b < v.nw) (h : unl v i b = true) (hm : ∀ k, k < v.nw → unl v i k = true → v.key b ≤ v.key k) : i < v.sn ∧ b = v.sq i := by
  obtain ⟨a1, a2, a3⟩ := srt_sl hv
  obtain ⟨h1, h2⟩ := unl_iff.mp h
  obtain ⟨j, hj, e⟩ := a3 b hb h1
  have hij : i ≤ j := by
    rcases Nat.lt_or_ge j i with q | q
    · exact absurd e (h2 j q)
    · exact q
  have his : i < v.sn := by omega
  refine ⟨his, ?_⟩
  have h3 : unl v i (v.sq i) = true := by
    refine unl_iff.mpr ⟨(a1 i his).2, fun x hx z => ?_⟩
    have := a2 x i hx his
    rw [z] at this
    omega
  have h4 := hm _ (a1 i his).1 h3
  rcases Nat.lt_or_ge i j with q | q
  · have h5 := a2 i j q hj
    rw [e] at h5
    omega
  · have e2 : i = j := by omega
    rw [e2, e]
theorem unl_none {v : Vw} (hv : v.ok) {i : Nat} (hi : i ≤ v.sn) (h : ∀ k, k < v.nw → unl v i k = false) : i = v.sn := by
  rcases Nat.lt_or_ge i v.sn with q | q
  · obtain ⟨a1, a2, a3⟩ := srt_sl hv
    have h3 : unl v i (v.sq i) = true := by
      refine unl_iff.mpr ⟨(a1 i q).2, fun x hx z => ?_⟩
      have := a2 x i hx q
      rw [z] at this
      omega
    rw [h _ (a1 i q).1] at h3
    cases h3
  · omega
/-- the soonest among those below k -/
def BkI (v : Vw) (i k : Nat) (z : Int32) : Prop := (z = -1 ∧ ∀ j, j < k → unl v i j = false) ∨ ∃ b, z = nI b ∧ b < k ∧ unl v i b = true ∧ ∀ j, j < k → unl v i j = true → v.key b ≤ v.key j
theorem bk_skip {v : Vw} {i k b : Nat} (hu : unl v i k = false) (hm : ∀ j, j < k → unl v i j = true → v.key b ≤ v.key j) : ∀ j, j < k + 1 → unl v i j = true → v.key b ≤ v.key j := by
  intro j hj z
  by_cases e : j = k
  · rw [e, hu] at z
    cases z
  · exact hm j (by omega) z
theorem bk_stay {v : Vw} {i k b : Nat} (hle : ¬ v.key k < v.key b) (hm : ∀ j, j < k → unl v i j = true → v.key b ≤ v.key j) : ∀ j, j < k + 1 → unl v i j = true → v.key b ≤ v.key j := by
  intro j hj z
  by_cases e : j = k
  · rw [e]
    omega
  · exact hm j (by omega) z
theorem bk_new {v : Vw} {i k b : Nat} (hlt : v.key k < v.key b) (hm : ∀ j, j < k → unl v i j = true → v.key b ≤ v.key j) : ∀ j, j < k + 1 → unl v i j = true → v.key k ≤ v.key j := by
  intro j hj z
  by_cases e : j = k
  · rw [e]
    exact Int.le_refl _
  · have := hm j (by omega) z
    omega
theorem bk_first {v : Vw} {i k : Nat} (hm : ∀ j, j < k → unl v i j = false) : ∀ j, j < k + 1 → unl v i j = true → v.key k ≤ v.key j := by
  intro j hj z
  by_cases e : j = k
  · rw [e]
    exact Int.le_refl _
  · rw [hm j (by omega)] at z
    cases z
theorem bk_no {v : Vw} {i k : Nat} (hu : unl v i k = false) (hm : ∀ j, j < k → unl v i j = false) : ∀ j, j < k + 1 → unl v i j = false := by
  intro j hj
  by_cases e : j = k
  · rw [e]
    exact hu
  · exact hm j (by omega)
theorem tmv_yes {v : Vw} {s : Cs} {pl : Nat → Bool} {c k : Nat} (h : (s.co (v.fr k) = c ∧ pl (v.ta k) = true) ∨ (s.co (v.ta k) = c ∧ pl (v.fr k) = true)) (x : Int64) : x + tmv v s pl c k = x + v.ct k := by
  unfold tmv
  rw [if_pos h]
theorem tmv_no {v : Vw} {s : Cs} {pl : Nat → Bool} {c k : Nat} (h : ¬ ((s.co (v.fr k) = c ∧ pl (v.ta k) = true) ∨ (s.co (v.ta k) = c ∧ pl (v.fr k) = true))) (x : Int64) : x + tmv v s pl c k = x := by
  unfold tmv
  rw [if_neg h, Int64.add_zero]
theorem last_iff {v : Vw} {s : Cs} (hs : CsOk v s) {u : Nat} (hu : u < v.nb) : s.tb (s.co u) (s.mn (s.co u) - 1) = u ↔ s.ps u + 1 = s.mn (s.co u) := by
  obtain ⟨u1, u2, u3, u4, u5, u6⟩ := hs.1 u hu
  constructor
  · intro e
    have := (hs.2.1 _ u1 u3 (s.mn (s.co u) - 1) (by omega)).2.2
    rw [e] at this
    omega
  · intro e
    rw [show s.mn (s.co u) - 1 = s.ps u by omega]
    exact u5
theorem first_iff {v : Vw} {s : Cs} (hs : CsOk v s) {w : Nat} (hw : w < v.nb) : s.tb (s.co w) 0 = w ↔ s.ps w = 0 := by
  obtain ⟨w1, w2, w3, w4, w5, w6⟩ := hs.1 w hw
  constructor
  · intro e
    have := (hs.2.1 _ w1 w3 0 (by omega)).2.2
    rw [e] at this
    exact this
  · intro e
    rw [e] at w5
    exact w5
end
section
set_option maxRecDepth 100000
set_option maxHeartbeats 4000000 in
theorem M_sum_L {E : Ev} {a : Nat → Nat} {d : Nat → ClassId} {σ : St} {v : Vw} {s : Cs} {pl : Nat → Bool} {c : Nat} (G : CX E RX1 cX1_sum 7) (K : KX E (mt d)) (hR : MR σ v) (hs : CsOk v s) (hC : CsM v s (σ.2.1 8) (σ.2.1 9) (σ.2.1 10)) (hpl : ∀ b, b < v.nb → σ.2.1 16 b = bI (pl b)) (hc : c < v.nb) (hh : v.hot c = true) (hret : ∀ (pc : Nat) (ls : Array Slot) (H : Heap) (locs : List Loc), decode cX1_sum pc = .ok (.lreturn, 1) → MH E a d σ H locs → WE E H locs pc ls [.long (sumc v s pl c)]) :
    ∀ (M : Nat) (k : Nat) (H : Heap) (locs : List Loc) (ls : Array Slot), MH E a d σ H locs → k ≤ v.nw → v.nw - k < M → lv_has ls 7 [(0, .ref (a 0)), (1, .int (nI c)), (2, .long (sumI (tmv v s pl c) k)), (4, .int (nI k))] → WE E H locs 5 ls [] := by
  have hv := hR.ok
  have hbd := hv.bd
  intro M
  induction M with
  | zero => exact fun k H locs ls _ _ q => absurd q (Nat.not_lt_zero _)
  | succ M ih =>
    intro k H locs ls hH hk hM hl
    refine r_iload G dX1_sum_5 (lv_at hl 3 rfl) ?_
    refine mg_ways G K hH (lv_at hl 0 rfl) dX1_sum_7 dX1_sum_8 ?_
    refine r_toi (y := nI v.nw) (hR.nw) ?_
    refine n_icmp_ge G (by omega) (by omega) 90 dX1_sum_11 (by decide) (fun c11 => ?_) (fun c11 => ?_)
    · refine r_lload_n G dX1_sum_90 rfl (lv_at hl 2 rfl) ?_
      have e : k = v.nw := by omega
      subst e
      exact hret _ _ _ _ dX1_sum_91 hH
    · have hfb := hv.frb c11
      have htb := hv.tab c11
      have q1 := hC.iff hs hbd.2.1 hfb hc hh
      have q2 := hC.iff hs hbd.2.1 htb hc hh
      refine mg_from G K hH (lv_at hl 0 rfl) dX1_sum_14 dX1_sum_15 ?_
      refine r_iload G dX1_sum_18 (lv_at hl 3 rfl) ?_
      refine ml_from G K hH (by omega) dX1_sum_20 ?_
      refine r_toi (y := nI (v.fr k)) (hR.fr (by omega)) ?_
      have := hv.frb (k := k) (by omega)
      refine r_istore G [(5, .int (nI (v.fr k))), (0, .ref (a 0)), (1, .int (nI c)), (2, .long (sumI (tmv v s pl c) k)), (4, .int (nI k))] dX1_sum_21 hl (by decide) rfl (fun ls hl => ?_)
      refine mg_to G K hH (lv_at hl 1 rfl) dX1_sum_23 dX1_sum_24 ?_
      refine r_iload G dX1_sum_27 (lv_at hl 4 rfl) ?_
      refine ml_to G K hH (by omega) dX1_sum_29 ?_
      refine r_toi (y := nI (v.ta k)) (hR.ta (by omega)) ?_
      have := hv.tab (k := k) (by omega)
      refine r_istore G [(6, .int (nI (v.ta k))), (5, .int (nI (v.fr k))), (0, .ref (a 0)), (1, .int (nI c)), (2, .long (sumI (tmv v s pl c) k)), (4, .int (nI k))] dX1_sum_30 hl (by decide) rfl (fun ls hl => ?_)
      refine mg_chainOf G K hH (lv_at hl 2 rfl) dX1_sum_32 dX1_sum_33 ?_
      refine r_iload G dX1_sum_36 (lv_at hl 1 rfl) ?_
      refine ml_chainOf G K hH (by omega) dX1_sum_38 ?_
      refine r_iload_n G dX1_sum_39 rfl (lv_at hl 3 rfl) ?_
      refine r_icmp_ne G 53 dX1_sum_40 (by decide) (fun c40 => ?_) (fun c40 => ?_)
      · refine mg_chainOf G K hH (lv_at hl 2 rfl) dX1_sum_53 dX1_sum_54 ?_
        refine r_iload G dX1_sum_57 (lv_at hl 0 rfl) ?_
        refine ml_chainOf G K hH (by omega) dX1_sum_59 ?_
        refine r_iload_n G dX1_sum_60 rfl (lv_at hl 3 rfl) ?_
        refine r_icmp_ne G 84 dX1_sum_61 (by decide) (fun c61 => ?_) (fun c61 => ?_)
        · refine r_iinc G (k := 5) (nI (k + 1)) [(4, .int (nI (k + 1))), (6, .int (nI (v.ta k))), (5, .int (nI (v.fr k))), (0, .ref (a 0)), (1, .int (nI c)), (2, .long (sumI (tmv v s pl c) k))] dX1_sum_84 hl rfl (inc1 _) (by decide) rfl (fun ls hl => ?_)
          refine r_goto G 5 dX1_sum_87 (by decide) ?_
          have e : sumI (tmv v s pl c) (k + 1) = sumI (tmv v s pl c) k := by
            rw [sumI_s, tmv_no (fun z => z.elim (fun z => c40 (q1.mpr z.1)) (fun z => c61 (q2.mpr z.1)))]
          rw [← e] at hl
          exact ih _ H locs ls hH (by omega) (by omega) (lv_sub hl [3, 4, 5, 0] rfl)
        · refine mg_isPlaced G K hH (lv_at hl 2 rfl) dX1_sum_64 dX1_sum_65 ?_
          refine r_iload G dX1_sum_68 (lv_at hl 1 rfl) ?_
          refine ml_isPlaced G K hH (by omega) dX1_sum_70 ?_
          refine r_toi (y := bI (pl (v.fr k))) (hpl _ (by omega)) ?_
          refine b_if_eq G 84 dX1_sum_71 (by decide) (fun c71 => ?_) (fun c71 => ?_)
          · refine r_iinc G (k := 5) (nI (k + 1)) [(4, .int (nI (k + 1))), (6, .int (nI (v.ta k))), (5, .int (nI (v.fr k))), (0, .ref (a 0)), (1, .int (nI c)), (2, .long (sumI (tmv v s pl c) k))] dX1_sum_84 hl rfl (inc1 _) (by decide) rfl (fun ls hl => ?_)
            refine r_goto G 5 dX1_sum_87 (by decide) ?_
            have e : sumI (tmv v s pl c) (k + 1) = sumI (tmv v s pl c) k := by
              rw [sumI_s, tmv_no (fun z => z.elim (fun z => c40 (q1.mpr z.1)) (fun z => by rw [c71] at z; exact absurd z.2 (by decide)))]
            rw [← e] at hl
            exact ih _ H locs ls hH (by omega) (by omega) (lv_sub hl [3, 4, 5, 0] rfl)
          · refine r_lload_n G dX1_sum_74 rfl (lv_at hl 4 rfl) ?_
            refine mg_counts G K hH (lv_at hl 2 rfl) dX1_sum_75 dX1_sum_76 ?_
            refine r_iload G dX1_sum_79 (lv_at hl 5 rfl) ?_
            refine ml_counts G K hH (by omega) dX1_sum_81 ?_
            refine r_tol (y := (v.ct k)) (hR.ct (by omega)) ?_
            refine r_ladd G dX1_sum_82 ?_
            refine r_lstore_n G [(2, .long ((sumI (tmv v s pl c) k) + (v.ct k))), (6, .int (nI (v.ta k))), (5, .int (nI (v.fr k))), (0, .ref (a 0)), (1, .int (nI c)), (4, .int (nI k))] dX1_sum_83 rfl hl (by decide) rfl (fun ls hl => ?_)
            refine r_iinc G (k := 5) (nI (k + 1)) [(4, .int (nI (k + 1))), (2, .long ((sumI (tmv v s pl c) k) + (v.ct k))), (6, .int (nI (v.ta k))), (5, .int (nI (v.fr k))), (0, .ref (a 0)), (1, .int (nI c))] dX1_sum_84 hl rfl (inc1 _) (by decide) rfl (fun ls hl => ?_)
            refine r_goto G 5 dX1_sum_87 (by decide) ?_
            have e : sumI (tmv v s pl c) (k + 1) = sumI (tmv v s pl c) k + v.ct k := by
              rw [sumI_s, tmv_yes (Or.inr ⟨q2.mp c61, c71⟩)]
            rw [← e] at hl
            exact ih _ H locs ls hH (by omega) (by omega) (lv_sub hl [4, 5, 1, 0] rfl)
      · refine mg_isPlaced G K hH (lv_at hl 2 rfl) dX1_sum_43 dX1_sum_44 ?_
        refine r_iload G dX1_sum_47 (lv_at hl 0 rfl) ?_
        refine ml_isPlaced G K hH (by omega) dX1_sum_49 ?_
        refine r_toi (y := bI (pl (v.ta k))) (hpl _ (by omega)) ?_
        refine b_if_ne G 74 dX1_sum_50 (by decide) (fun c50 => ?_) (fun c50 => ?_)
        · refine r_lload_n G dX1_sum_74 rfl (lv_at hl 4 rfl) ?_
          refine mg_counts G K hH (lv_at hl 2 rfl) dX1_sum_75 dX1_sum_76 ?_
          refine r_iload G dX1_sum_79 (lv_at hl 5 rfl) ?_
          refine ml_counts G K hH (by omega) dX1_sum_81 ?_
          refine r_tol (y := (v.ct k)) (hR.ct (by omega)) ?_
          refine r_ladd G dX1_sum_82 ?_
          refine r_lstore_n G [(2, .long ((sumI (tmv v s pl c) k) + (v.ct k))), (6, .int (nI (v.ta k))), (5, .int (nI (v.fr k))), (0, .ref (a 0)), (1, .int (nI c)), (4, .int (nI k))] dX1_sum_83 rfl hl (by decide) rfl (fun ls hl => ?_)
          refine r_iinc G (k := 5) (nI (k + 1)) [(4, .int (nI (k + 1))), (2, .long ((sumI (tmv v s pl c) k) + (v.ct k))), (6, .int (nI (v.ta k))), (5, .int (nI (v.fr k))), (0, .ref (a 0)), (1, .int (nI c))] dX1_sum_84 hl rfl (inc1 _) (by decide) rfl (fun ls hl => ?_)
          refine r_goto G 5 dX1_sum_87 (by decide) ?_
          have e : sumI (tmv v s pl c) (k + 1) = sumI (tmv v s pl c) k + v.ct k := by
            rw [sumI_s, tmv_yes (Or.inl ⟨q1.mp c40, c50⟩)]
          rw [← e] at hl
          exact ih _ H locs ls hH (by omega) (by omega) (lv_sub hl [4, 5, 1, 0] rfl)
        · refine mg_chainOf G K hH (lv_at hl 2 rfl) dX1_sum_53 dX1_sum_54 ?_
          refine r_iload G dX1_sum_57 (lv_at hl 0 rfl) ?_
          refine ml_chainOf G K hH (by omega) dX1_sum_59 ?_
          refine r_iload_n G dX1_sum_60 rfl (lv_at hl 3 rfl) ?_
          refine r_icmp_ne G 84 dX1_sum_61 (by decide) (fun c61 => ?_) (fun c61 => ?_)
          · refine r_iinc G (k := 5) (nI (k + 1)) [(4, .int (nI (k + 1))), (6, .int (nI (v.ta k))), (5, .int (nI (v.fr k))), (0, .ref (a 0)), (1, .int (nI c)), (2, .long (sumI (tmv v s pl c) k))] dX1_sum_84 hl rfl (inc1 _) (by decide) rfl (fun ls hl => ?_)
            refine r_goto G 5 dX1_sum_87 (by decide) ?_
            have e : sumI (tmv v s pl c) (k + 1) = sumI (tmv v s pl c) k := by
              rw [sumI_s, tmv_no (fun z => z.elim (fun z => by rw [c50] at z; exact absurd z.2 (by decide)) (fun z => c61 (q2.mpr z.1)))]
            rw [← e] at hl
            exact ih _ H locs ls hH (by omega) (by omega) (lv_sub hl [3, 4, 5, 0] rfl)
          · refine mg_isPlaced G K hH (lv_at hl 2 rfl) dX1_sum_64 dX1_sum_65 ?_
            refine r_iload G dX1_sum_68 (lv_at hl 1 rfl) ?_
            refine ml_isPlaced G K hH (by omega) dX1_sum_70 ?_
            refine r_toi (y := bI (pl (v.fr k))) (hpl _ (by omega)) ?_
            refine b_if_eq G 84 dX1_sum_71 (by decide) (fun c71 => ?_) (fun c71 => ?_)
            · refine r_iinc G (k := 5) (nI (k + 1)) [(4, .int (nI (k + 1))), (6, .int (nI (v.ta k))), (5, .int (nI (v.fr k))), (0, .ref (a 0)), (1, .int (nI c)), (2, .long (sumI (tmv v s pl c) k))] dX1_sum_84 hl rfl (inc1 _) (by decide) rfl (fun ls hl => ?_)
              refine r_goto G 5 dX1_sum_87 (by decide) ?_
              have e : sumI (tmv v s pl c) (k + 1) = sumI (tmv v s pl c) k := by
                rw [sumI_s, tmv_no (fun z => z.elim (fun z => by rw [c50] at z; exact absurd z.2 (by decide)) (fun z => by rw [c71] at z; exact absurd z.2 (by decide)))]
              rw [← e] at hl
              exact ih _ H locs ls hH (by omega) (by omega) (lv_sub hl [3, 4, 5, 0] rfl)
            · refine r_lload_n G dX1_sum_74 rfl (lv_at hl 4 rfl) ?_
              refine mg_counts G K hH (lv_at hl 2 rfl) dX1_sum_75 dX1_sum_76 ?_
              refine r_iload G dX1_sum_79 (lv_at hl 5 rfl) ?_
              refine ml_counts G K hH (by omega) dX1_sum_81 ?_
              refine r_tol (y := (v.ct k)) (hR.ct (by omega)) ?_
              refine r_ladd G dX1_sum_82 ?_
              refine r_lstore_n G [(2, .long ((sumI (tmv v s pl c) k) + (v.ct k))), (6, .int (nI (v.ta k))), (5, .int (nI (v.fr k))), (0, .ref (a 0)), (1, .int (nI c)), (4, .int (nI k))] dX1_sum_83 rfl hl (by decide) rfl (fun ls hl => ?_)
              refine r_iinc G (k := 5) (nI (k + 1)) [(4, .int (nI (k + 1))), (2, .long ((sumI (tmv v s pl c) k) + (v.ct k))), (6, .int (nI (v.ta k))), (5, .int (nI (v.fr k))), (0, .ref (a 0)), (1, .int (nI c))] dX1_sum_84 hl rfl (inc1 _) (by decide) rfl (fun ls hl => ?_)
              refine r_goto G 5 dX1_sum_87 (by decide) ?_
              have e : sumI (tmv v s pl c) (k + 1) = sumI (tmv v s pl c) k + v.ct k := by
                rw [sumI_s, tmv_yes (Or.inr ⟨q2.mp c61, c71⟩)]
              rw [← e] at hl
              exact ih _ H locs ls hH (by omega) (by omega) (lv_sub hl [4, 5, 1, 0] rfl)
set_option maxHeartbeats 4000000 in
theorem M_sum (l : Launch) (D : va_G) (a : Nat → Nat) (d : Nat → ClassId) {σ : St} {v : Vw} {s : Cs} {pl : Nat → Bool} {c : Nat} (hR : MR σ v) (hs : CsOk v s) (hC : CsM v s (σ.2.1 8) (σ.2.1 9) (σ.2.1 10)) (hpl : ∀ b, b < v.nb → σ.2.1 16 b = bI (pl b)) (hc : c < v.nb) (hh : v.hot c = true) : CMl l yX1_sum cX1_sum 7 0 0 D (mt d) (mw a d) [.ref (a 0), .int (nI c)] σ (fun r σ' => r = sumc v s pl c ∧ σ' = σ) := by
  refine CMl.of (by decide) (Nat.le_of_ble_eq_true rfl) ?_
  intro E ls G hfr hlo K hH hl hret
  have hl : lv_has ls 7 [(0, .ref (a 0)), (1, .int (nI c))] := hl
  have G : CX E RX1 cX1_sum 7 := G
  refine r_lconst G 0 dX1_sum_0 (by decide) ?_
  refine r_lstore_n G [(2, .long 0), (0, .ref (a 0)), (1, .int (nI c))] dX1_sum_1 rfl hl (by decide) rfl (fun ls hl => ?_)
  refine r_iconst G (nI 0) dX1_sum_2 (by decide) ?_
  refine r_istore G [(4, .int (nI 0)), (2, .long 0), (0, .ref (a 0)), (1, .int (nI c))] dX1_sum_3 hl (by decide) rfl (fun ls hl => ?_)
  exact M_sum_L G K hR hs hC hpl hc hh (fun pc ls H locs dg hH => hret _ _ _ _ _ _ dg hH ⟨rfl, rfl⟩) (v.nw + 1) 0 _ _ ls hH (Nat.zero_le _) (by omega) (lv_sub hl [2, 3, 1, 0] rfl)
set_option maxHeartbeats 4000000 in
theorem M_weightOf_L {E : Ev} {a : Nat → Nat} {d : Nat → ClassId} {σ : St} {v : Vw} {row : Nat → Nat} {n : Nat} {rk pq pt : Nat} (G : CX E RX1 cX1_weightOf 7) (K : KX E (mt d)) (hfr : 1 ≤ E.R.frames) (hlo : 23 ≤ E.R.locals) (hR : MR σ v) (hrow : RowOk v row n) (hn : n ≤ 200) (hr : ∀ i, i < n → σ.2.1 rk i = nI (row i)) (hq : (mw a d σ)[pq]? = some (a rk, .inl (d rk, 200, .inl (σ.2.1 rk)))) (ht : (mt d)[pt]? = some (d rk, .int)) (hret : ∀ (pc : Nat) (ls : Array Slot) (H : Heap) (locs : List Loc), decode cX1_weightOf pc = .ok (.lreturn, 1) → MH E a d σ H locs → WE E H locs pc ls [.long (wst v row n)]) :
    ∀ (M : Nat) (k : Nat) (H : Heap) (locs : List Loc) (ls : Array Slot), MH E a d σ H locs → k ≤ n - 1 → n - k < M → lv_has ls 7 [(0, .ref (a 0)), (1, .ref (a rk)), (2, .int (nI n)), (3, .long (wsm v row k)), (5, .int (nI k))] → WE E H locs 5 ls [] := by
  have hv := hR.ok
  have hbd := hv.bd
  intro M
  induction M with
  | zero => exact fun k H locs ls _ _ q => absurd q (Nat.not_lt_zero _)
  | succ M ih =>
    intro k H locs ls hH hk hM hl
    refine r_iload G dX1_weightOf_5 (lv_at hl 4 rfl) ?_
    refine r_iconst G (nI 1) dX1_weightOf_7 (by decide) ?_
    refine r_iaddN G dX1_weightOf_8 ?_
    refine r_iload_n G dX1_weightOf_9 rfl (lv_at hl 2 rfl) ?_
    refine n_icmp_ge G (by omega) (by omega) 60 dX1_weightOf_10 (by decide) (fun c10 => ?_) (fun c10 => ?_)
    · refine r_lload_n G dX1_weightOf_60 rfl (lv_at hl 3 rfl) ?_
      have e : k = n - 1 := by omega
      subst e
      exact hret _ _ _ _ dX1_weightOf_61 hH
    · refine r_aload_n G dX1_weightOf_13 rfl (lv_at hl 0 rfl) ?_
      refine r_aload_n G dX1_weightOf_14 rfl (lv_at hl 1 rfl) ?_
      refine r_iload G dX1_weightOf_15 (lv_at hl 4 rfl) ?_
      refine ml_any G K hH hq ht (by omega) dX1_weightOf_17 ?_
      refine r_toi (y := nI (row k)) (hr k (by omega)) ?_
      have := hrow.1 k (by omega)
      refine r_aload_n G dX1_weightOf_18 rfl (lv_at hl 1 rfl) ?_
      refine r_iload G dX1_weightOf_19 (lv_at hl 4 rfl) ?_
      refine r_iconst G (nI 1) dX1_weightOf_21 (by decide) ?_
      refine r_iaddN G dX1_weightOf_22 ?_
      refine ml_any G K hH hq ht (by omega) dX1_weightOf_23 ?_
      refine r_toi (y := nI (row (k + 1))) (hr (k + 1) (by omega)) ?_
      have := hrow.1 (k + 1) (by omega)
      refine mcall_i G K hH rfl (M_find E.l E.D a d (v := v) hR) q260 q262 qs11 q263 rfl ⟨by omega, by omega⟩ hl.1 (rest := []) rfl (Nat.le_of_ble_eq_true rfl) dX1_weightOf_24 (fun r σ2 H locs hH hp => ?_)
      obtain ⟨hf, es⟩ := hp
      rw [es] at hH
      rcases hf with ⟨x, hx, k1, k2, rfl⟩ | ⟨k1, rfl⟩
      · have := hv.frb hx
        have := hv.tab hx
        have k1 := (nI_eq (by omega) (by omega)).mp k1
        have k2 := (nI_eq (by omega) (by omega)).mp k2
        refine r_istore G [(6, .int (nI x)), (0, .ref (a 0)), (1, .ref (a rk)), (2, .int (nI n)), (3, .long (wsm v row k)), (5, .int (nI k))] dX1_weightOf_27 hl (by decide) rfl (fun ls hl => ?_)
        refine r_iload G dX1_weightOf_29 (lv_at hl 0 rfl) ?_
        refine n_if_lt G (by omega) 54 dX1_weightOf_31 (by decide) ?_
        refine mg_fall G K hH (lv_at hl 1 rfl) dX1_weightOf_34 dX1_weightOf_35 ?_
        refine r_iload G dX1_weightOf_38 (lv_at hl 0 rfl) ?_
        refine ml_fall G K hH (by omega) dX1_weightOf_40 ?_
        refine r_toi (y := bI (v.fa x)) (hR.fa (by omega)) ?_
        refine b_if_eq G 54 dX1_weightOf_41 (by decide) (fun c41 => ?_) (fun c41 => ?_)
        · refine r_iinc G (k := 5) (nI (k + 1)) [(5, .int (nI (k + 1))), (6, .int (nI x)), (0, .ref (a 0)), (1, .ref (a rk)), (2, .int (nI n)), (3, .long (wsm v row k))] dX1_weightOf_54 hl rfl (inc1 _) (by decide) rfl (fun ls hl => ?_)
          refine r_goto G 5 dX1_weightOf_57 (by decide) ?_
          have e : wsm v row (k + 1) = wsm v row k := wsm_no (fun y hy z1 z2 => by rw [hv.2.2 y x hy hx (z1.trans k1.symm) (z2.trans k2.symm)]; exact c41)
          rw [← e] at hl
          exact ih _ H locs ls hH (by omega) (by omega) (lv_sub hl [2, 3, 4, 5, 0] rfl)
        · refine r_lload_n G dX1_weightOf_44 rfl (lv_at hl 4 rfl) ?_
          refine mg_counts G K hH (lv_at hl 1 rfl) dX1_weightOf_45 dX1_weightOf_46 ?_
          refine r_iload G dX1_weightOf_49 (lv_at hl 0 rfl) ?_
          refine ml_counts G K hH (by omega) dX1_weightOf_51 ?_
          refine r_tol (y := (v.ct x)) (hR.ct (by omega)) ?_
          refine r_ladd G dX1_weightOf_52 ?_
          refine r_lstore_n G [(3, .long ((wsm v row k) + (v.ct x))), (6, .int (nI x)), (0, .ref (a 0)), (1, .ref (a rk)), (2, .int (nI n)), (5, .int (nI k))] dX1_weightOf_53 rfl hl (by decide) rfl (fun ls hl => ?_)
          refine r_iinc G (k := 5) (nI (k + 1)) [(5, .int (nI (k + 1))), (3, .long ((wsm v row k) + (v.ct x))), (6, .int (nI x)), (0, .ref (a 0)), (1, .ref (a rk)), (2, .int (nI n))] dX1_weightOf_54 hl rfl (inc1 _) (by decide) rfl (fun ls hl => ?_)
          refine r_goto G 5 dX1_weightOf_57 (by decide) ?_
          have e : wsm v row (k + 1) = wsm v row k + v.ct x := wsm_yes hv hx k1 k2 c41 (fun i hi => hrow.2 i k hi (by omega))
          rw [← e] at hl
          exact ih _ H locs ls hH (by omega) (by omega) (lv_sub hl [3, 4, 5, 1, 0] rfl)
      · refine r_istore G [(6, .int (-1)), (0, .ref (a 0)), (1, .ref (a rk)), (2, .int (nI n)), (3, .long (wsm v row k)), (5, .int (nI k))] dX1_weightOf_27 hl (by decide) rfl (fun ls hl => ?_)
        refine r_iload G dX1_weightOf_29 (lv_at hl 0 rfl) ?_
        refine m1_if_lt G 54 dX1_weightOf_31 (by decide) ?_
        refine r_iinc G (k := 5) (nI (k + 1)) [(5, .int (nI (k + 1))), (6, .int (-1)), (0, .ref (a 0)), (1, .ref (a rk)), (2, .int (nI n)), (3, .long (wsm v row k))] dX1_weightOf_54 hl rfl (inc1 _) (by decide) rfl (fun ls hl => ?_)
        refine r_goto G 5 dX1_weightOf_57 (by decide) ?_
        have e : wsm v row (k + 1) = wsm v row k := wsm_no (fun y hy z1 z2 => absurd trivial (fun _ => k1 y hy (congrArg nI z1) (congrArg nI z2)))
        rw [← e] at hl
        exact ih _ H locs ls hH (by omega) (by omega) (lv_sub hl [2, 3, 4, 5, 0] rfl)
set_option maxHeartbeats 4000000 in
theorem M_weightOf (l : Launch) (D : va_G) (a : Nat → Nat) (d : Nat → ClassId) {σ : St} {v : Vw} {row : Nat → Nat} {n : Nat} {rk pq pt : Nat} (hR : MR σ v) (hrow : RowOk v row n) (hn : n ≤ 200) (hr : ∀ i, i < n → σ.2.1 rk i = nI (row i)) (hq : (mw a d σ)[pq]? = some (a rk, .inl (d rk, 200, .inl (σ.2.1 rk)))) (ht : (mt d)[pt]? = some (d rk, .int)) : CMl l yX1_weightOf cX1_weightOf 7 1 23 D (mt d) (mw a d) [.ref (a 0), .ref (a rk), .int (nI n)] σ (fun r σ' => r = wst v row n ∧ σ' = σ) := by
  refine CMl.of (by decide) (Nat.le_of_ble_eq_true rfl) ?_
  intro E ls G hfr hlo K hH hl hret
  have hl : lv_has ls 7 [(0, .ref (a 0)), (1, .ref (a rk)), (2, .int (nI n))] := hl
  have G : CX E RX1 cX1_weightOf 7 := G
  refine r_lconst G 0 dX1_weightOf_0 (by decide) ?_
  refine r_lstore_n G [(3, .long 0), (0, .ref (a 0)), (1, .ref (a rk)), (2, .int (nI n))] dX1_weightOf_1 rfl hl (by decide) rfl (fun ls hl => ?_)
  refine r_iconst G (nI 0) dX1_weightOf_2 (by decide) ?_
  refine r_istore G [(5, .int (nI 0)), (3, .long 0), (0, .ref (a 0)), (1, .ref (a rk)), (2, .int (nI n))] dX1_weightOf_3 hl (by decide) rfl (fun ls hl => ?_)
  refine M_weightOf_L G K hfr hlo hR hrow hn hr hq ht (fun pc ls H locs dg hH => hret _ _ _ _ _ _ dg hH ⟨rfl, rfl⟩) (n + 1) 0 _ _ ls hH (Nat.zero_le _) (by omega) ?_
  rw [wsm_0]
  exact (lv_sub hl [2, 3, 4, 1, 0] rfl)
end
section
set_option maxRecDepth 100000
theorem CsOk.mn_le {v : Vw} {s : Cs} (h : CsOk v s) {c : Nat} (hc : c < v.nb) (h1 : v.hot c = true) : s.mn c ≤ v.nh := by
  have h3 := sumN_ge (f := fun c => if v.hot c = true then s.mn c else 0) hc
  simp only [h1, if_true, h.2.2.2] at h3
  exact h3
def MF (σ0 σ : St) : Prop := σ.1 = σ0.1 ∧ σ.2.1 12 = σ0.2.1 12
theorem not_t {b : Bool} (h : (!b) = true) : b = false := by
  cases b
  · rfl
  · cases h
theorem not_f {b : Bool} (h : (!b) = false) : b = true := by
  cases b
  · cases h
  · rfl
set_option maxHeartbeats 4000000 in
theorem M_chains_L1 {E : Ev} {a : Nat → Nat} {d : Nat → ClassId} {σ0 : St} {v : Vw} (G : CX E RX1 cX1_chains 7) (K : KX E (mt d)) (kk : ∀ (σ : St) (H : Heap) (locs : List Loc) (ls : Array Slot), MH E a d σ H locs → MR σ v → MF σ0 σ → CsM v Cs.ini (σ.2.1 8) (σ.2.1 9) (σ.2.1 10) → LkI v 0 (σ.2.1 15) → lv_has ls 7 [(0, .ref (a 0))] → WE E H locs 75 ls []) :
    ∀ (M : Nat) (σ : St) (k : Nat) (H : Heap) (locs : List Loc) (ls : Array Slot), MH E a d σ H locs → MR σ v → MF σ0 σ → CsM v Cs.ini (σ.2.1 8) (σ.2.1 9) (σ.2.1 10) → (∀ i, i < k → σ.2.1 15 i = bI (!(v.cand i))) → k ≤ v.nw → v.nw - k < M → lv_has ls 7 [(0, .ref (a 0)), (1, .int (nI k))] → WE E H locs 2 ls [] := by
  intro M
  induction M with
  | zero => exact fun σ k H locs ls _ _ _ _ _ _ q => absurd q (Nat.not_lt_zero _)
  | succ M ih =>
    intro σ k H locs ls hH hR hF hC h15 hk hM hl
    have hv := hR.ok
    have hbd := hv.bd
    refine r_iload_n G dX1_chains_2 rfl (lv_at hl 1 rfl) ?_
    refine mg_ways G K hH (lv_at hl 0 rfl) dX1_chains_3 dX1_chains_4 ?_
    refine r_toi (y := nI v.nw) (hR.nw) ?_
    refine n_icmp_ge G (by omega) (by omega) 75 dX1_chains_7 (by decide) (fun c7 => ?_) (fun c7 => ?_)
    · have e : k = v.nw := by omega
      subst e
      exact kk σ H locs ls hH hR hF hC (fun k hk => by rw [unl_0]; exact h15 k hk) (lv_sub hl [0] rfl)
    · refine mg_looked G K hH (lv_at hl 0 rfl) dX1_chains_10 dX1_chains_11 ?_
      refine r_iload_n G dX1_chains_14 rfl (lv_at hl 1 rfl) ?_
      refine mg_fall G K hH (lv_at hl 0 rfl) dX1_chains_15 dX1_chains_16 ?_
      refine r_iload_n G dX1_chains_19 rfl (lv_at hl 1 rfl) ?_
      refine ml_fall G K hH (by omega) dX1_chains_20 ?_
      refine r_toi (y := bI (v.fa k)) (hR.fa (by omega)) ?_
      refine b_if_eq G 63 dX1_chains_21 (by decide) (fun c21 => ?_) (fun c21 => ?_)
      · refine r_iconst G (nI 1) dX1_chains_63 (by decide) ?_
        refine r_goto G 68 dX1_chains_64 (by decide) ?_
        have hc : v.cand k = false := by unfold Vw.cand; simp [c21]
        refine r_toi (y := bI (!(v.cand k))) (by rw [hc]; rfl) ?_
        refine ms_looked G K hH (by omega) (bI_vp _) dX1_chains_68 (fun H locs hH => ?_)
        refine r_iinc G (k := 1) (nI (k + 1)) [(1, .int (nI (k + 1))), (0, .ref (a 0))] dX1_chains_69 hl rfl (inc1 _) (by decide) rfl (fun ls hl => ?_)
        refine r_goto G 2 dX1_chains_72 (by decide) ?_
        have g15 : ∀ i, i < k + 1 → upd (σ.2.1 15) k (bI (!(v.cand k))) i = bI (!(v.cand i)) := upd_run (g := fun i => bI (!(v.cand i))) h15 rfl
        exact ih _ _ H locs ls hH hR hF hC g15 (by omega) (by omega) (lv_sub hl [1, 0] rfl)
      · refine mg_counts G K hH (lv_at hl 0 rfl) dX1_chains_24 dX1_chains_25 ?_
        refine r_iload_n G dX1_chains_28 rfl (lv_at hl 1 rfl) ?_
        refine ml_counts G K hH (by omega) dX1_chains_29 ?_
        refine r_tol (y := (v.ct k)) (hR.ct (by omega)) ?_
        refine r_lconst G 0 dX1_chains_30 (by decide) ?_
        refine l_cmp_eq G 63 dX1_chains_31 dX1_chains_32 (by decide) (fun c31 => ?_) (fun c31 => ?_)
        · refine r_iconst G (nI 1) dX1_chains_63 (by decide) ?_
          refine r_goto G 68 dX1_chains_64 (by decide) ?_
          have hc : v.cand k = false := by unfold Vw.cand; simp [c31]
          refine r_toi (y := bI (!(v.cand k))) (by rw [hc]; rfl) ?_
          refine ms_looked G K hH (by omega) (bI_vp _) dX1_chains_68 (fun H locs hH => ?_)
          refine r_iinc G (k := 1) (nI (k + 1)) [(1, .int (nI (k + 1))), (0, .ref (a 0))] dX1_chains_69 hl rfl (inc1 _) (by decide) rfl (fun ls hl => ?_)
          refine r_goto G 2 dX1_chains_72 (by decide) ?_
          have g15 : ∀ i, i < k + 1 → upd (σ.2.1 15) k (bI (!(v.cand k))) i = bI (!(v.cand i)) := upd_run (g := fun i => bI (!(v.cand i))) h15 rfl
          exact ih _ _ H locs ls hH hR hF hC g15 (by omega) (by omega) (lv_sub hl [1, 0] rfl)
        · refine mg_hot G K hH (lv_at hl 0 rfl) dX1_chains_35 dX1_chains_36 ?_
          refine mg_from G K hH (lv_at hl 0 rfl) dX1_chains_39 dX1_chains_40 ?_
          refine r_iload_n G dX1_chains_43 rfl (lv_at hl 1 rfl) ?_
          refine ml_from G K hH (by omega) dX1_chains_44 ?_
          refine r_toi (y := nI (v.fr k)) (hR.fr (by omega)) ?_
          have := hv.frb (k := k) (by omega)
          refine ml_hot G K hH (by omega) dX1_chains_45 ?_
          refine r_toi (y := bI (v.hot (v.fr k))) (hR.hot (by omega)) ?_
          refine b_if_eq G 63 dX1_chains_46 (by decide) (fun c46 => ?_) (fun c46 => ?_)
          · refine r_iconst G (nI 1) dX1_chains_63 (by decide) ?_
            refine r_goto G 68 dX1_chains_64 (by decide) ?_
            have hc : v.cand k = false := by unfold Vw.cand; simp [c46]
            refine r_toi (y := bI (!(v.cand k))) (by rw [hc]; rfl) ?_
            refine ms_looked G K hH (by omega) (bI_vp _) dX1_chains_68 (fun H locs hH => ?_)
            refine r_iinc G (k := 1) (nI (k + 1)) [(1, .int (nI (k + 1))), (0, .ref (a 0))] dX1_chains_69 hl rfl (inc1 _) (by decide) rfl (fun ls hl => ?_)
            refine r_goto G 2 dX1_chains_72 (by decide) ?_
            have g15 : ∀ i, i < k + 1 → upd (σ.2.1 15) k (bI (!(v.cand k))) i = bI (!(v.cand i)) := upd_run (g := fun i => bI (!(v.cand i))) h15 rfl
            exact ih _ _ H locs ls hH hR hF hC g15 (by omega) (by omega) (lv_sub hl [1, 0] rfl)
          · refine mg_hot G K hH (lv_at hl 0 rfl) dX1_chains_49 dX1_chains_50 ?_
            refine mg_to G K hH (lv_at hl 0 rfl) dX1_chains_53 dX1_chains_54 ?_
            refine r_iload_n G dX1_chains_57 rfl (lv_at hl 1 rfl) ?_
            refine ml_to G K hH (by omega) dX1_chains_58 ?_
            refine r_toi (y := nI (v.ta k)) (hR.ta (by omega)) ?_
            have := hv.tab (k := k) (by omega)
            refine ml_hot G K hH (by omega) dX1_chains_59 ?_
            refine r_toi (y := bI (v.hot (v.ta k))) (hR.hot (by omega)) ?_
            refine b_if_ne G 67 dX1_chains_60 (by decide) (fun c60 => ?_) (fun c60 => ?_)
            · refine r_iconst G (nI 0) dX1_chains_67 (by decide) ?_
              have hc : v.cand k = true := by unfold Vw.cand; simp [c21, c31, c46, c60]
              refine r_toi (y := bI (!(v.cand k))) (by rw [hc]; rfl) ?_
              refine ms_looked G K hH (by omega) (bI_vp _) dX1_chains_68 (fun H locs hH => ?_)
              refine r_iinc G (k := 1) (nI (k + 1)) [(1, .int (nI (k + 1))), (0, .ref (a 0))] dX1_chains_69 hl rfl (inc1 _) (by decide) rfl (fun ls hl => ?_)
              refine r_goto G 2 dX1_chains_72 (by decide) ?_
              have g15 : ∀ i, i < k + 1 → upd (σ.2.1 15) k (bI (!(v.cand k))) i = bI (!(v.cand i)) := upd_run (g := fun i => bI (!(v.cand i))) h15 rfl
              exact ih _ _ H locs ls hH hR hF hC g15 (by omega) (by omega) (lv_sub hl [1, 0] rfl)
            · refine r_iconst G (nI 1) dX1_chains_63 (by decide) ?_
              refine r_goto G 68 dX1_chains_64 (by decide) ?_
              have hc : v.cand k = false := by unfold Vw.cand; simp [c60]
              refine r_toi (y := bI (!(v.cand k))) (by rw [hc]; rfl) ?_
              refine ms_looked G K hH (by omega) (bI_vp _) dX1_chains_68 (fun H locs hH => ?_)
              refine r_iinc G (k := 1) (nI (k + 1)) [(1, .int (nI (k + 1))), (0, .ref (a 0))] dX1_chains_69 hl rfl (inc1 _) (by decide) rfl (fun ls hl => ?_)
              refine r_goto G 2 dX1_chains_72 (by decide) ?_
              have g15 : ∀ i, i < k + 1 → upd (σ.2.1 15) k (bI (!(v.cand k))) i = bI (!(v.cand i)) := upd_run (g := fun i => bI (!(v.cand i))) h15 rfl
              exact ih _ _ H locs ls hH hR hF hC g15 (by omega) (by omega) (lv_sub hl [1, 0] rfl)
set_option maxHeartbeats 4000000 in
theorem M_chains_L2 {E : Ev} {a : Nat → Nat} {d : Nat → ClassId} {σ : St} {v : Vw} {i : Nat} (G : CX E RX1 cX1_chains 7) (K : KX E (mt d)) (hfr : 1 ≤ E.R.frames) (hlo : 22 ≤ E.R.locals) (hR : MR σ v) (hL : LkI v i (σ.2.1 15)) (kk : ∀ (z : Int32) (H : Heap) (locs : List Loc) (ls : Array Slot), MH E a d σ H locs → BkI v i v.nw z → lv_has ls 7 [(0, .ref (a 0)), (1, .int z)] → WE E H locs 123 ls []) :
    ∀ (M : Nat) (k : Nat) (z : Int32) (H : Heap) (locs : List Loc) (ls : Array Slot), MH E a d σ H locs → BkI v i k z → k ≤ v.nw → v.nw - k < M → lv_has ls 7 [(0, .ref (a 0)), (1, .int z), (2, .int (nI k))] → WE E H locs 85 ls [] := by
  have hv := hR.ok
  have hbd := hv.bd
  intro M
  induction M with
  | zero => exact fun k z H locs ls _ _ _ q => absurd q (Nat.not_lt_zero _)
  | succ M ih =>
    intro k z H locs ls hH hz hk hM hl
    rcases hz with ⟨rfl, hm⟩ | ⟨b, rfl, hb, hu, hm⟩
    · refine r_iload_n G dX1_chains_85 rfl (lv_at hl 2 rfl) ?_
      refine mg_ways G K hH (lv_at hl 0 rfl) dX1_chains_86 dX1_chains_87 ?_
      refine r_toi (y := nI v.nw) (hR.nw) ?_
      refine n_icmp_ge G (by omega) (by omega) 123 dX1_chains_90 (by decide) (fun c90 => ?_) (fun c90 => ?_)
      · have e : k = v.nw := by omega
        subst e
        exact kk _ H locs ls hH (Or.inl ⟨rfl, hm⟩) (lv_sub hl [0, 1] rfl)
      · refine mg_looked G K hH (lv_at hl 0 rfl) dX1_chains_93 dX1_chains_94 ?_
        refine r_iload_n G dX1_chains_97 rfl (lv_at hl 2 rfl) ?_
        refine ml_looked G K hH (by omega) dX1_chains_98 ?_
        refine r_toi (y := bI (!(unl v i k))) (hL k (by omega)) ?_
        refine b_if_ne G 117 dX1_chains_99 (by decide) (fun c99 => ?_) (fun c99 => ?_)
        · refine r_iinc G (k := 2) (nI (k + 1)) [(2, .int (nI (k + 1))), (0, .ref (a 0)), (1, .int (-1))] dX1_chains_117 hl rfl (inc1 _) (by decide) rfl (fun ls hl => ?_)
          refine r_goto G 85 dX1_chains_120 (by decide) ?_
          exact ih _ _ H locs ls hH (Or.inl ⟨rfl, bk_no (not_t c99) hm⟩) (by omega) (by omega) (lv_sub hl [1, 2, 0] rfl)
        · refine r_iload_n G dX1_chains_102 rfl (lv_at hl 1 rfl) ?_
          refine m1_if_lt G 115 dX1_chains_103 (by decide) ?_
          refine r_iload_n G dX1_chains_115 rfl (lv_at hl 2 rfl) ?_
          refine r_istore_n G [(1, .int (nI k)), (0, .ref (a 0)), (2, .int (nI k))] dX1_chains_116 rfl hl (by decide) rfl (fun ls hl => ?_)
          refine r_iinc G (k := 2) (nI (k + 1)) [(2, .int (nI (k + 1))), (1, .int (nI k)), (0, .ref (a 0))] dX1_chains_117 hl rfl (inc1 _) (by decide) rfl (fun ls hl => ?_)
          refine r_goto G 85 dX1_chains_120 (by decide) ?_
          exact ih _ _ H locs ls hH (Or.inr ⟨k, rfl, by omega, not_f c99, bk_first hm⟩) (by omega) (by omega) (lv_sub hl [2, 1, 0] rfl)
    · refine r_iload_n G dX1_chains_85 rfl (lv_at hl 2 rfl) ?_
      refine mg_ways G K hH (lv_at hl 0 rfl) dX1_chains_86 dX1_chains_87 ?_
      refine r_toi (y := nI v.nw) (hR.nw) ?_
      refine n_icmp_ge G (by omega) (by omega) 123 dX1_chains_90 (by decide) (fun c90 => ?_) (fun c90 => ?_)
      · have e : k = v.nw := by omega
        subst e
        exact kk _ H locs ls hH (Or.inr ⟨b, rfl, hb, hu, hm⟩) (lv_sub hl [0, 1] rfl)
      · refine mg_looked G K hH (lv_at hl 0 rfl) dX1_chains_93 dX1_chains_94 ?_
        refine r_iload_n G dX1_chains_97 rfl (lv_at hl 2 rfl) ?_
        refine ml_looked G K hH (by omega) dX1_chains_98 ?_
        refine r_toi (y := bI (!(unl v i k))) (hL k (by omega)) ?_
        refine b_if_ne G 117 dX1_chains_99 (by decide) (fun c99 => ?_) (fun c99 => ?_)
        · refine r_iinc G (k := 2) (nI (k + 1)) [(2, .int (nI (k + 1))), (0, .ref (a 0)), (1, .int (nI b))] dX1_chains_117 hl rfl (inc1 _) (by decide) rfl (fun ls hl => ?_)
          refine r_goto G 85 dX1_chains_120 (by decide) ?_
          exact ih _ _ H locs ls hH (Or.inr ⟨b, rfl, by omega, hu, bk_skip (not_t c99) hm⟩) (by omega) (by omega) (lv_sub hl [1, 2, 0] rfl)
        · refine r_iload_n G dX1_chains_102 rfl (lv_at hl 1 rfl) ?_
          refine n_if_lt G (by omega) 115 dX1_chains_103 (by decide) ?_
          refine r_aload_n G dX1_chains_106 rfl (lv_at hl 0 rfl) ?_
          refine r_iload_n G dX1_chains_107 rfl (lv_at hl 2 rfl) ?_
          refine r_iload_n G dX1_chains_108 rfl (lv_at hl 1 rfl) ?_
          refine mcall_i G K hH rfl (M_sooner E.l E.D a d (v := v) (j := k) (k := b) hR (by omega) (by omega)) q283 q285 qs14 q286 rfl ⟨by omega, by omega⟩ hl.1 (rest := []) rfl (Nat.le_of_ble_eq_true rfl) dX1_chains_109 (fun r σ2 H locs hH hp => ?_)
          obtain ⟨rfl, es⟩ := hp
          rw [es] at hH
          refine b_if_eq G 117 dX1_chains_112 (by decide) (fun c112 => ?_) (fun c112 => ?_)
          · refine r_iinc G (k := 2) (nI (k + 1)) [(2, .int (nI (k + 1))), (0, .ref (a 0)), (1, .int (nI b))] dX1_chains_117 hl rfl (inc1 _) (by decide) rfl (fun ls hl => ?_)
            refine r_goto G 85 dX1_chains_120 (by decide) ?_
            exact ih _ _ H locs ls hH (Or.inr ⟨b, rfl, by omega, hu, bk_stay (of_decide_eq_false c112) hm⟩) (by omega) (by omega) (lv_sub hl [1, 2, 0] rfl)
          · refine r_iload_n G dX1_chains_115 rfl (lv_at hl 2 rfl) ?_
            refine r_istore_n G [(1, .int (nI k)), (0, .ref (a 0)), (2, .int (nI k))] dX1_chains_116 rfl hl (by decide) rfl (fun ls hl => ?_)
            refine r_iinc G (k := 2) (nI (k + 1)) [(2, .int (nI (k + 1))), (1, .int (nI k)), (0, .ref (a 0))] dX1_chains_117 hl rfl (inc1 _) (by decide) rfl (fun ls hl => ?_)
            refine r_goto G 85 dX1_chains_120 (by decide) ?_
            exact ih _ _ H locs ls hH (Or.inr ⟨k, rfl, by omega, not_f c99, bk_new (of_decide_eq_true c112) hm⟩) (by omega) (by omega) (lv_sub hl [2, 1, 0] rfl)
set_option maxHeartbeats 4000000 in
theorem M_chains_L4 {E : Ev} {a : Nat → Nat} {d : Nat → ClassId} {σ0 : St} {v : Vw} {s : Cs} {x : Nat} {g : Nat → Int32} (G : CX E RX1 cX1_chains 7) (K : KX E (mt d)) (hx : x < v.nw) (hhu : v.hot (v.fr x) = true) (hhw : v.hot (v.ta x) = true) (hs : CsOk v s) (hne : s.co (v.fr x) ≠ s.co (v.ta x)) (kk : ∀ (σ : St) (H : Heap) (locs : List Loc) (ls : Array Slot), MH E a d σ H locs → MR σ v → MF σ0 σ → σ.2.1 15 = g → JnI v s (v.fr x) (v.ta x) (s.mn (s.co (v.ta x))) (σ.2.1 8) (σ.2.1 9) (σ.2.1 10) → lv_has ls 7 [(0, .ref (a 0)), (1, .int (nI x)), (2, .int (nI (s.co (v.fr x)))), (3, .int (nI (s.co (v.ta x))))] → WE E H locs 300 ls []) :
    ∀ (M : Nat) (σ : St) (j : Nat) (H : Heap) (locs : List Loc) (ls : Array Slot), MH E a d σ H locs → MR σ v → MF σ0 σ → σ.2.1 15 = g → JnI v s (v.fr x) (v.ta x) j (σ.2.1 8) (σ.2.1 9) (σ.2.1 10) → j ≤ s.mn (s.co (v.ta x)) → s.mn (s.co (v.ta x)) - j < M → lv_has ls 7 [(0, .ref (a 0)), (1, .int (nI x)), (2, .int (nI (s.co (v.fr x)))), (3, .int (nI (s.co (v.ta x)))), (5, .int (nI j))] → WE E H locs 238 ls [] := by
  intro M
  induction M with
  | zero => exact fun σ j H locs ls _ _ _ _ _ _ q => absurd q (Nat.not_lt_zero _)
  | succ M ih =>
    intro σ j H locs ls hH hR hF h15 hJ hj hM hl
    have hv := hR.ok
    have hbd := hv.bd
    have hub := hv.frb hx
    have hwb := hv.tab hx
    have hnh := nh_le v
    obtain ⟨u1, u2, u3, u4, u5, u6⟩ := hs.1 _ hub
    obtain ⟨w1, w2, w3, w4, w5, w6⟩ := hs.1 _ hwb
    have hcu : v.hot (s.co (v.fr x)) = true := by rw [u6, hhu]
    have hcw : v.hot (s.co (v.ta x)) = true := by rw [w6, hhw]
    have mu := hs.mn_le u1 hcu
    have mw := hs.mn_le w1 hcw
    have room := hs.room u1 w1 hne hcu hcw
    refine r_iload G dX1_chains_238 (lv_at hl 4 rfl) ?_
    refine mg_many G K hH (lv_at hl 0 rfl) dX1_chains_240 dX1_chains_241 ?_
    refine r_iload_n G dX1_chains_244 rfl (lv_at hl 3 rfl) ?_
    refine ml_many G K hH (by omega) dX1_chains_245 ?_
    refine r_toi (y := nI (s.mn (s.co (v.ta x)))) (hJ.2.1 _ w1 hcw) ?_
    refine n_icmp_ge G (by omega) (by omega) 300 dX1_chains_246 (by decide) (fun c246 => ?_) (fun c246 => ?_)
    · have e : j = s.mn (s.co (v.ta x)) := by omega
      subst e
      exact kk σ H locs ls hH hR hF h15 hJ (lv_sub hl [0, 1, 2, 3] rfl)
    · refine mg_table G K hH (lv_at hl 0 rfl) dX1_chains_249 dX1_chains_250 ?_
      refine r_sipush G (nI 200) dX1_chains_253 (by decide) ?_
      refine r_iload_n G dX1_chains_256 rfl (lv_at hl 3 rfl) ?_
      refine r_imulN G dX1_chains_257 ?_
      refine r_iload G dX1_chains_258 (lv_at hl 4 rfl) ?_
      refine r_iaddN G dX1_chains_260 ?_
      refine ml_table G K hH (by omega) dX1_chains_261 ?_
      refine r_toi (y := nI (s.tb (s.co (v.ta x)) j)) (hJ.2.2.1 _ w1 hcw w3 j c246) ?_
      obtain ⟨t1, t2, t3⟩ := hs.2.1 _ w1 w3 j c246
      refine r_istore G [(6, .int (nI (s.tb (s.co (v.ta x)) j))), (0, .ref (a 0)), (1, .int (nI x)), (2, .int (nI (s.co (v.fr x)))), (3, .int (nI (s.co (v.ta x)))), (5, .int (nI j))] dX1_chains_262 hl (by decide) rfl (fun ls hl => ?_)
      refine mg_table G K hH (lv_at hl 1 rfl) dX1_chains_264 dX1_chains_265 ?_
      refine r_sipush G (nI 200) dX1_chains_268 (by decide) ?_
      refine r_iload_n G dX1_chains_271 rfl (lv_at hl 3 rfl) ?_
      refine r_imulN G dX1_chains_272 ?_
      refine mg_many G K hH (lv_at hl 1 rfl) dX1_chains_273 dX1_chains_274 ?_
      refine r_iload_n G dX1_chains_277 rfl (lv_at hl 3 rfl) ?_
      refine ml_many G K hH (by omega) dX1_chains_278 ?_
      refine r_toi (y := nI (s.mn (s.co (v.fr x)))) (hJ.2.1 _ u1 hcu) ?_
      refine r_iaddN G dX1_chains_279 ?_
      refine r_iload G dX1_chains_280 (lv_at hl 5 rfl) ?_
      refine r_iaddN G dX1_chains_282 ?_
      refine r_iload G dX1_chains_283 (lv_at hl 0 rfl) ?_
      refine ms_table G K hH (by omega) dX1_chains_285 (fun H locs hH => ?_)
      refine mg_chainOf G K hH (lv_at hl 1 rfl) dX1_chains_286 dX1_chains_287 ?_
      refine r_iload G dX1_chains_290 (lv_at hl 0 rfl) ?_
      refine r_iload_n G dX1_chains_292 rfl (lv_at hl 3 rfl) ?_
      refine ms_chainOf G K hH (by omega) dX1_chains_293 (fun H locs hH => ?_)
      refine r_iinc G (k := 5) (nI (j + 1)) [(5, .int (nI (j + 1))), (6, .int (nI (s.tb (s.co (v.ta x)) j))), (0, .ref (a 0)), (1, .int (nI x)), (2, .int (nI (s.co (v.fr x)))), (3, .int (nI (s.co (v.ta x))))] dX1_chains_294 hl rfl (inc1 _) (by decide) rfl (fun ls hl => ?_)
      refine r_goto G 238 dX1_chains_297 (by decide) ?_
      have hJ2 := hJ.step hs hbd.2.1 hub hwb hhu hhw hne c246
      exact ih _ _ H locs ls hH hR hF h15 hJ2 (by omega) (by omega) (lv_sub hl [2, 3, 4, 5, 0] rfl)
set_option maxHeartbeats 4000000 in
theorem M_chains_B {E : Ev} {a : Nat → Nat} {d : Nat → ClassId} {σ0 : St} {v : Vw} {s : Cs} {x : Nat} {g : Nat → Int32} (G : CX E RX1 cX1_chains 7) (K : KX E (mt d)) (hx : x < v.nw) (hhu : v.hot (v.fr x) = true) (hhw : v.hot (v.ta x) = true) (hs : CsOk v s) (kk : ∀ (σ : St) (s2 : Cs) (H : Heap) (locs : List Loc) (ls : Array Slot), MH E a d σ H locs → MR σ v → MF σ0 σ → σ.2.1 15 = upd g x (nI 1) → CsM v s2 (σ.2.1 8) (σ.2.1 9) (σ.2.1 10) → ((s.can (v.fr x) (v.ta x) = true ∧ s2 = s.jn (v.fr x) (v.ta x)) ∨ (¬ s.can (v.fr x) (v.ta x) = true ∧ s2 = s)) → lv_has ls 7 [(0, .ref (a 0)), (1, .int (nI x))] → WE E H locs 77 ls []) :
    ∀ (σ : St) (H : Heap) (locs : List Loc) (ls : Array Slot), MH E a d σ H locs → MR σ v → MF σ0 σ → σ.2.1 15 = g → CsM v s (σ.2.1 8) (σ.2.1 9) (σ.2.1 10) → lv_has ls 7 [(0, .ref (a 0)), (1, .int (nI x))] → WE E H locs 128 ls [] := by
  intro σ H locs ls hH hR hF h15 hC hl
  have hv := hR.ok
  have hbd := hv.bd
  have hub := hv.frb hx
  have hwb := hv.tab hx
  have hnh := nh_le v
  obtain ⟨u1, u2, u3, u4, u5, u6⟩ := hs.1 _ hub
  obtain ⟨w1, w2, w3, w4, w5, w6⟩ := hs.1 _ hwb
  have hcu : v.hot (s.co (v.fr x)) = true := by rw [u6, hhu]
  have hcw : v.hot (s.co (v.ta x)) = true := by rw [w6, hhw]
  have mu := hs.mn_le u1 hcu
  have mw := hs.mn_le w1 hcw
  have lf := last_iff hs hub
  have ff := first_iff hs hwb
  have tl := (hs.2.1 _ u1 u3 (s.mn (s.co (v.fr x)) - 1) (by omega)).1
  have tf := (hs.2.1 _ w1 w3 0 (by omega)).1
  subst h15
  refine mg_looked G K hH (lv_at hl 0 rfl) dX1_chains_128 dX1_chains_129 ?_
  refine r_iload_n G dX1_chains_132 rfl (lv_at hl 1 rfl) ?_
  refine r_iconst G (nI 1) dX1_chains_133 (by decide) ?_
  refine ms_looked G K hH (by omega) (by decide) dX1_chains_134 (fun H locs hH => ?_)
  refine mg_chainOf G K hH (lv_at hl 0 rfl) dX1_chains_135 dX1_chains_136 ?_
  refine mg_from G K hH (lv_at hl 0 rfl) dX1_chains_139 dX1_chains_140 ?_
  refine r_iload_n G dX1_chains_143 rfl (lv_at hl 1 rfl) ?_
  refine ml_from G K hH (by omega) dX1_chains_144 ?_
  refine r_toi (y := nI (v.fr x)) (hR.fr (by omega)) ?_
  have := hv.frb (k := x) (by omega)
  refine ml_chainOf G K hH (by omega) dX1_chains_145 ?_
  refine r_toi (y := nI (s.co (v.fr x))) ((hC.1 _ hub).1 hhu) ?_
  refine r_istore_n G [(2, .int (nI (s.co (v.fr x)))), (0, .ref (a 0)), (1, .int (nI x))] dX1_chains_146 rfl hl (by decide) rfl (fun ls hl => ?_)
  refine mg_chainOf G K hH (lv_at hl 1 rfl) dX1_chains_147 dX1_chains_148 ?_
  refine mg_to G K hH (lv_at hl 1 rfl) dX1_chains_151 dX1_chains_152 ?_
  refine r_iload_n G dX1_chains_155 rfl (lv_at hl 2 rfl) ?_
  refine ml_to G K hH (by omega) dX1_chains_156 ?_
  refine r_toi (y := nI (v.ta x)) (hR.ta (by omega)) ?_
  have := hv.tab (k := x) (by omega)
  refine ml_chainOf G K hH (by omega) dX1_chains_157 ?_
  refine r_toi (y := nI (s.co (v.ta x))) ((hC.1 _ hwb).1 hhw) ?_
  refine r_istore_n G [(3, .int (nI (s.co (v.ta x)))), (2, .int (nI (s.co (v.fr x)))), (0, .ref (a 0)), (1, .int (nI x))] dX1_chains_158 rfl hl (by decide) rfl (fun ls hl => ?_)
  refine r_iload_n G dX1_chains_159 rfl (lv_at hl 1 rfl) ?_
  refine r_iload_n G dX1_chains_160 rfl (lv_at hl 0 rfl) ?_
  refine n_icmp_eq G (by omega) (by omega) 224 dX1_chains_161 (by decide) (fun c161 => ?_) (fun c161 => ?_)
  · refine r_iconst G (nI 0) dX1_chains_224 (by decide) ?_
    refine r_istore G [(4, .int (nI 0)), (3, .int (nI (s.co (v.ta x)))), (2, .int (nI (s.co (v.fr x)))), (0, .ref (a 0)), (1, .int (nI x))] dX1_chains_225 hl (by decide) rfl (fun ls hl => ?_)
    refine r_iload G dX1_chains_227 (lv_at hl 0 rfl) ?_
    refine n_if_ne G (by omega) 235 dX1_chains_229 (by decide) (fun h => absurd rfl h) (fun _ => ?_)
    refine r_goto G 77 dX1_chains_232 (by decide) ?_
    exact kk _ s H locs ls hH hR hF rfl hC (Or.inr ⟨fun z => (of_decide_eq_true z).1 c161, rfl⟩) (lv_sub hl [3, 4] rfl)
  · refine mg_table G K hH (lv_at hl 2 rfl) dX1_chains_164 dX1_chains_165 ?_
    refine r_sipush G (nI 200) dX1_chains_168 (by decide) ?_
    refine r_iload_n G dX1_chains_171 rfl (lv_at hl 1 rfl) ?_
    refine r_imulN G dX1_chains_172 ?_
    refine mg_many G K hH (lv_at hl 2 rfl) dX1_chains_173 dX1_chains_174 ?_
    refine r_iload_n G dX1_chains_177 rfl (lv_at hl 1 rfl) ?_
    refine ml_many G K hH (by omega) dX1_chains_178 ?_
    refine r_toi (y := nI (s.mn (s.co (v.fr x)))) (hC.2.1 _ u1 hcu) ?_
    refine r_iaddN G dX1_chains_179 ?_
    refine r_iconst G (nI 1) dX1_chains_180 (by decide) ?_
    refine r_isubN G (by omega) dX1_chains_181 ?_
    refine ml_table G K hH (by omega) dX1_chains_182 ?_
    refine r_toi (y := nI (s.tb (s.co (v.fr x)) (s.mn (s.co (v.fr x)) - 1))) (by rw [show 200 * s.co (v.fr x) + s.mn (s.co (v.fr x)) - 1 = 200 * s.co (v.fr x) + (s.mn (s.co (v.fr x)) - 1) by omega]; exact hC.2.2 _ u1 hcu u3 _ (by omega)) ?_
    refine mg_from G K hH (lv_at hl 2 rfl) dX1_chains_183 dX1_chains_184 ?_
    refine r_iload_n G dX1_chains_187 rfl (lv_at hl 3 rfl) ?_
    refine ml_from G K hH (by omega) dX1_chains_188 ?_
    refine r_toi (y := nI (v.fr x)) (hR.fr (by omega)) ?_
    have := hv.frb (k := x) (by omega)
    refine n_icmp_ne G (by omega) (by omega) 224 dX1_chains_189 (by decide) (fun c189 => ?_) (fun c189 => ?_)
    · refine r_iconst G (nI 0) dX1_chains_224 (by decide) ?_
      refine r_istore G [(4, .int (nI 0)), (3, .int (nI (s.co (v.ta x)))), (2, .int (nI (s.co (v.fr x)))), (0, .ref (a 0)), (1, .int (nI x))] dX1_chains_225 hl (by decide) rfl (fun ls hl => ?_)
      refine r_iload G dX1_chains_227 (lv_at hl 0 rfl) ?_
      refine n_if_ne G (by omega) 235 dX1_chains_229 (by decide) (fun h => absurd rfl h) (fun _ => ?_)
      refine r_goto G 77 dX1_chains_232 (by decide) ?_
      exact kk _ s H locs ls hH hR hF rfl hC (Or.inr ⟨fun z => c189 (lf.mpr (of_decide_eq_true z).2.1), rfl⟩) (lv_sub hl [3, 4] rfl)
    · refine mg_table G K hH (lv_at hl 2 rfl) dX1_chains_192 dX1_chains_193 ?_
      refine r_sipush G (nI 200) dX1_chains_196 (by decide) ?_
      refine r_iload_n G dX1_chains_199 rfl (lv_at hl 0 rfl) ?_
      refine r_imulN G dX1_chains_200 ?_
      refine ml_table G K hH (by omega) dX1_chains_201 ?_
      refine r_toi (y := nI (s.tb (s.co (v.ta x)) 0)) (hC.2.2 _ w1 hcw w3 0 (by omega)) ?_
      refine mg_to G K hH (lv_at hl 2 rfl) dX1_chains_202 dX1_chains_203 ?_
      refine r_iload_n G dX1_chains_206 rfl (lv_at hl 3 rfl) ?_
      refine ml_to G K hH (by omega) dX1_chains_207 ?_
      refine r_toi (y := nI (v.ta x)) (hR.ta (by omega)) ?_
      have := hv.tab (k := x) (by omega)
      refine n_icmp_ne G (by omega) (by omega) 224 dX1_chains_208 (by decide) (fun c208 => ?_) (fun c208 => ?_)
      · refine r_iconst G (nI 0) dX1_chains_224 (by decide) ?_
        refine r_istore G [(4, .int (nI 0)), (3, .int (nI (s.co (v.ta x)))), (2, .int (nI (s.co (v.fr x)))), (0, .ref (a 0)), (1, .int (nI x))] dX1_chains_225 hl (by decide) rfl (fun ls hl => ?_)
        refine r_iload G dX1_chains_227 (lv_at hl 0 rfl) ?_
        refine n_if_ne G (by omega) 235 dX1_chains_229 (by decide) (fun h => absurd rfl h) (fun _ => ?_)
        refine r_goto G 77 dX1_chains_232 (by decide) ?_
        exact kk _ s H locs ls hH hR hF rfl hC (Or.inr ⟨fun z => c208 (ff.mpr (of_decide_eq_true z).2.2.1), rfl⟩) (lv_sub hl [3, 4] rfl)
      · refine mg_to G K hH (lv_at hl 2 rfl) dX1_chains_211 dX1_chains_212 ?_
        refine r_iload_n G dX1_chains_215 rfl (lv_at hl 3 rfl) ?_
        refine ml_to G K hH (by omega) dX1_chains_216 ?_
        refine r_toi (y := nI (v.ta x)) (hR.ta (by omega)) ?_
        have := hv.tab (k := x) (by omega)
        refine n_if_eq G (by omega) 224 dX1_chains_217 (by decide) (fun c217 => ?_) (fun c217 => ?_)
        · refine r_iconst G (nI 0) dX1_chains_224 (by decide) ?_
          refine r_istore G [(4, .int (nI 0)), (3, .int (nI (s.co (v.ta x)))), (2, .int (nI (s.co (v.fr x)))), (0, .ref (a 0)), (1, .int (nI x))] dX1_chains_225 hl (by decide) rfl (fun ls hl => ?_)
          refine r_iload G dX1_chains_227 (lv_at hl 0 rfl) ?_
          refine n_if_ne G (by omega) 235 dX1_chains_229 (by decide) (fun h => absurd rfl h) (fun _ => ?_)
          refine r_goto G 77 dX1_chains_232 (by decide) ?_
          exact kk _ s H locs ls hH hR hF rfl hC (Or.inr ⟨fun z => (of_decide_eq_true z).2.2.2 c217, rfl⟩) (lv_sub hl [3, 4] rfl)
        · refine r_iconst G (nI 1) dX1_chains_220 (by decide) ?_
          refine r_goto G 225 dX1_chains_221 (by decide) ?_
          refine r_istore G [(4, .int (nI 1)), (3, .int (nI (s.co (v.ta x)))), (2, .int (nI (s.co (v.fr x)))), (0, .ref (a 0)), (1, .int (nI x))] dX1_chains_225 hl (by decide) rfl (fun ls hl => ?_)
          refine r_iload G dX1_chains_227 (lv_at hl 0 rfl) ?_
          refine n_if_ne G (by omega) 235 dX1_chains_229 (by decide) (fun _ => ?_) (fun h => absurd h (by decide))
          refine r_iconst G (nI 0) dX1_chains_235 (by decide) ?_
          refine r_istore G [(5, .int (nI 0)), (4, .int (nI 1)), (3, .int (nI (s.co (v.ta x)))), (2, .int (nI (s.co (v.fr x)))), (0, .ref (a 0)), (1, .int (nI x))] dX1_chains_236 hl (by decide) rfl (fun ls hl => ?_)
          refine M_chains_L4 G K hx hhu hhw hs c161 (σ0 := σ0) (g := upd (σ.2.1 15) x (nI 1)) (fun σ H locs ls hH hR hF h15 hJ hl => ?_) (s.mn (s.co (v.ta x)) + 1) _ 0 H locs ls hH hR hF rfl (JnI.start hC) (Nat.zero_le _) (by omega) (lv_sub hl [4, 5, 3, 2, 0] rfl)
          refine mg_many G K hH (lv_at hl 0 rfl) dX1_chains_300 dX1_chains_301 ?_
          refine r_iload_n G dX1_chains_304 rfl (lv_at hl 2 rfl) ?_
          refine r_dup2 G dX1_chains_305 rfl rfl ?_
          refine ml_many G K hH (by omega) dX1_chains_306 ?_
          refine r_toi (y := nI (s.mn (s.co (v.fr x)))) (hJ.2.1 _ u1 hcu) ?_
          refine mg_many G K hH (lv_at hl 0 rfl) dX1_chains_307 dX1_chains_308 ?_
          refine r_iload_n G dX1_chains_311 rfl (lv_at hl 3 rfl) ?_
          refine ml_many G K hH (by omega) dX1_chains_312 ?_
          refine r_toi (y := nI (s.mn (s.co (v.ta x)))) (hJ.2.1 _ w1 hcw) ?_
          refine r_iaddN G dX1_chains_313 ?_
          refine ms_many G K hH (by omega) dX1_chains_314 (fun H locs hH => ?_)
          refine mg_many G K hH (lv_at hl 0 rfl) dX1_chains_315 dX1_chains_316 ?_
          refine r_iload_n G dX1_chains_319 rfl (lv_at hl 3 rfl) ?_
          refine r_iconst G (nI 0) dX1_chains_320 (by decide) ?_
          refine ms_many G K hH (by omega) dX1_chains_321 (fun H locs hH => ?_)
          refine r_goto G 77 dX1_chains_322 (by decide) ?_
          have hcan : s.can (v.fr x) (v.ta x) = true := decide_eq_true ⟨c161, lf.mp c189, ff.mp c208, c217⟩
          exact kk _ _ H locs ls hH hR hF h15 (hJ.fin hs hub hwb c161) (Or.inl ⟨hcan, rfl⟩) (lv_sub hl [0, 1] rfl)
set_option maxHeartbeats 4000000 in
theorem M_chains_L3 {E : Ev} {a : Nat → Nat} {d : Nat → ClassId} {σ0 : St} {v : Vw} (G : CX E RX1 cX1_chains 7) (K : KX E (mt d)) (hfr : 1 ≤ E.R.frames) (hlo : 22 ≤ E.R.locals) (hret : ∀ (pc : Nat) (ls : Array Slot) (H : Heap) (locs : List Loc) (σ : St), decode cX1_chains pc = .ok (.return_, 1) → MH E a d σ H locs → MR σ v → MF σ0 σ → CsM v v.cs (σ.2.1 8) (σ.2.1 9) (σ.2.1 10) → WE E H locs pc ls []) :
    ∀ (M : Nat) (σ : St) (i b : Nat) (H : Heap) (locs : List Loc) (ls : Array Slot), MH E a d σ H locs → MR σ v → MF σ0 σ → LkI v i (σ.2.1 15) → CsM v (chs v i) (σ.2.1 8) (σ.2.1 9) (σ.2.1 10) → i ≤ v.sn → b < 1000 → v.sn - i < M → lv_has ls 7 [(0, .ref (a 0)), (1, .int (nI b))] → WE E H locs 77 ls [] := by
  intro M
  induction M with
  | zero => exact fun σ i b H locs ls _ _ _ _ _ _ _ q => absurd q (Nat.not_lt_zero _)
  | succ M ih =>
    intro σ i b H locs ls hH hR hF hL hC hi hb0 hM hl
    have hv := hR.ok
    have hbd := hv.bd
    refine r_iload_n G dX1_chains_77 rfl (lv_at hl 1 rfl) ?_
    refine n_if_lt G (by omega) 325 dX1_chains_78 (by decide) ?_
    refine r_iconst G ((-1)) dX1_chains_81 (by decide) ?_
    refine r_istore_n G [(1, .int (-1)), (0, .ref (a 0))] dX1_chains_82 rfl hl (by decide) rfl (fun ls hl => ?_)
    refine r_iconst G (nI 0) dX1_chains_83 (by decide) ?_
    refine r_istore_n G [(2, .int (nI 0)), (1, .int (-1)), (0, .ref (a 0))] dX1_chains_84 rfl hl (by decide) rfl (fun ls hl => ?_)
    refine M_chains_L2 G K hfr hlo hR hL (fun z H locs ls hH hz hl => ?_) (v.nw + 1) 0 _ H locs ls hH (Or.inl ⟨rfl, fun j hj => absurd hj (Nat.not_lt_zero j)⟩) (Nat.zero_le _) (by omega) (lv_sub hl [2, 1, 0] rfl)
    rcases hz with ⟨rfl, hm⟩ | ⟨c, rfl, hcb, hu, hm⟩
    · refine r_iload_n G dX1_chains_123 rfl (lv_at hl 1 rfl) ?_
      refine m1_if_ge G 128 dX1_chains_124 (by decide) ?_
      have e := unl_none hv hi hm
      subst e
      exact hret _ _ _ _ _ dX1_chains_127 hH hR hF hC
    · refine r_iload_n G dX1_chains_123 rfl (lv_at hl 1 rfl) ?_
      refine n_if_ge G (by omega) 128 dX1_chains_124 (by decide) ?_
      obtain ⟨his, rfl⟩ := unl_best hv hi hcb hu hm
      have hq := (srt_sl hv).1 i his
      have hh := cand_hot hq.2
      refine M_chains_B G K hq.1 hh.1 hh.2 (chs_ok hv i hi) (fun σ1 s2 H locs ls hH hR hF h15 hC2 h2 hl => ?_) σ H locs ls hH hR hF rfl hC (lv_sub hl [0, 1] rfl)
      have e2 : s2 = chs v (i + 1) := by
        rw [chs]
        rcases h2 with ⟨z1, z2⟩ | ⟨z1, z2⟩
        · rw [if_pos z1]
          exact z2
        · rw [if_neg z1]
          exact z2
      rw [e2] at hC2
      exact ih σ1 (i + 1) _ H locs ls hH hR hF (by rw [h15]; exact hL.s) hC2 (by omega) (by omega) (by omega) hl
set_option maxHeartbeats 4000000 in
theorem M_chains (l : Launch) (D : va_G) (a : Nat → Nat) (d : Nat → ClassId) {σ : St} {v : Vw} (hR : MR σ v) (hC : CsM v Cs.ini (σ.2.1 8) (σ.2.1 9) (σ.2.1 10)) : CMv l yX1_chains cX1_chains 7 1 22 D (mt d) (mw a d) [.ref (a 0)] σ (fun σ' => MR σ' v ∧ MF σ σ' ∧ CsM v v.cs (σ'.2.1 8) (σ'.2.1 9) (σ'.2.1 10)) := by
  refine CMv.of (by decide) (Nat.le_of_ble_eq_true rfl) ?_
  intro E ls G hfr hlo K hH hl hret
  have hl : lv_has ls 7 [(0, .ref (a 0))] := hl
  have G : CX E RX1 cX1_chains 7 := G
  refine r_iconst G (nI 0) dX1_chains_0 (by decide) ?_
  refine r_istore_n G [(1, .int (nI 0)), (0, .ref (a 0))] dX1_chains_1 rfl hl (by decide) rfl (fun ls hl => ?_)
  refine M_chains_L1 G K (σ0 := σ) (fun σ1 H locs ls hH hR hF hC hL hl => ?_) (v.nw + 1) σ 0 _ _ ls hH hR ⟨rfl, rfl⟩ hC (fun i hi => absurd hi (Nat.not_lt_zero i)) (Nat.zero_le _) (by omega) (lv_sub hl [1, 0] rfl)
  refine r_iconst G (nI 0) dX1_chains_75 (by decide) ?_
  refine r_istore_n G [(1, .int (nI 0)), (0, .ref (a 0))] dX1_chains_76 rfl hl (by decide) rfl (fun ls hl => ?_)
  exact M_chains_L3 G K hfr hlo (fun pc ls H locs σ2 dg hH hR hF hC => hret _ _ _ _ _ dg hH ⟨hR, hF, hC⟩) (v.sn + 1) σ1 0 0 H locs ls hH hR hF hL hC (Nat.zero_le _) (by omega) (by omega) (lv_sub hl [1, 0] rfl)
end
section
set_option maxRecDepth 100000
def PM (σ0 σ : St) : Prop := σ.1 = σ0.1 ∧ σ.2.1 8 = σ0.2.1 8 ∧ σ.2.1 9 = σ0.2.1 9 ∧ σ.2.1 10 = σ0.2.1 10 ∧ σ.2.1 12 = σ0.2.1 12
theorem m1_lt {x : Int64} (h : 0 ≤ x.toInt) : (-1 : Int64) < x := by
  refine Int64.lt_iff_toInt_lt.mpr ?_
  have h2 : (-1 : Int64).toInt = -1 := by decide
  omega
theorem i64_irr (x : Int64) : ¬ x < x := fun h => by
  have := Int64.lt_iff_toInt_lt.mp h
  omega
def BpI (v : Vw) (s : Cs) (pl : Nat → Bool) (b : Nat) (z : Int32) (m : Int64) : Prop := (z = -1 ∧ m = -1 ∧ bst v s pl b = none) ∨ ∃ c, z = nI c ∧ m = sumc v s pl c ∧ bst v s pl b = some c
set_option maxHeartbeats 4000000 in
theorem M_place_L1 {E : Ev} {a : Nat → Nat} {d : Nat → ClassId} {σ0 : St} {v : Vw} (G : CX E RX1 cX1_place 8) (K : KX E (mt d)) (kk : ∀ (σ : St) (H : Heap) (locs : List Loc) (ls : Array Slot), MH E a d σ H locs → MR σ v → PM σ0 σ → (∀ i, i < v.nb → σ.2.1 16 i = bI false) → lv_has ls 8 [(0, .ref (a 0))] → WE E H locs 23 ls []) :
    ∀ (M : Nat) (σ : St) (b : Nat) (H : Heap) (locs : List Loc) (ls : Array Slot), MH E a d σ H locs → MR σ v → PM σ0 σ → (∀ i, i < b → σ.2.1 16 i = bI false) → b ≤ v.nb → v.nb - b < M → lv_has ls 8 [(0, .ref (a 0)), (1, .int (nI b))] → WE E H locs 2 ls [] := by
  intro M
  induction M with
  | zero => exact fun σ b H locs ls _ _ _ _ _ q => absurd q (Nat.not_lt_zero _)
  | succ M ih =>
    intro σ b H locs ls hH hR hF h16 hb hM hl
    have hv := hR.ok
    have hbd := hv.bd
    refine r_iload_n G dX1_place_2 rfl (lv_at hl 1 rfl) ?_
    refine mg_blocks G K hH (lv_at hl 0 rfl) dX1_place_3 dX1_place_4 ?_
    refine r_toi (y := nI v.nb) (hR.nb) ?_
    refine n_icmp_ge G (by omega) (by omega) 23 dX1_place_7 (by decide) (fun c7 => ?_) (fun c7 => ?_)
    · have e : b = v.nb := by omega
      subst e
      exact kk σ H locs ls hH hR hF h16 (lv_sub hl [0] rfl)
    · refine mg_isPlaced G K hH (lv_at hl 0 rfl) dX1_place_10 dX1_place_11 ?_
      refine r_iload_n G dX1_place_14 rfl (lv_at hl 1 rfl) ?_
      refine r_iconst G (nI 0) dX1_place_15 (by decide) ?_
      refine ms_isPlaced G K hH (by omega) (by decide) dX1_place_16 (fun H locs hH => ?_)
      refine r_iinc G (k := 1) (nI (b + 1)) [(1, .int (nI (b + 1))), (0, .ref (a 0))] dX1_place_17 hl rfl (inc1 _) (by decide) rfl (fun ls hl => ?_)
      refine r_goto G 2 dX1_place_20 (by decide) ?_
      have g16 : ∀ i, i < b + 1 → upd (σ.2.1 16) b (nI 0) i = bI false := upd_run (g := fun _ => bI false) h16 rfl
      exact ih _ _ H locs ls hH hR hF g16 (by omega) (by omega) (lv_sub hl [1, 0] rfl)
set_option maxHeartbeats 4000000 in
theorem M_place_L2 {E : Ev} {a : Nat → Nat} {d : Nat → ClassId} {σ : St} {v : Vw} {s : Cs} {q : Pl} {c0 : Nat} (G : CX E RX1 cX1_place 8) (K : KX E (mt d)) (hfr : 1 ≤ E.R.frames) (hlo : 26 ≤ E.R.locals) (hR : MR σ v) (hs : CsOk v s) (hq : PlOk v s q) (hC : CsM v s (σ.2.1 8) (σ.2.1 9) (σ.2.1 10)) (hpl : ∀ b, b < v.nb → σ.2.1 16 b = bI (q.pl b)) (hn0 : q.n = 0 → ∀ c, sumc v s q.pl c = 0) (hqn : q.n ≤ 200) (hbs : bst v s q.pl v.nb = some c0) (kk : ∀ (H : Heap) (locs : List Loc) (ls : Array Slot), MH E a d σ H locs → lv_has ls 8 [(0, .ref (a 0)), (1, .int (nI q.n)), (2, .int (nI c0))] → WE E H locs 133 ls []) :
    ∀ (M : Nat) (b : Nat) (z : Int32) (m : Int64) (H : Heap) (locs : List Loc) (ls : Array Slot), MH E a d σ H locs → BpI v s q.pl b z m → b ≤ v.nb → v.nb - b < M → lv_has ls 8 [(0, .ref (a 0)), (1, .int (nI q.n)), (2, .int z), (3, .long m), (5, .int (nI b))] → WE E H locs 42 ls [] := by
  have hv := hR.ok
  have hbd := hv.bd
  intro M
  induction M with
  | zero => exact fun b z m H locs ls _ _ _ q => absurd q (Nat.not_lt_zero _)
  | succ M ih =>
    intro b z m H locs ls hH hz hb hM hl
    rcases hz with ⟨rfl, rfl, hz⟩ | ⟨c, rfl, rfl, hz⟩
    · refine r_iload G dX1_place_42 (lv_at hl 4 rfl) ?_
      refine mg_blocks G K hH (lv_at hl 0 rfl) dX1_place_44 dX1_place_45 ?_
      refine r_toi (y := nI v.nb) (hR.nb) ?_
      refine n_icmp_ge G (by omega) (by omega) 133 dX1_place_48 (by decide) (fun c48 => ?_) (fun c48 => ?_)
      · have e : b = v.nb := by omega
        subst e
        rw [hbs] at hz
        cases hz
      · refine mg_hot G K hH (lv_at hl 0 rfl) dX1_place_51 dX1_place_52 ?_
        refine r_iload G dX1_place_55 (lv_at hl 4 rfl) ?_
        refine ml_hot G K hH (by omega) dX1_place_57 ?_
        refine r_toi (y := bI (v.hot b)) (hR.hot (by omega)) ?_
        refine b_if_eq G 127 dX1_place_58 (by decide) (fun c58 => ?_) (fun c58 => ?_)
        · refine r_iinc G (k := 4) (nI (b + 1)) [(5, .int (nI (b + 1))), (0, .ref (a 0)), (1, .int (nI q.n)), (2, .int (-1)), (3, .long (-1))] dX1_place_127 hl rfl (inc1 _) (by decide) rfl (fun ls hl => ?_)
          refine r_goto G 42 dX1_place_130 (by decide) ?_
          exact ih _ _ _ H locs ls hH (Or.inl ⟨rfl, rfl, by rw [bst_skip (fun z => by rw [c58] at z; exact absurd z.1 (by decide))]; exact hz⟩) (by omega) (by omega) (lv_sub hl [1, 2, 3, 4, 0] rfl)
        · refine mg_isPlaced G K hH (lv_at hl 0 rfl) dX1_place_61 dX1_place_62 ?_
          refine r_iload G dX1_place_65 (lv_at hl 4 rfl) ?_
          refine ml_isPlaced G K hH (by omega) dX1_place_67 ?_
          refine r_toi (y := bI (q.pl b)) (hpl b (by omega)) ?_
          refine b_if_ne G 127 dX1_place_68 (by decide) (fun c68 => ?_) (fun c68 => ?_)
          · refine r_iinc G (k := 4) (nI (b + 1)) [(5, .int (nI (b + 1))), (0, .ref (a 0)), (1, .int (nI q.n)), (2, .int (-1)), (3, .long (-1))] dX1_place_127 hl rfl (inc1 _) (by decide) rfl (fun ls hl => ?_)
            refine r_goto G 42 dX1_place_130 (by decide) ?_
            exact ih _ _ _ H locs ls hH (Or.inl ⟨rfl, rfl, by rw [bst_skip (fun z => by rw [c68] at z; exact absurd z.2 (by decide))]; exact hz⟩) (by omega) (by omega) (lv_sub hl [1, 2, 3, 4, 0] rfl)
          · obtain ⟨p1, p2, p3, p4⟩ := hq.hd hs (by omega) c58 c68
            refine r_iload_n G dX1_place_71 rfl (lv_at hl 2 rfl) ?_
            refine mg_chainOf G K hH (lv_at hl 0 rfl) dX1_place_72 dX1_place_73 ?_
            refine r_iload G dX1_place_76 (lv_at hl 4 rfl) ?_
            refine ml_chainOf G K hH (by omega) dX1_place_78 ?_
            refine r_toi (y := nI (s.co b)) ((hC.1 b (by omega)).1 c58) ?_
            refine r_icmp_ne G 85 dX1_place_79 (by decide) (fun c79 => ?_) (fun c79 => ?_)
            · refine r_iload_n G dX1_place_85 rfl (lv_at hl 1 rfl) ?_
              refine n_if_ne G (by omega) 93 dX1_place_86 (by decide) (fun c86 => ?_) (fun c86 => ?_)
              · refine r_aload_n G dX1_place_93 rfl (lv_at hl 0 rfl) ?_
                refine mg_chainOf G K hH (lv_at hl 0 rfl) dX1_place_94 dX1_place_95 ?_
                refine r_iload G dX1_place_98 (lv_at hl 4 rfl) ?_
                refine ml_chainOf G K hH (by omega) dX1_place_100 ?_
                refine r_toi (y := nI (s.co b)) ((hC.1 b (by omega)).1 c58) ?_
                refine mcall_l G K hH rfl (M_sum E.l E.D a d (v := v) (s := s) (pl := q.pl) (c := s.co b) hR hs hC hpl p1 p3) q291 q293 qs16 q294 rfl ⟨by omega, by omega⟩ hl.1 (rest := []) rfl (Nat.le_of_ble_eq_true rfl) dX1_place_101 (fun r σ2 H locs hH hp => ?_)
                obtain ⟨rfl, es⟩ := hp
                rw [es] at hH
                refine r_lstore G [(6, .long (sumc v s q.pl (s.co b))), (0, .ref (a 0)), (1, .int (nI q.n)), (2, .int (-1)), (3, .long (-1)), (5, .int (nI b))] dX1_place_104 hl (by decide) rfl (fun ls hl => ?_)
                refine r_lload G dX1_place_106 (lv_at hl 0 rfl) ?_
                refine r_lload_n G dX1_place_108 rfl (lv_at hl 4 rfl) ?_
                refine l_cmp_gt G 116 dX1_place_109 dX1_place_110 (by decide) (fun c109 => ?_) (fun c109 => ?_)
                · refine mg_chainOf G K hH (lv_at hl 1 rfl) dX1_place_116 dX1_place_117 ?_
                  refine r_iload G dX1_place_120 (lv_at hl 5 rfl) ?_
                  refine ml_chainOf G K hH (by omega) dX1_place_122 ?_
                  refine r_toi (y := nI (s.co b)) ((hC.1 b (by omega)).1 c58) ?_
                  refine r_istore_n G [(2, .int (nI (s.co b))), (6, .long (sumc v s q.pl (s.co b))), (0, .ref (a 0)), (1, .int (nI q.n)), (3, .long (-1)), (5, .int (nI b))] dX1_place_123 rfl hl (by decide) rfl (fun ls hl => ?_)
                  refine r_lload G dX1_place_124 (lv_at hl 1 rfl) ?_
                  refine r_lstore_n G [(3, .long (sumc v s q.pl (s.co b))), (2, .int (nI (s.co b))), (6, .long (sumc v s q.pl (s.co b))), (0, .ref (a 0)), (1, .int (nI q.n)), (5, .int (nI b))] dX1_place_126 rfl hl (by decide) rfl (fun ls hl => ?_)
                  refine r_iinc G (k := 5) (nI (b + 1)) [(5, .int (nI (b + 1))), (3, .long (sumc v s q.pl (s.co b))), (2, .int (nI (s.co b))), (6, .long (sumc v s q.pl (s.co b))), (0, .ref (a 0)), (1, .int (nI q.n))] dX1_place_127 hl rfl (inc1 _) (by decide) rfl (fun ls hl => ?_)
                  refine r_goto G 42 dX1_place_130 (by decide) ?_
                  exact ih _ _ _ H locs ls hH (Or.inr ⟨_, rfl, rfl, bst_new c58 c68 hz⟩) (by omega) (by omega) (lv_sub hl [4, 5, 2, 1, 0] rfl)
                · exact absurd (m1_lt (sumc_nn hv s q.pl _)) c109
              · refine r_lconst G 0 dX1_place_89 (by decide) ?_
                refine r_goto G 104 dX1_place_90 (by decide) ?_
                refine r_tol (y := (sumc v s q.pl (s.co b))) ((hn0 c86 _).symm) ?_
                refine r_lstore G [(6, .long (sumc v s q.pl (s.co b))), (0, .ref (a 0)), (1, .int (nI q.n)), (2, .int (-1)), (3, .long (-1)), (5, .int (nI b))] dX1_place_104 hl (by decide) rfl (fun ls hl => ?_)
                refine r_lload G dX1_place_106 (lv_at hl 0 rfl) ?_
                refine r_lload_n G dX1_place_108 rfl (lv_at hl 4 rfl) ?_
                refine l_cmp_gt G 116 dX1_place_109 dX1_place_110 (by decide) (fun c109 => ?_) (fun c109 => ?_)
                · refine mg_chainOf G K hH (lv_at hl 1 rfl) dX1_place_116 dX1_place_117 ?_
                  refine r_iload G dX1_place_120 (lv_at hl 5 rfl) ?_
                  refine ml_chainOf G K hH (by omega) dX1_place_122 ?_
                  refine r_toi (y := nI (s.co b)) ((hC.1 b (by omega)).1 c58) ?_
                  refine r_istore_n G [(2, .int (nI (s.co b))), (6, .long (sumc v s q.pl (s.co b))), (0, .ref (a 0)), (1, .int (nI q.n)), (3, .long (-1)), (5, .int (nI b))] dX1_place_123 rfl hl (by decide) rfl (fun ls hl => ?_)
                  refine r_lload G dX1_place_124 (lv_at hl 1 rfl) ?_
                  refine r_lstore_n G [(3, .long (sumc v s q.pl (s.co b))), (2, .int (nI (s.co b))), (6, .long (sumc v s q.pl (s.co b))), (0, .ref (a 0)), (1, .int (nI q.n)), (5, .int (nI b))] dX1_place_126 rfl hl (by decide) rfl (fun ls hl => ?_)
                  refine r_iinc G (k := 5) (nI (b + 1)) [(5, .int (nI (b + 1))), (3, .long (sumc v s q.pl (s.co b))), (2, .int (nI (s.co b))), (6, .long (sumc v s q.pl (s.co b))), (0, .ref (a 0)), (1, .int (nI q.n))] dX1_place_127 hl rfl (inc1 _) (by decide) rfl (fun ls hl => ?_)
                  refine r_goto G 42 dX1_place_130 (by decide) ?_
                  exact ih _ _ _ H locs ls hH (Or.inr ⟨_, rfl, rfl, bst_new c58 c68 hz⟩) (by omega) (by omega) (lv_sub hl [4, 5, 2, 1, 0] rfl)
                · exact absurd (m1_lt (sumc_nn hv s q.pl _)) c109
            · exact absurd c79 (ne_m1 (by omega))
    · refine r_iload G dX1_place_42 (lv_at hl 4 rfl) ?_
      refine mg_blocks G K hH (lv_at hl 0 rfl) dX1_place_44 dX1_place_45 ?_
      refine r_toi (y := nI v.nb) (hR.nb) ?_
      refine n_icmp_ge G (by omega) (by omega) 133 dX1_place_48 (by decide) (fun c48 => ?_) (fun c48 => ?_)
      · have e : b = v.nb := by omega
        subst e
        rw [hbs] at hz
        cases hz
        exact kk H locs ls hH (lv_sub hl [0, 1, 2] rfl)
      · refine mg_hot G K hH (lv_at hl 0 rfl) dX1_place_51 dX1_place_52 ?_
        refine r_iload G dX1_place_55 (lv_at hl 4 rfl) ?_
        refine ml_hot G K hH (by omega) dX1_place_57 ?_
        refine r_toi (y := bI (v.hot b)) (hR.hot (by omega)) ?_
        refine b_if_eq G 127 dX1_place_58 (by decide) (fun c58 => ?_) (fun c58 => ?_)
        · refine r_iinc G (k := 4) (nI (b + 1)) [(5, .int (nI (b + 1))), (0, .ref (a 0)), (1, .int (nI q.n)), (2, .int (nI c)), (3, .long (sumc v s q.pl c))] dX1_place_127 hl rfl (inc1 _) (by decide) rfl (fun ls hl => ?_)
          refine r_goto G 42 dX1_place_130 (by decide) ?_
          exact ih _ _ _ H locs ls hH (Or.inr ⟨c, rfl, rfl, by rw [bst_skip (fun z => by rw [c58] at z; exact absurd z.1 (by decide))]; exact hz⟩) (by omega) (by omega) (lv_sub hl [1, 2, 3, 4, 0] rfl)
        · refine mg_isPlaced G K hH (lv_at hl 0 rfl) dX1_place_61 dX1_place_62 ?_
          refine r_iload G dX1_place_65 (lv_at hl 4 rfl) ?_
          refine ml_isPlaced G K hH (by omega) dX1_place_67 ?_
          refine r_toi (y := bI (q.pl b)) (hpl b (by omega)) ?_
          refine b_if_ne G 127 dX1_place_68 (by decide) (fun c68 => ?_) (fun c68 => ?_)
          · refine r_iinc G (k := 4) (nI (b + 1)) [(5, .int (nI (b + 1))), (0, .ref (a 0)), (1, .int (nI q.n)), (2, .int (nI c)), (3, .long (sumc v s q.pl c))] dX1_place_127 hl rfl (inc1 _) (by decide) rfl (fun ls hl => ?_)
            refine r_goto G 42 dX1_place_130 (by decide) ?_
            exact ih _ _ _ H locs ls hH (Or.inr ⟨c, rfl, rfl, by rw [bst_skip (fun z => by rw [c68] at z; exact absurd z.2 (by decide))]; exact hz⟩) (by omega) (by omega) (lv_sub hl [1, 2, 3, 4, 0] rfl)
          · obtain ⟨p1, p2, p3, p4⟩ := hq.hd hs (by omega) c58 c68
            obtain ⟨c1, c2, c3, c4⟩ := bst_some hs hq b (by omega) c hz
            refine r_iload_n G dX1_place_71 rfl (lv_at hl 2 rfl) ?_
            refine mg_chainOf G K hH (lv_at hl 0 rfl) dX1_place_72 dX1_place_73 ?_
            refine r_iload G dX1_place_76 (lv_at hl 4 rfl) ?_
            refine ml_chainOf G K hH (by omega) dX1_place_78 ?_
            refine r_toi (y := nI (s.co b)) ((hC.1 b (by omega)).1 c58) ?_
            refine n_icmp_ne G (by omega) (by omega) 85 dX1_place_79 (by decide) (fun c79 => ?_) (fun c79 => ?_)
            · refine r_iload_n G dX1_place_85 rfl (lv_at hl 1 rfl) ?_
              refine n_if_ne G (by omega) 93 dX1_place_86 (by decide) (fun c86 => ?_) (fun c86 => ?_)
              · refine r_aload_n G dX1_place_93 rfl (lv_at hl 0 rfl) ?_
                refine mg_chainOf G K hH (lv_at hl 0 rfl) dX1_place_94 dX1_place_95 ?_
                refine r_iload G dX1_place_98 (lv_at hl 4 rfl) ?_
                refine ml_chainOf G K hH (by omega) dX1_place_100 ?_
                refine r_toi (y := nI (s.co b)) ((hC.1 b (by omega)).1 c58) ?_
                refine mcall_l G K hH rfl (M_sum E.l E.D a d (v := v) (s := s) (pl := q.pl) (c := s.co b) hR hs hC hpl p1 p3) q291 q293 qs16 q294 rfl ⟨by omega, by omega⟩ hl.1 (rest := []) rfl (Nat.le_of_ble_eq_true rfl) dX1_place_101 (fun r σ2 H locs hH hp => ?_)
                obtain ⟨rfl, es⟩ := hp
                rw [es] at hH
                refine r_lstore G [(6, .long (sumc v s q.pl (s.co b))), (0, .ref (a 0)), (1, .int (nI q.n)), (2, .int (nI c)), (3, .long (sumc v s q.pl c)), (5, .int (nI b))] dX1_place_104 hl (by decide) rfl (fun ls hl => ?_)
                refine r_lload G dX1_place_106 (lv_at hl 0 rfl) ?_
                refine r_lload_n G dX1_place_108 rfl (lv_at hl 4 rfl) ?_
                refine l_cmp_gt G 116 dX1_place_109 dX1_place_110 (by decide) (fun c109 => ?_) (fun c109 => ?_)
                · refine mg_chainOf G K hH (lv_at hl 1 rfl) dX1_place_116 dX1_place_117 ?_
                  refine r_iload G dX1_place_120 (lv_at hl 5 rfl) ?_
                  refine ml_chainOf G K hH (by omega) dX1_place_122 ?_
                  refine r_toi (y := nI (s.co b)) ((hC.1 b (by omega)).1 c58) ?_
                  refine r_istore_n G [(2, .int (nI (s.co b))), (6, .long (sumc v s q.pl (s.co b))), (0, .ref (a 0)), (1, .int (nI q.n)), (3, .long (sumc v s q.pl c)), (5, .int (nI b))] dX1_place_123 rfl hl (by decide) rfl (fun ls hl => ?_)
                  refine r_lload G dX1_place_124 (lv_at hl 1 rfl) ?_
                  refine r_lstore_n G [(3, .long (sumc v s q.pl (s.co b))), (2, .int (nI (s.co b))), (6, .long (sumc v s q.pl (s.co b))), (0, .ref (a 0)), (1, .int (nI q.n)), (5, .int (nI b))] dX1_place_126 rfl hl (by decide) rfl (fun ls hl => ?_)
                  refine r_iinc G (k := 5) (nI (b + 1)) [(5, .int (nI (b + 1))), (3, .long (sumc v s q.pl (s.co b))), (2, .int (nI (s.co b))), (6, .long (sumc v s q.pl (s.co b))), (0, .ref (a 0)), (1, .int (nI q.n))] dX1_place_127 hl rfl (inc1 _) (by decide) rfl (fun ls hl => ?_)
                  refine r_goto G 42 dX1_place_130 (by decide) ?_
                  exact ih _ _ _ H locs ls hH (Or.inr ⟨_, rfl, rfl, bst_up c58 c68 hz c109⟩) (by omega) (by omega) (lv_sub hl [4, 5, 2, 1, 0] rfl)
                · refine r_goto G 127 dX1_place_113 (by decide) ?_
                  refine r_iinc G (k := 5) (nI (b + 1)) [(5, .int (nI (b + 1))), (6, .long (sumc v s q.pl (s.co b))), (0, .ref (a 0)), (1, .int (nI q.n)), (2, .int (nI c)), (3, .long (sumc v s q.pl c))] dX1_place_127 hl rfl (inc1 _) (by decide) rfl (fun ls hl => ?_)
                  refine r_goto G 42 dX1_place_130 (by decide) ?_
                  exact ih _ _ _ H locs ls hH (Or.inr ⟨c, rfl, rfl, bst_stay c58 c68 hz c109⟩) (by omega) (by omega) (lv_sub hl [2, 3, 4, 5, 0] rfl)
              · refine r_lconst G 0 dX1_place_89 (by decide) ?_
                refine r_goto G 104 dX1_place_90 (by decide) ?_
                refine r_tol (y := (sumc v s q.pl (s.co b))) ((hn0 c86 _).symm) ?_
                refine r_lstore G [(6, .long (sumc v s q.pl (s.co b))), (0, .ref (a 0)), (1, .int (nI q.n)), (2, .int (nI c)), (3, .long (sumc v s q.pl c)), (5, .int (nI b))] dX1_place_104 hl (by decide) rfl (fun ls hl => ?_)
                refine r_lload G dX1_place_106 (lv_at hl 0 rfl) ?_
                refine r_lload_n G dX1_place_108 rfl (lv_at hl 4 rfl) ?_
                refine l_cmp_gt G 116 dX1_place_109 dX1_place_110 (by decide) (fun c109 => ?_) (fun c109 => ?_)
                · refine mg_chainOf G K hH (lv_at hl 1 rfl) dX1_place_116 dX1_place_117 ?_
                  refine r_iload G dX1_place_120 (lv_at hl 5 rfl) ?_
                  refine ml_chainOf G K hH (by omega) dX1_place_122 ?_
                  refine r_toi (y := nI (s.co b)) ((hC.1 b (by omega)).1 c58) ?_
                  refine r_istore_n G [(2, .int (nI (s.co b))), (6, .long (sumc v s q.pl (s.co b))), (0, .ref (a 0)), (1, .int (nI q.n)), (3, .long (sumc v s q.pl c)), (5, .int (nI b))] dX1_place_123 rfl hl (by decide) rfl (fun ls hl => ?_)
                  refine r_lload G dX1_place_124 (lv_at hl 1 rfl) ?_
                  refine r_lstore_n G [(3, .long (sumc v s q.pl (s.co b))), (2, .int (nI (s.co b))), (6, .long (sumc v s q.pl (s.co b))), (0, .ref (a 0)), (1, .int (nI q.n)), (5, .int (nI b))] dX1_place_126 rfl hl (by decide) rfl (fun ls hl => ?_)
                  refine r_iinc G (k := 5) (nI (b + 1)) [(5, .int (nI (b + 1))), (3, .long (sumc v s q.pl (s.co b))), (2, .int (nI (s.co b))), (6, .long (sumc v s q.pl (s.co b))), (0, .ref (a 0)), (1, .int (nI q.n))] dX1_place_127 hl rfl (inc1 _) (by decide) rfl (fun ls hl => ?_)
                  refine r_goto G 42 dX1_place_130 (by decide) ?_
                  exact ih _ _ _ H locs ls hH (Or.inr ⟨_, rfl, rfl, bst_up c58 c68 hz c109⟩) (by omega) (by omega) (lv_sub hl [4, 5, 2, 1, 0] rfl)
                · refine r_goto G 127 dX1_place_113 (by decide) ?_
                  refine r_iinc G (k := 5) (nI (b + 1)) [(5, .int (nI (b + 1))), (6, .long (sumc v s q.pl (s.co b))), (0, .ref (a 0)), (1, .int (nI q.n)), (2, .int (nI c)), (3, .long (sumc v s q.pl c))] dX1_place_127 hl rfl (inc1 _) (by decide) rfl (fun ls hl => ?_)
                  refine r_goto G 42 dX1_place_130 (by decide) ?_
                  exact ih _ _ _ H locs ls hH (Or.inr ⟨c, rfl, rfl, bst_stay c58 c68 hz c109⟩) (by omega) (by omega) (lv_sub hl [2, 3, 4, 5, 0] rfl)
            · refine r_goto G 127 dX1_place_82 (by decide) ?_
              refine r_iinc G (k := 4) (nI (b + 1)) [(5, .int (nI (b + 1))), (0, .ref (a 0)), (1, .int (nI q.n)), (2, .int (nI c)), (3, .long (sumc v s q.pl c))] dX1_place_127 hl rfl (inc1 _) (by decide) rfl (fun ls hl => ?_)
              refine r_goto G 42 dX1_place_130 (by decide) ?_
              exact ih _ _ _ H locs ls hH (Or.inr ⟨c, rfl, rfl, bst_stay c58 c68 hz (by rw [← c79]; exact i64_irr _)⟩) (by omega) (by omega) (lv_sub hl [1, 2, 3, 4, 0] rfl)
set_option maxHeartbeats 4000000 in
theorem M_place_L3 {E : Ev} {a : Nat → Nat} {d : Nat → ClassId} {σ0 : St} {v : Vw} {s : Cs} {q : Pl} {c : Nat} (G : CX E RX1 cX1_place 8) (K : KX E (mt d)) (hs : CsOk v s) (hC : CsM v s (σ0.2.1 8) (σ0.2.1 9) (σ0.2.1 10)) (hc : c < v.nb) (hh : v.hot c = true) (hr : s.co c = c) (hbn : q.n + s.mn c ≤ 200) (kk : ∀ (σ : St) (H : Heap) (locs : List Loc) (ls : Array Slot), MH E a d σ H locs → MR σ v → PM σ0 σ → (∀ j, j < q.n + s.mn c → σ.2.1 11 j = nI ((q.put s c).od j)) → (∀ b, b < v.nb → σ.2.1 16 b = bI ((q.put s c).pl b)) → lv_has ls 8 [(0, .ref (a 0)), (1, .int (nI (q.n + s.mn c)))] → WE E H locs 25 ls []) :
    ∀ (M : Nat) (σ : St) (i : Nat) (H : Heap) (locs : List Loc) (ls : Array Slot), MH E a d σ H locs → MR σ v → PM σ0 σ → (∀ j, j < q.n + i → σ.2.1 11 j = nI ((q.put s c).od j)) → (∀ b, b < v.nb → σ.2.1 16 b = bI (plg s q c i b)) → i ≤ s.mn c → s.mn c - i < M → lv_has ls 8 [(0, .ref (a 0)), (1, .int (nI (q.n + i))), (2, .int (nI c)), (5, .int (nI i))] → WE E H locs 136 ls [] := by
  intro M
  induction M with
  | zero => exact fun σ i H locs ls _ _ _ _ _ _ q => absurd q (Nat.not_lt_zero _)
  | succ M ih =>
    intro σ i H locs ls hH hR hF h11 h16 hi hM hl
    have hv := hR.ok
    have hbd := hv.bd
    refine r_iload G dX1_place_136 (lv_at hl 3 rfl) ?_
    refine mg_many G K hH (lv_at hl 0 rfl) dX1_place_138 dX1_place_139 ?_
    refine r_iload_n G dX1_place_142 rfl (lv_at hl 2 rfl) ?_
    refine ml_many G K hH (by omega) dX1_place_143 ?_
    refine r_toi (y := nI (s.mn c)) ((congrFun hF.2.2.1 _).trans (hC.2.1 c hc hh)) ?_
    refine n_icmp_ge G (by omega) (by omega) 187 dX1_place_144 (by decide) (fun c144 => ?_) (fun c144 => ?_)
    · refine r_goto G 25 dX1_place_187 (by decide) ?_
      have e : i = s.mn c := by omega
      subst e
      exact kk σ H locs ls hH hR hF h11 (fun b hb => by rw [h16 b hb, plg_all hs hb]) (lv_sub hl [0, 1] rfl)
    · refine mg_byChains G K hH (lv_at hl 0 rfl) dX1_place_147 dX1_place_148 ?_
      refine r_iload_n G dX1_place_151 rfl (lv_at hl 1 rfl) ?_
      refine mg_table G K hH (lv_at hl 0 rfl) dX1_place_152 dX1_place_153 ?_
      refine r_sipush G (nI 200) dX1_place_156 (by decide) ?_
      refine r_iload_n G dX1_place_159 rfl (lv_at hl 2 rfl) ?_
      refine r_imulN G dX1_place_160 ?_
      refine r_iload G dX1_place_161 (lv_at hl 3 rfl) ?_
      refine r_iaddN G dX1_place_163 ?_
      refine ml_table G K hH (by omega) dX1_place_164 ?_
      refine r_toi (y := nI (s.tb c i)) ((congrFun hF.2.1 _).trans (hC.2.2 c hc hh hr i c144)) ?_
      obtain ⟨t1, t2, t3⟩ := hs.2.1 c hc hr i c144
      refine ms_byChains G K hH (by omega) dX1_place_165 (fun H locs hH => ?_)
      refine mg_isPlaced G K hH (lv_at hl 0 rfl) dX1_place_166 dX1_place_167 ?_
      refine mg_byChains G K hH (lv_at hl 0 rfl) dX1_place_170 dX1_place_171 ?_
      refine r_iload_n G dX1_place_174 rfl (lv_at hl 1 rfl) ?_
      refine ml_byChains G K hH (by omega) dX1_place_175 ?_
      refine r_toi (y := nI (s.tb c i)) (upd_me _ _ _) ?_
      refine r_iconst G (nI 1) dX1_place_176 (by decide) ?_
      refine ms_isPlaced G K hH (by omega) (by decide) dX1_place_177 (fun H locs hH => ?_)
      refine r_iinc G (k := 1) (nI ((q.n + i) + 1)) [(1, .int (nI ((q.n + i) + 1))), (0, .ref (a 0)), (2, .int (nI c)), (5, .int (nI i))] dX1_place_178 hl rfl (inc1 _) (by decide) rfl (fun ls hl => ?_)
      refine r_iinc G (k := 3) (nI (i + 1)) [(5, .int (nI (i + 1))), (1, .int (nI ((q.n + i) + 1))), (0, .ref (a 0)), (2, .int (nI c))] dX1_place_181 hl rfl (inc1 _) (by decide) rfl (fun ls hl => ?_)
      refine r_goto G 136 dX1_place_184 (by decide) ?_
      have g11 : ∀ j, j < q.n + (i + 1) → upd (σ.2.1 11) (q.n + i) (nI (s.tb c i)) j = nI ((q.put s c).od j) := upd_run (g := fun j => nI ((q.put s c).od j)) h11 (congrArg nI put_od.symm)
      have g16 : ∀ b, b < v.nb → upd (σ.2.1 16) (s.tb c i) (nI 1) b = bI (plg s q c (i + 1) b) := fun b hb => plg_s hs hc hr c144 hb (h16 b hb)
      exact ih _ (i + 1) H locs ls hH hR hF g11 g16 (by omega) (by omega) (lv_sub hl [2, 1, 3, 0] rfl)
set_option maxHeartbeats 4000000 in
theorem M_place_L4 {E : Ev} {a : Nat → Nat} {d : Nat → ClassId} {σ0 : St} {v : Vw} (G : CX E RX1 cX1_place 8) (K : KX E (mt d)) (hfr : 1 ≤ E.R.frames) (hlo : 26 ≤ E.R.locals) (h13 : σ0.1 13 = nI v.nh) (hC : CsM v v.cs (σ0.2.1 8) (σ0.2.1 9) (σ0.2.1 10)) (hret : ∀ (pc : Nat) (ls : Array Slot) (H : Heap) (locs : List Loc) (σ : St), decode cX1_place pc = .ok (.return_, 1) → MH E a d σ H locs → MR σ v → PM σ0 σ → (∀ i, i < v.nh → σ.2.1 11 i = nI (v.bc i)) → WE E H locs pc ls []) :
    ∀ (M : Nat) (σ : St) (t : Nat) (q : Pl) (H : Heap) (locs : List Loc) (ls : Array Slot), MH E a d σ H locs → q = plc v v.cs t → (t = 0 ∨ 0 < q.n) → MR σ v → PM σ0 σ → (∀ b, b < v.nb → σ.2.1 16 b = bI (q.pl b)) → (∀ j, j < q.n → σ.2.1 11 j = nI (q.od j)) → v.nh - q.n < M → lv_has ls 8 [(0, .ref (a 0)), (1, .int (nI q.n))] → WE E H locs 25 ls [] := by
  intro M
  induction M with
  | zero => exact fun σ t q H locs ls _ _ _ _ _ _ _ q => absurd q (Nat.not_lt_zero _)
  | succ M ih =>
    intro σ t q H locs ls hH hqe htn hR hF h16 h11 hM hl
    have hv := hR.ok
    have hbd := hv.bd
    have hnh := nh_le v
    have hs := cs_ok hv
    have hq : PlOk v v.cs q := by
      rw [hqe]
      exact plc_ok hs t
    have hqn := hq.le hs
    have hn0 : q.n = 0 → ∀ c, sumc v v.cs q.pl c = 0 := by
      intro z c
      have ht0 : t = 0 := htn.resolve_right (by omega)
      rw [hqe, ht0]
      exact sumc_none v v.cs c
    have hC2 : CsM v v.cs (σ.2.1 8) (σ.2.1 9) (σ.2.1 10) := by
      rw [hF.2.1, hF.2.2.1, hF.2.2.2.1]
      exact hC
    refine r_iload_n G dX1_place_25 rfl (lv_at hl 1 rfl) ?_
    refine mg_hots G K hH (lv_at hl 0 rfl) dX1_place_26 dX1_place_27 ?_
    refine r_toi (y := nI v.nh) ((congrFun hF.1 13).trans h13) ?_
    refine n_icmp_ge G (by omega) (by omega) 190 dX1_place_30 (by decide) (fun c30 => ?_) (fun c30 => ?_)
    · have e : q = v.pf := by
        rw [hqe]
        refine plc_fin hv ?_
        rw [← hqe]
        exact c30
      have en := (pf_ok hv).2
      exact hret _ _ _ _ σ dX1_place_190 hH hR hF (fun i hi => by rw [h11 i (by omega), e]; rfl)
    · obtain ⟨c, hc, c1, c2, c3, c4, c5, c6, c7, c8⟩ := plc_step hs (t := t) (by rw [← hqe]; exact hq) (by rw [← hqe]; exact c30)
      rw [← hqe] at hc c4 c5 c7 c8
      refine r_iconst G ((-1)) dX1_place_33 (by decide) ?_
      refine r_istore_n G [(2, .int (-1)), (0, .ref (a 0)), (1, .int (nI q.n))] dX1_place_34 rfl hl (by decide) rfl (fun ls hl => ?_)
      refine r_ldc2 G (v := (-1)) q257 dX1_place_35 ?_
      refine r_lstore_n G [(3, .long (-1)), (2, .int (-1)), (0, .ref (a 0)), (1, .int (nI q.n))] dX1_place_38 rfl hl (by decide) rfl (fun ls hl => ?_)
      refine r_iconst G (nI 0) dX1_place_39 (by decide) ?_
      refine r_istore G [(5, .int (nI 0)), (3, .long (-1)), (2, .int (-1)), (0, .ref (a 0)), (1, .int (nI q.n))] dX1_place_40 hl (by decide) rfl (fun ls hl => ?_)
      refine M_place_L2 G K hfr hlo hR hs hq hC2 h16 hn0 (by omega) hc (fun H locs ls hH hl => ?_) (v.nb + 1) 0 _ _ H locs ls hH (Or.inl ⟨rfl, rfl, rfl⟩) (Nat.zero_le _) (by omega) (lv_sub hl [3, 4, 2, 1, 0] rfl)
      refine r_iconst G (nI 0) dX1_place_133 (by decide) ?_
      refine r_istore G [(5, .int (nI 0)), (0, .ref (a 0)), (1, .int (nI q.n)), (2, .int (nI c))] dX1_place_134 hl (by decide) rfl (fun ls hl => ?_)
      refine M_place_L3 G K (σ0 := σ0) hs hC c1 c3 c2 (by omega) (fun σ2 H locs ls hH hR2 hF2 g11 g16 hl => ?_) (v.cs.mn c + 1) σ 0 H locs ls hH hR hF (fun j hj => by rw [h11 j hj, put_od0 hj]) (fun b hb => by rw [h16 b hb, plg_0]) (Nat.zero_le _) (by omega) (lv_sub hl [1, 2, 3, 0] rfl)
      exact ih σ2 (t + 1) (q.put v.cs c) H locs ls hH c5.symm (Or.inr (by show 0 < q.n + v.cs.mn c; omega)) hR2 hF2 g16 g11 (by show v.nh - (q.n + v.cs.mn c) < M; omega) hl
set_option maxHeartbeats 4000000 in
theorem M_place (l : Launch) (D : va_G) (a : Nat → Nat) (d : Nat → ClassId) {σ : St} {v : Vw} (hR : MR σ v) (h13 : σ.1 13 = nI v.nh) (hC : CsM v v.cs (σ.2.1 8) (σ.2.1 9) (σ.2.1 10)) : CMv l yX1_place cX1_place 8 1 26 D (mt d) (mw a d) [.ref (a 0)] σ (fun σ' => MR σ' v ∧ PM σ σ' ∧ ∀ i, i < v.nh → σ'.2.1 11 i = nI (v.bc i)) := by
  refine CMv.of (by decide) (Nat.le_of_ble_eq_true rfl) ?_
  intro E ls G hfr hlo K hH hl hret
  have hl : lv_has ls 8 [(0, .ref (a 0))] := hl
  have G : CX E RX1 cX1_place 8 := G
  refine r_iconst G (nI 0) dX1_place_0 (by decide) ?_
  refine r_istore_n G [(1, .int (nI 0)), (0, .ref (a 0))] dX1_place_1 rfl hl (by decide) rfl (fun ls hl => ?_)
  refine M_place_L1 G K (σ0 := σ) (fun σ1 H locs ls hH hR hF h16 hl => ?_) (v.nb + 1) σ 0 _ _ ls hH hR ⟨rfl, rfl, rfl, rfl, rfl⟩ (fun i hi => absurd hi (Nat.not_lt_zero i)) (Nat.zero_le _) (by omega) (lv_sub hl [1, 0] rfl)
  refine r_iconst G (nI 0) dX1_place_23 (by decide) ?_
  refine r_istore_n G [(1, .int (nI 0)), (0, .ref (a 0))] dX1_place_24 rfl hl (by decide) rfl (fun ls hl => ?_)
  exact M_place_L4 G K hfr hlo h13 hC (fun pc ls H locs σ2 dg hH hR hF h11 => hret _ _ _ _ _ dg hH ⟨hR, hF, h11⟩) (v.nh + 1) σ1 0 Pl.ini H locs ls hH rfl (Or.inl rfl) hR hF h16 (fun i hi => absurd hi (Nat.not_lt_zero i)) (by omega) (lv_sub hl [1, 0] rfl)
end
section
set_option maxRecDepth 100000
set_option maxHeartbeats 4000000 in
theorem M_know_L {E : Ev} {a : Nat → Nat} {d : Nat → ClassId} {v : Vw} (G : CX E RX1 cX1_know 2) (K : KX E (mt d)) (kk : ∀ (σ : St) (H : Heap) (locs : List Loc) (ls : Array Slot), MH E a d σ H locs → MR σ v → σ.1 7 = bI true → σ.1 13 = nI v.nh → (∀ i, i < v.nb → σ.2.1 10 i = if v.hot i = true then nI i else -1) → (∀ i, i < v.nb → σ.2.1 9 i = if v.hot i = true then nI 1 else nI 0) → (∀ i, i < v.nb → σ.2.1 8 (200 * i) = nI i) → (∀ i, i < v.nh → σ.2.1 12 i = nI (v.bn i)) → lv_has ls 2 [(0, .ref (a 0))] → WE E H locs 117 ls []) :
    ∀ (M : Nat) (σ : St) (b : Nat) (H : Heap) (locs : List Loc) (ls : Array Slot), MH E a d σ H locs → MR σ v → σ.1 7 = bI true → σ.1 13 = nI (hc v b) → (∀ i, i < b → σ.2.1 10 i = if v.hot i = true then nI i else -1) → (∀ i, i < b → σ.2.1 9 i = if v.hot i = true then nI 1 else nI 0) → (∀ i, i < b → σ.2.1 8 (200 * i) = nI i) → (∀ i, i < hc v b → σ.2.1 12 i = nI (bnf v b i)) → b ≤ v.nb → v.nb - b < M → lv_has ls 2 [(0, .ref (a 0)), (1, .int (nI b))] → WE E H locs 20 ls [] := by
  intro M
  induction M with
  | zero => exact fun σ b H locs ls _ _ _ _ _ _ _ _ _ q => absurd q (Nat.not_lt_zero _)
  | succ M ih =>
    intro σ b H locs ls hH hR h7 h13 h10 h9 h8 h12 hb hM hl
    have hv := hR.ok
    have hbd := hv.bd
    have hcb := hc_le v b
    refine r_iload_n G dX1_know_20 rfl (lv_at hl 1 rfl) ?_
    refine mg_blocks G K hH (lv_at hl 0 rfl) dX1_know_21 dX1_know_22 ?_
    refine r_toi (y := nI v.nb) (hR.nb) ?_
    refine n_icmp_ge G (by omega) (by omega) 117 dX1_know_25 (by decide) (fun c25 => ?_) (fun c25 => ?_)
    · have e : b = v.nb := by omega
      subst e
      exact kk σ H locs ls hH hR h7 h13 h10 h9 h8 h12 (lv_sub hl [0] rfl)
    · refine mg_chainOf G K hH (lv_at hl 0 rfl) dX1_know_28 dX1_know_29 ?_
      refine r_iload_n G dX1_know_32 rfl (lv_at hl 1 rfl) ?_
      refine mg_hot G K hH (lv_at hl 0 rfl) dX1_know_33 dX1_know_34 ?_
      refine r_iload_n G dX1_know_37 rfl (lv_at hl 1 rfl) ?_
      refine ml_hot G K hH (by omega) dX1_know_38 ?_
      refine r_toi (y := bI (v.hot b)) (hR.hot (by omega)) ?_
      refine b_if_eq G 46 dX1_know_39 (by decide) (fun c39 => ?_) (fun c39 => ?_)
      · refine r_iconst G ((-1)) dX1_know_46 (by decide) ?_
        refine ms_chainOf G K hH (by omega) dX1_know_47 (fun H locs hH => ?_)
        refine mg_many G K hH (lv_at hl 0 rfl) dX1_know_48 dX1_know_49 ?_
        refine r_iload_n G dX1_know_52 rfl (lv_at hl 1 rfl) ?_
        refine mg_hot G K hH (lv_at hl 0 rfl) dX1_know_53 dX1_know_54 ?_
        refine r_iload_n G dX1_know_57 rfl (lv_at hl 1 rfl) ?_
        refine ml_hot G K hH (by omega) dX1_know_58 ?_
        refine r_toi (y := bI (v.hot b)) (hR.hot (by omega)) ?_
        refine b_if_eq G 66 dX1_know_59 (by decide) (fun c59 => ?_) (fun c59 => ?_)
        · refine r_iconst G (nI 0) dX1_know_66 (by decide) ?_
          refine ms_many G K hH (by omega) dX1_know_67 (fun H locs hH => ?_)
          refine mg_table G K hH (lv_at hl 0 rfl) dX1_know_68 dX1_know_69 ?_
          refine r_sipush G (nI 200) dX1_know_72 (by decide) ?_
          refine r_iload_n G dX1_know_75 rfl (lv_at hl 1 rfl) ?_
          refine r_imulN G dX1_know_76 ?_
          refine r_iload_n G dX1_know_77 rfl (lv_at hl 1 rfl) ?_
          refine ms_table G K hH (by omega) dX1_know_78 (fun H locs hH => ?_)
          refine mg_hot G K hH (lv_at hl 0 rfl) dX1_know_79 dX1_know_80 ?_
          refine r_iload_n G dX1_know_83 rfl (lv_at hl 1 rfl) ?_
          refine ml_hot G K hH (by omega) dX1_know_84 ?_
          refine r_toi (y := bI (v.hot b)) (hR.hot (by omega)) ?_
          refine b_if_ne G 91 dX1_know_85 (by decide) (fun c85 => ?_) (fun c85 => ?_)
          · exact absurd (c39.symm.trans c85) (by decide)
          · refine r_goto G 111 dX1_know_88 (by decide) ?_
            refine r_iinc G (k := 1) (nI (b + 1)) [(1, .int (nI (b + 1))), (0, .ref (a 0))] dX1_know_111 hl rfl (inc1 _) (by decide) rfl (fun ls hl => ?_)
            refine r_goto G 20 dX1_know_114 (by decide) ?_
            have g10 : ∀ i, i < b + 1 → upd (σ.2.1 10) b (-1) i = if v.hot i = true then nI i else -1 := upd_run (g := fun i => if v.hot i = true then nI i else -1) h10 (if_neg (by rw [c39]; decide)).symm
            have g9 : ∀ i, i < b + 1 → upd (σ.2.1 9) b (nI 0) i = if v.hot i = true then nI 1 else nI 0 := upd_run (g := fun i => if v.hot i = true then nI 1 else nI 0) h9 (if_neg (by rw [c39]; decide)).symm
            have g8 : ∀ i, i < b + 1 → upd (σ.2.1 8) (200 * b) (nI b) (200 * i) = nI i := by
              intro i hi
              by_cases e : i = b
              · rw [e, upd_me]
              · rw [upd_ne (by omega)]
                exact h8 i (by omega)
            obtain ⟨e1, e2⟩ := bnf_cold c39
            exact ih _ _ H locs ls hH hR h7 (by rw [e1]; exact h13) g10 g9 g8 (by rw [e1, e2]; exact h12) (by omega) (by omega) (lv_sub hl [1, 0] rfl)
        · exact absurd (c39.symm.trans c59) (by decide)
      · refine r_iload_n G dX1_know_42 rfl (lv_at hl 1 rfl) ?_
        refine r_goto G 47 dX1_know_43 (by decide) ?_
        refine ms_chainOf G K hH (by omega) dX1_know_47 (fun H locs hH => ?_)
        refine mg_many G K hH (lv_at hl 0 rfl) dX1_know_48 dX1_know_49 ?_
        refine r_iload_n G dX1_know_52 rfl (lv_at hl 1 rfl) ?_
        refine mg_hot G K hH (lv_at hl 0 rfl) dX1_know_53 dX1_know_54 ?_
        refine r_iload_n G dX1_know_57 rfl (lv_at hl 1 rfl) ?_
        refine ml_hot G K hH (by omega) dX1_know_58 ?_
        refine r_toi (y := bI (v.hot b)) (hR.hot (by omega)) ?_
        refine b_if_eq G 66 dX1_know_59 (by decide) (fun c59 => ?_) (fun c59 => ?_)
        · exact absurd (c39.symm.trans c59) (by decide)
        · refine r_iconst G (nI 1) dX1_know_62 (by decide) ?_
          refine r_goto G 67 dX1_know_63 (by decide) ?_
          refine ms_many G K hH (by omega) dX1_know_67 (fun H locs hH => ?_)
          refine mg_table G K hH (lv_at hl 0 rfl) dX1_know_68 dX1_know_69 ?_
          refine r_sipush G (nI 200) dX1_know_72 (by decide) ?_
          refine r_iload_n G dX1_know_75 rfl (lv_at hl 1 rfl) ?_
          refine r_imulN G dX1_know_76 ?_
          refine r_iload_n G dX1_know_77 rfl (lv_at hl 1 rfl) ?_
          refine ms_table G K hH (by omega) dX1_know_78 (fun H locs hH => ?_)
          refine mg_hot G K hH (lv_at hl 0 rfl) dX1_know_79 dX1_know_80 ?_
          refine r_iload_n G dX1_know_83 rfl (lv_at hl 1 rfl) ?_
          refine ml_hot G K hH (by omega) dX1_know_84 ?_
          refine r_toi (y := bI (v.hot b)) (hR.hot (by omega)) ?_
          refine b_if_ne G 91 dX1_know_85 (by decide) (fun c85 => ?_) (fun c85 => ?_)
          · refine mg_byNumber G K hH (lv_at hl 0 rfl) dX1_know_91 dX1_know_92 ?_
            refine mg_hots G K hH (lv_at hl 0 rfl) dX1_know_95 dX1_know_96 ?_
            refine r_toi (y := nI (hc v b)) (h13) ?_
            refine r_iload_n G dX1_know_99 rfl (lv_at hl 1 rfl) ?_
            refine ms_byNumber G K hH (by omega) dX1_know_100 (fun H locs hH => ?_)
            refine r_aload_n G dX1_know_101 rfl (lv_at hl 0 rfl) ?_
            refine r_dup G dX1_know_102 rfl ?_
            refine mgf_hots G K hH dX1_know_103 ?_
            refine r_toi (y := nI (hc v b)) (h13) ?_
            refine r_iconst G (nI 1) dX1_know_106 (by decide) ?_
            refine r_iaddN G dX1_know_107 ?_
            refine mp_hots G K hH dX1_know_108 (fun H locs hH => ?_)
            refine r_iinc G (k := 1) (nI (b + 1)) [(1, .int (nI (b + 1))), (0, .ref (a 0))] dX1_know_111 hl rfl (inc1 _) (by decide) rfl (fun ls hl => ?_)
            refine r_goto G 20 dX1_know_114 (by decide) ?_
            have g10 : ∀ i, i < b + 1 → upd (σ.2.1 10) b (nI b) i = if v.hot i = true then nI i else -1 := upd_run (g := fun i => if v.hot i = true then nI i else -1) h10 (if_pos c39).symm
            have g9 : ∀ i, i < b + 1 → upd (σ.2.1 9) b (nI 1) i = if v.hot i = true then nI 1 else nI 0 := upd_run (g := fun i => if v.hot i = true then nI 1 else nI 0) h9 (if_pos c39).symm
            have g8 : ∀ i, i < b + 1 → upd (σ.2.1 8) (200 * b) (nI b) (200 * i) = nI i := by
              intro i hi
              by_cases e : i = b
              · rw [e, upd_me]
              · rw [upd_ne (by omega)]
                exact h8 i (by omega)
            obtain ⟨e1, e2, e3⟩ := bnf_hot c39
            have g12 : ∀ i, i < hc v b + 1 → upd (σ.2.1 12) (hc v b) (nI b) i = nI (bnf v (b + 1) i) := upd_run (g := fun i => nI (bnf v (b + 1) i)) (fun i hi => by rw [h12 i hi, e2 i hi]) (by rw [e3])
            exact ih _ _ H locs ls hH hR h7 (by rw [e1]; rfl) g10 g9 g8 (by rw [e1]; exact g12) (by omega) (by omega) (lv_sub hl [1, 0] rfl)
          · exact absurd (c39.symm.trans c85) (by decide)
set_option maxHeartbeats 4000000 in
theorem M_know (l : Launch) (D : va_G) (a : Nat → Nat) (d : Nat → ClassId) {σ : St} {v : Vw} (hI : MI σ v) : CMv l yX1_know cX1_know 2 2 53 D (mt d) (mw a d) [.ref (a 0)] σ (fun σ' => MR σ' v ∧ σ'.1 7 = bI true ∧ MD σ' v) := by
  refine CMv.of (by decide) (Nat.le_of_ble_eq_true rfl) ?_
  intro E ls G hfr hlo K hH hl hret
  have hl : lv_has ls 2 [(0, .ref (a 0))] := hl
  have G : CX E RX1 cX1_know 2 := G
  obtain ⟨hR, w, h7, hD⟩ := hI
  have hv := hR.ok
  have hbd := hv.bd
  have hs := cs_ok hv
  have hnh := nh_le v
  refine mg_isKnown G K hH (lv_at hl 0 rfl) dX1_know_0 dX1_know_1 ?_
  refine r_toi (y := bI w) (h7) ?_
  refine b_if_eq G 8 dX1_know_4 (by decide) (fun c4 => ?_) (fun c4 => ?_)
  · refine r_aload_n G dX1_know_8 rfl (lv_at hl 0 rfl) ?_
    refine r_iconst G (nI 1) dX1_know_9 (by decide) ?_
    refine mp_isKnown G K hH rfl rfl dX1_know_10 (fun H locs hH => ?_)
    refine r_aload_n G dX1_know_13 rfl (lv_at hl 0 rfl) ?_
    refine r_iconst G (nI 0) dX1_know_14 (by decide) ?_
    refine mp_hots G K hH dX1_know_15 (fun H locs hH => ?_)
    refine r_iconst G (nI 0) dX1_know_18 (by decide) ?_
    refine r_istore_n G [(1, .int (nI 0)), (0, .ref (a 0))] dX1_know_19 rfl hl (by decide) rfl (fun ls hl => ?_)
    refine M_know_L G K (fun σ H locs ls hH hR h7 h13 h10 h9 h8 h12 hl => ?_) (v.nb + 1) _ 0 _ _ ls hH hR rfl rfl (fun i hi => absurd hi (Nat.not_lt_zero i)) (fun i hi => absurd hi (Nat.not_lt_zero i)) (fun i hi => absurd hi (Nat.not_lt_zero i)) (fun i hi => absurd hi (Nat.not_lt_zero i)) (Nat.zero_le _) (by omega) (lv_sub hl [1, 0] rfl)
    refine r_aload_n G dX1_know_117 rfl (lv_at hl 0 rfl) ?_
    refine mcall_v G K hH rfl (M_chains E.l E.D a d (v := v) hR (CsM.ini (fun b hb => ⟨fun z => by rw [h10 b hb, if_pos z], fun z => by rw [h10 b hb, if_neg (by rw [z]; decide)]⟩) (fun c hc z => by rw [h9 c hc, if_pos z]) h8)) q279 q281 qs13 q282 rfl ⟨by omega, by omega⟩ hl.1 (rest := []) rfl (Nat.le_of_ble_eq_true rfl) dX1_know_118 (fun σ1 H locs hH hp => ?_)
    obtain ⟨hR1, hF1, hC1⟩ := hp
    have g13 : σ1.1 13 = nI v.nh := (congrFun hF1.1 13).trans h13
    refine r_aload_n G dX1_know_121 rfl (lv_at hl 0 rfl) ?_
    refine mcall_v G K hH rfl (M_place E.l E.D a d (v := v) hR1 g13 hC1) q287 q289 qs15 q290 rfl ⟨by omega, by omega⟩ hl.1 (rest := []) rfl (Nat.le_of_ble_eq_true rfl) dX1_know_122 (fun σ2 H locs hH hp => ?_)
    obtain ⟨hR2, ⟨k1, k2, k3, k4, k5⟩, h11⟩ := hp
    have g13 : σ2.1 13 = nI v.nh := (congrFun k1 13).trans g13
    have g12 : ∀ i, i < v.nh → σ2.2.1 12 i = nI (v.bn i) := fun i hi => (congrFun k5 i).trans ((congrFun hF1.2 i).trans (h12 i hi))
    refine r_aload_n G dX1_know_125 rfl (lv_at hl 0 rfl) ?_
    refine r_aload_n G dX1_know_126 rfl (lv_at hl 0 rfl) ?_
    refine mg_byChains G K hH (lv_at hl 0 rfl) dX1_know_127 dX1_know_128 ?_
    refine mg_hots G K hH (lv_at hl 0 rfl) dX1_know_131 dX1_know_132 ?_
    refine r_toi (y := nI v.nh) (g13) ?_
    refine mcall_l G K hH rfl (M_weightOf E.l E.D a d (v := v) (row := v.bc) (n := v.nh) (rk := 11) (pq := 9) (pt := 8) hR2 (bc_row hv) (by omega) h11 rfl rfl) q295 q297 qs17 q298 rfl ⟨by omega, by omega⟩ hl.1 (rest := [.ref (a 0)]) rfl (Nat.le_of_ble_eq_true rfl) dX1_know_135 (fun r σ3 H locs hH hp => ?_)
    obtain ⟨rfl, es⟩ := hp
    rw [es] at hH
    refine r_aload_n G dX1_know_138 rfl (lv_at hl 0 rfl) ?_
    refine mg_byNumber G K hH (lv_at hl 0 rfl) dX1_know_139 dX1_know_140 ?_
    refine mg_hots G K hH (lv_at hl 0 rfl) dX1_know_143 dX1_know_144 ?_
    refine r_toi (y := nI v.nh) (g13) ?_
    refine mcall_l G K hH rfl (M_weightOf E.l E.D a d (v := v) (row := v.bn) (n := v.nh) (rk := 12) (pq := 10) (pt := 9) hR2 (bn_row v) (by omega) g12 rfl rfl) q295 q297 qs17 q298 rfl ⟨by omega, by omega⟩ hl.1 (rest := [.long (wst v v.bc v.nh), .ref (a 0)]) rfl (Nat.le_of_ble_eq_true rfl) dX1_know_147 (fun r σ3 H locs hH hp => ?_)
    obtain ⟨rfl, es⟩ := hp
    rw [es] at hH
    refine l_cmp_le G 158 dX1_know_150 dX1_know_151 (by decide) (fun c150 => ?_) (fun c150 => ?_)
    · refine r_iconst G (nI 0) dX1_know_158 (by decide) ?_
      refine r_toi (y := bI v.bet) (bI_f (Int64.not_lt.mpr c150)) ?_
      refine mp_isBetter G K hH (bI_nar _) (bI_fit _) dX1_know_159 (fun H locs hH => ?_)
      have f7 : σ2.1 7 = bI true := (congrFun k1 7).trans ((congrFun hF1.1 7).trans h7)
      have f10 : ∀ b, b < v.nb → v.hot b = true → σ2.2.1 10 b = nI (v.cs.co b) := fun b hb z => (congrFun k4 b).trans ((hC1.1 b hb).1 z)
      have f8 : ∀ c, c < v.nb → v.hot c = true → v.cs.co c = c → σ2.2.1 8 (200 * c) = nI c := by
        intro c hc z1 z2
        have y1 := (hs.1 c hc).2.1
        have y2 := (hs.1 c hc).2.2.2.2.1
        have y3 := (hs.first hc).mpr z2
        rw [z2, y3] at y1 y2
        exact (congrFun k2 _).trans ((hC1.2.2 c hc z1 z2 0 y1).trans (congrArg nI y2))
      exact hret _ _ _ _ _ dX1_know_162 hH ⟨hR2, f7, g13, h11, g12, rfl, f10, f8⟩
    · refine r_iconst G (nI 1) dX1_know_154 (by decide) ?_
      refine r_goto G 159 dX1_know_155 (by decide) ?_
      refine r_toi (y := bI v.bet) (bI_t (Int64.not_le.mp c150)) ?_
      refine mp_isBetter G K hH (bI_nar _) (bI_fit _) dX1_know_159 (fun H locs hH => ?_)
      have f7 : σ2.1 7 = bI true := (congrFun k1 7).trans ((congrFun hF1.1 7).trans h7)
      have f10 : ∀ b, b < v.nb → v.hot b = true → σ2.2.1 10 b = nI (v.cs.co b) := fun b hb z => (congrFun k4 b).trans ((hC1.1 b hb).1 z)
      have f8 : ∀ c, c < v.nb → v.hot c = true → v.cs.co c = c → σ2.2.1 8 (200 * c) = nI c := by
        intro c hc z1 z2
        have y1 := (hs.1 c hc).2.1
        have y2 := (hs.1 c hc).2.2.2.2.1
        have y3 := (hs.first hc).mpr z2
        rw [z2, y3] at y1 y2
        exact (congrFun k2 _).trans ((hC1.2.2 c hc z1 z2 0 y1).trans (congrArg nI y2))
      exact hret _ _ _ _ _ dX1_know_162 hH ⟨hR2, f7, g13, h11, g12, rfl, f10, f8⟩
  · exact hret _ _ _ _ _ dX1_know_7 hH ⟨hR, by rw [h7, c4], hD c4⟩
set_option maxHeartbeats 4000000 in
theorem M_length (l : Launch) (D : va_G) (a : Nat → Nat) (d : Nat → ClassId) {σ : St} {v : Vw} (hI : MI σ v) : CMi l yX1_length cX1_length 1 .int 3 74 D (mt d) (mw a d) [.ref (a 0)] σ (fun r σ' => r = nI v.nh ∧ MI σ' v) := by
  refine CMi.of (by decide) (Nat.le_of_ble_eq_true rfl) ?_
  intro E ls G hfr hlo K hH hl hret
  have hl : lv_has ls 1 [(0, .ref (a 0))] := hl
  have G : CX E RX1 cX1_length 1 := G
  have hv := hI.1.ok
  have hbd := hv.bd
  have hnh := nh_le v
  refine r_aload_n G dX1_length_0 rfl (lv_at hl 0 rfl) ?_
  refine mcall_v G K hH rfl (M_know E.l E.D a d (v := v) hI) q275 q277 qs12 q278 rfl ⟨by omega, by omega⟩ hl.1 (rest := []) rfl (Nat.le_of_ble_eq_true rfl) dX1_length_1 (fun σ1 H locs hH hp => ?_)
  obtain ⟨hR, h7, hD⟩ := hp
  refine mg_hots G K hH (lv_at hl 0 rfl) dX1_length_4 dX1_length_5 ?_
  refine r_toi (y := nI v.nh) (hD.1) ?_
  exact hret _ _ _ _ _ _ dX1_length_8 rfl hH ⟨rfl, ⟨hR, true, h7, fun _ => hD⟩⟩
set_option maxHeartbeats 4000000 in
theorem M_row (l : Launch) (D : va_G) (a : Nat → Nat) (d : Nat → ClassId) {σ : St} {v : Vw} {k : Int32} (hI : MI σ v) : CMi l yX1_row cX1_row 2 .int 3 74 D (mt d) (mw a d) [.ref (a 0), .int k] σ (fun r σ' => r = aRow v k ∧ MI σ' v) := by
  refine CMi.of (by decide) (Nat.le_of_ble_eq_true rfl) ?_
  intro E ls G hfr hlo K hH hl hret
  have hl : lv_has ls 2 [(0, .ref (a 0)), (1, .int k)] := hl
  have G : CX E RX1 cX1_row 2 := G
  have hv := hI.1.ok
  have hbd := hv.bd
  have hnh := nh_le v
  refine r_aload_n G dX1_row_0 rfl (lv_at hl 0 rfl) ?_
  refine mcall_v G K hH rfl (M_know E.l E.D a d (v := v) hI) q275 q277 qs12 q278 rfl ⟨by omega, by omega⟩ hl.1 (rest := []) rfl (Nat.le_of_ble_eq_true rfl) dX1_row_1 (fun σ1 H locs hH hp => ?_)
  obtain ⟨hR, h7, hD⟩ := hp
  refine r_iload_n G dX1_row_4 rfl (lv_at hl 1 rfl) ?_
  refine r_if_lt G 16 dX1_row_5 (by decide) (fun c5 => ?_) (fun c5 => ?_)
  · refine r_iconst G ((-1)) dX1_row_16 (by decide) ?_
    refine r_goto G 42 dX1_row_17 (by decide) ?_
    exact hret _ _ _ _ _ _ dX1_row_42 rfl hH ⟨(aRow_n c5).symm, ⟨hR, true, h7, fun _ => hD⟩⟩
  · obtain ⟨j, hj, rfl⟩ := nI_of c5
    refine r_iload_n G dX1_row_8 rfl (lv_at hl 1 rfl) ?_
    refine mg_hots G K hH (lv_at hl 0 rfl) dX1_row_9 dX1_row_10 ?_
    refine r_toi (y := nI v.nh) (hD.1) ?_
    refine n_icmp_lt G (by omega) (by omega) 20 dX1_row_13 (by decide) (fun c13 => ?_) (fun c13 => ?_)
    · refine mg_isBetter G K hH (lv_at hl 0 rfl) dX1_row_20 dX1_row_21 ?_
      refine r_toi (y := bI v.bet) (hD.2.2.2.1) ?_
      refine b_if_eq G 36 dX1_row_24 (by decide) (fun c24 => ?_) (fun c24 => ?_)
      · refine mg_byNumber G K hH (lv_at hl 0 rfl) dX1_row_36 dX1_row_37 ?_
        refine r_iload_n G dX1_row_40 rfl (lv_at hl 1 rfl) ?_
        refine ml_byNumber G K hH (by omega) dX1_row_41 ?_
        refine r_toi (y := nI (v.bn j)) (hD.2.2.1 _ c13) ?_
        refine r_toi (y := nI (v.rw j)) (by unfold Vw.rw; rw [if_neg (by rw [c24]; decide)]) ?_
        exact hret _ _ _ _ _ _ dX1_row_42 rfl hH ⟨(aRow_t c13 hj).symm, ⟨hR, true, h7, fun _ => hD⟩⟩
      · refine mg_byChains G K hH (lv_at hl 0 rfl) dX1_row_27 dX1_row_28 ?_
        refine r_iload_n G dX1_row_31 rfl (lv_at hl 1 rfl) ?_
        refine ml_byChains G K hH (by omega) dX1_row_32 ?_
        refine r_toi (y := nI (v.bc j)) (hD.2.1 _ c13) ?_
        refine r_goto G 42 dX1_row_33 (by decide) ?_
        refine r_toi (y := nI (v.rw j)) (by unfold Vw.rw; rw [if_pos c24]) ?_
        exact hret _ _ _ _ _ _ dX1_row_42 rfl hH ⟨(aRow_t c13 hj).symm, ⟨hR, true, h7, fun _ => hD⟩⟩
    · refine r_iconst G ((-1)) dX1_row_16 (by decide) ?_
      refine r_goto G 42 dX1_row_17 (by decide) ?_
      exact hret _ _ _ _ _ _ dX1_row_42 rfl hH ⟨(aRow_f c13 hj).symm, ⟨hR, true, h7, fun _ => hD⟩⟩
set_option maxHeartbeats 4000000 in
theorem M_weight_L {E : Ev} {a : Nat → Nat} {d : Nat → ClassId} {v : Vw} {j : Nat} (G : CX E RX1 cX1_weight 3) (K : KX E (mt d)) (kk : ∀ (σ : St) (H : Heap) (locs : List Loc) (ls : Array Slot), MH E a d σ H locs → MR σ v → σ.1 7 = bI true → MD σ v → (∀ i, i < v.nb → σ.2.1 17 i = nI i) → lv_has ls 3 [(0, .ref (a 0)), (1, .int (nI j))] → WE E H locs 40 ls []) :
    ∀ (M : Nat) (σ : St) (b : Nat) (H : Heap) (locs : List Loc) (ls : Array Slot), MH E a d σ H locs → MR σ v → σ.1 7 = bI true → MD σ v → (∀ i, i < b → σ.2.1 17 i = nI i) → b ≤ v.nb → v.nb - b < M → lv_has ls 3 [(0, .ref (a 0)), (1, .int (nI j)), (2, .int (nI b))] → WE E H locs 19 ls [] := by
  intro M
  induction M with
  | zero => exact fun σ b H locs ls _ _ _ _ _ _ q => absurd q (Nat.not_lt_zero _)
  | succ M ih =>
    intro σ b H locs ls hH hR h7 hD h17 hb hM hl
    have hv := hR.ok
    have hbd := hv.bd
    refine r_iload_n G dX1_weight_19 rfl (lv_at hl 2 rfl) ?_
    refine mg_blocks G K hH (lv_at hl 0 rfl) dX1_weight_20 dX1_weight_21 ?_
    refine r_toi (y := nI v.nb) (hR.nb) ?_
    refine n_icmp_ge G (by omega) (by omega) 40 dX1_weight_24 (by decide) (fun c24 => ?_) (fun c24 => ?_)
    · have e : b = v.nb := by omega
      subst e
      exact kk σ H locs ls hH hR h7 hD h17 (lv_sub hl [0, 1] rfl)
    · refine mg_all G K hH (lv_at hl 0 rfl) dX1_weight_27 dX1_weight_28 ?_
      refine r_iload_n G dX1_weight_31 rfl (lv_at hl 2 rfl) ?_
      refine r_iload_n G dX1_weight_32 rfl (lv_at hl 2 rfl) ?_
      refine ms_all G K hH (by omega) dX1_weight_33 (fun H locs hH => ?_)
      refine r_iinc G (k := 2) (nI (b + 1)) [(2, .int (nI (b + 1))), (0, .ref (a 0)), (1, .int (nI j))] dX1_weight_34 hl rfl (inc1 _) (by decide) rfl (fun ls hl => ?_)
      refine r_goto G 19 dX1_weight_37 (by decide) ?_
      have g17 : ∀ i, i < b + 1 → upd (σ.2.1 17) b (nI b) i = nI i := upd_run (g := fun i => nI i) h17 rfl
      exact ih _ _ H locs ls hH hR h7 hD g17 (by omega) (by omega) (lv_sub hl [1, 2, 0] rfl)
set_option maxHeartbeats 4000000 in
theorem M_weight (l : Launch) (D : va_G) (a : Nat → Nat) (d : Nat → ClassId) {σ : St} {v : Vw} {k : Int32} (hI : MI σ v) : CMl l yX1_weight cX1_weight 3 3 74 D (mt d) (mw a d) [.ref (a 0), .int k] σ (fun r σ' => r = aWt v k ∧ MI σ' v) := by
  refine CMl.of (by decide) (Nat.le_of_ble_eq_true rfl) ?_
  intro E ls G hfr hlo K hH hl hret
  have hl : lv_has ls 3 [(0, .ref (a 0)), (1, .int k)] := hl
  have G : CX E RX1 cX1_weight 3 := G
  have hv := hI.1.ok
  have hbd := hv.bd
  have hnh := nh_le v
  refine r_aload_n G dX1_weight_0 rfl (lv_at hl 0 rfl) ?_
  refine mcall_v G K hH rfl (M_know E.l E.D a d (v := v) hI) q275 q277 qs12 q278 rfl ⟨by omega, by omega⟩ hl.1 (rest := []) rfl (Nat.le_of_ble_eq_true rfl) dX1_weight_1 (fun σ1 H locs hH hp => ?_)
  obtain ⟨hR, h7, hD⟩ := hp
  refine r_iload_n G dX1_weight_4 rfl (lv_at hl 1 rfl) ?_
  refine r_if_lt G 13 dX1_weight_5 (by decide) (fun c5 => ?_) (fun c5 => ?_)
  · refine r_ldc2 G (v := (-1)) q257 dX1_weight_13 ?_
    exact hret _ _ _ _ _ _ dX1_weight_16 hH ⟨(aWt_n c5).symm, ⟨hR, true, h7, fun _ => hD⟩⟩
  · obtain ⟨j, hj, rfl⟩ := nI_of c5
    refine r_iload_n G dX1_weight_8 rfl (lv_at hl 1 rfl) ?_
    refine r_iconst G (nI 3) dX1_weight_9 (by decide) ?_
    refine n_icmp_le G (by omega) (by omega) 17 dX1_weight_10 (by decide) (fun c10 => ?_) (fun c10 => ?_)
    · refine r_iconst G (nI 0) dX1_weight_17 (by decide) ?_
      refine r_istore_n G [(2, .int (nI 0)), (0, .ref (a 0)), (1, .int (nI j))] dX1_weight_18 rfl hl (by decide) rfl (fun ls hl => ?_)
      refine M_weight_L G K (fun σ H locs ls hH hR h7 hD h17 hl => ?_) (v.nb + 1) σ1 0 H locs ls hH hR h7 hD (fun i hi => absurd hi (Nat.not_lt_zero i)) (Nat.zero_le _) (by omega) (lv_sub hl [1, 2, 0] rfl)
      refine r_iload_n G dX1_weight_40 rfl (lv_at hl 1 rfl) ?_
      refine n_if_ne G (by omega) 73 dX1_weight_41 (by decide) (fun c41 => ?_) (fun c41 => ?_)
      · refine r_iload_n G dX1_weight_73 rfl (lv_at hl 1 rfl) ?_
        refine r_iconst G (nI 1) dX1_weight_74 (by decide) ?_
        refine n_icmp_ne G (by omega) (by omega) 93 dX1_weight_75 (by decide) (fun c75 => ?_) (fun c75 => ?_)
        · refine r_iload_n G dX1_weight_93 rfl (lv_at hl 1 rfl) ?_
          refine r_iconst G (nI 2) dX1_weight_94 (by decide) ?_
          refine n_icmp_ne G (by omega) (by omega) 113 dX1_weight_95 (by decide) (fun c95 => ?_) (fun c95 => ?_)
          · refine r_aload_n G dX1_weight_113 rfl (lv_at hl 0 rfl) ?_
            refine mg_byChains G K hH (lv_at hl 0 rfl) dX1_weight_114 dX1_weight_115 ?_
            refine mg_hots G K hH (lv_at hl 0 rfl) dX1_weight_118 dX1_weight_119 ?_
            refine r_toi (y := nI v.nh) (hD.1) ?_
            refine mcall_l G K hH rfl (M_weightOf E.l E.D a d (v := v) (row := v.bc) (n := v.nh) (rk := 11) (pq := 9) (pt := 8) hR (bc_row hv) (by omega) hD.2.1 rfl rfl) q295 q297 qs17 q298 rfl ⟨by omega, by omega⟩ hl.1 (rest := []) rfl (Nat.le_of_ble_eq_true rfl) dX1_weight_122 (fun r σ3 H locs hH hp => ?_)
            obtain ⟨rfl, es⟩ := hp
            rw [es] at hH
            have e3 : j = 3 := by omega
            subst e3
            exact hret _ _ _ _ _ _ dX1_weight_125 hH ⟨by rw [aWt_t (by omega), wt_3]; rfl, ⟨hR, true, h7, fun _ => hD⟩⟩
          · refine r_aload_n G dX1_weight_98 rfl (lv_at hl 0 rfl) ?_
            refine mg_all G K hH (lv_at hl 0 rfl) dX1_weight_99 dX1_weight_100 ?_
            refine mg_blocks G K hH (lv_at hl 0 rfl) dX1_weight_103 dX1_weight_104 ?_
            refine r_toi (y := nI v.nb) (hR.nb) ?_
            refine mcall_l G K hH rfl (M_weightOf E.l E.D a d (v := v) (row := fun i => i) (n := v.nb) (rk := 17) (pq := 13) (pt := 12) hR (id_row v) (by omega) h17 rfl rfl) q295 q297 qs17 q298 rfl ⟨by omega, by omega⟩ hl.1 (rest := []) rfl (Nat.le_of_ble_eq_true rfl) dX1_weight_107 (fun r σ3 H locs hH hp => ?_)
            obtain ⟨rfl, es⟩ := hp
            rw [es] at hH
            refine r_goto G 125 dX1_weight_110 (by decide) ?_
            exact hret _ _ _ _ _ _ dX1_weight_125 hH ⟨by subst c95; rw [aWt_t (by omega), wt_2]; rfl, ⟨hR, true, h7, fun _ => hD⟩⟩
        · refine r_aload_n G dX1_weight_78 rfl (lv_at hl 0 rfl) ?_
          refine mg_byNumber G K hH (lv_at hl 0 rfl) dX1_weight_79 dX1_weight_80 ?_
          refine mg_hots G K hH (lv_at hl 0 rfl) dX1_weight_83 dX1_weight_84 ?_
          refine r_toi (y := nI v.nh) (hD.1) ?_
          refine mcall_l G K hH rfl (M_weightOf E.l E.D a d (v := v) (row := v.bn) (n := v.nh) (rk := 12) (pq := 10) (pt := 9) hR (bn_row v) (by omega) hD.2.2.1 rfl rfl) q295 q297 qs17 q298 rfl ⟨by omega, by omega⟩ hl.1 (rest := []) rfl (Nat.le_of_ble_eq_true rfl) dX1_weight_87 (fun r σ3 H locs hH hp => ?_)
          obtain ⟨rfl, es⟩ := hp
          rw [es] at hH
          refine r_goto G 125 dX1_weight_90 (by decide) ?_
          exact hret _ _ _ _ _ _ dX1_weight_125 hH ⟨by subst c75; rw [aWt_t (by omega), wt_1]; rfl, ⟨hR, true, h7, fun _ => hD⟩⟩
      · refine r_aload_n G dX1_weight_44 rfl (lv_at hl 0 rfl) ?_
        refine mg_isBetter G K hH (lv_at hl 0 rfl) dX1_weight_45 dX1_weight_46 ?_
        refine r_toi (y := bI v.bet) (hD.2.2.2.1) ?_
        refine b_if_eq G 59 dX1_weight_49 (by decide) (fun c49 => ?_) (fun c49 => ?_)
        · refine mg_byNumber G K hH (lv_at hl 0 rfl) dX1_weight_59 dX1_weight_60 ?_
          refine mg_hots G K hH (lv_at hl 0 rfl) dX1_weight_63 dX1_weight_64 ?_
          refine r_toi (y := nI v.nh) (hD.1) ?_
          refine mcall_l G K hH rfl (M_weightOf E.l E.D a d (v := v) (row := v.bn) (n := v.nh) (rk := 12) (pq := 10) (pt := 9) hR (bn_row v) (by omega) hD.2.2.1 rfl rfl) q295 q297 qs17 q298 rfl ⟨by omega, by omega⟩ hl.1 (rest := []) rfl (Nat.le_of_ble_eq_true rfl) dX1_weight_67 (fun r σ3 H locs hH hp => ?_)
          obtain ⟨rfl, es⟩ := hp
          rw [es] at hH
          refine r_goto G 125 dX1_weight_70 (by decide) ?_
          exact hret _ _ _ _ _ _ dX1_weight_125 hH ⟨by subst c41; rw [aWt_t (by omega), wt_0]; unfold Vw.w0; rw [if_neg (by rw [c49]; decide)]; rfl, ⟨hR, true, h7, fun _ => hD⟩⟩
        · refine mg_byChains G K hH (lv_at hl 0 rfl) dX1_weight_52 dX1_weight_53 ?_
          refine r_goto G 63 dX1_weight_56 (by decide) ?_
          refine mg_hots G K hH (lv_at hl 0 rfl) dX1_weight_63 dX1_weight_64 ?_
          refine r_toi (y := nI v.nh) (hD.1) ?_
          refine mcall_l G K hH rfl (M_weightOf E.l E.D a d (v := v) (row := v.bc) (n := v.nh) (rk := 11) (pq := 9) (pt := 8) hR (bc_row hv) (by omega) hD.2.1 rfl rfl) q295 q297 qs17 q298 rfl ⟨by omega, by omega⟩ hl.1 (rest := []) rfl (Nat.le_of_ble_eq_true rfl) dX1_weight_67 (fun r σ3 H locs hH hp => ?_)
          obtain ⟨rfl, es⟩ := hp
          rw [es] at hH
          refine r_goto G 125 dX1_weight_70 (by decide) ?_
          exact hret _ _ _ _ _ _ dX1_weight_125 hH ⟨by subst c41; rw [aWt_t (by omega), wt_0]; unfold Vw.w0; rw [if_pos c49]; rfl, ⟨hR, true, h7, fun _ => hD⟩⟩
    · refine r_ldc2 G (v := (-1)) q257 dX1_weight_13 ?_
      exact hret _ _ _ _ _ _ dX1_weight_16 hH ⟨(aWt_f c10 hj).symm, ⟨hR, true, h7, fun _ => hD⟩⟩
set_option maxHeartbeats 4000000 in
theorem M_chain (l : Launch) (D : va_G) (a : Nat → Nat) (d : Nat → ClassId) {σ : St} {v : Vw} {k : Int32} (hI : MI σ v) : CMi l yX1_chain cX1_chain 2 .int 3 74 D (mt d) (mw a d) [.ref (a 0), .int k] σ (fun r σ' => r = aCh v k ∧ MI σ' v) := by
  refine CMi.of (by decide) (Nat.le_of_ble_eq_true rfl) ?_
  intro E ls G hfr hlo K hH hl hret
  have hl : lv_has ls 2 [(0, .ref (a 0)), (1, .int k)] := hl
  have G : CX E RX1 cX1_chain 2 := G
  have hv := hI.1.ok
  have hbd := hv.bd
  have hnh := nh_le v
  refine r_aload_n G dX1_chain_0 rfl (lv_at hl 0 rfl) ?_
  refine mcall_v G K hH rfl (M_know E.l E.D a d (v := v) hI) q275 q277 qs12 q278 rfl ⟨by omega, by omega⟩ hl.1 (rest := []) rfl (Nat.le_of_ble_eq_true rfl) dX1_chain_1 (fun σ1 H locs hH hp => ?_)
  obtain ⟨hR, h7, hD⟩ := hp
  refine r_aload_n G dX1_chain_4 rfl (lv_at hl 0 rfl) ?_
  refine r_iload_n G dX1_chain_5 rfl (lv_at hl 1 rfl) ?_
  refine mcall_i G K hH rfl (M_isBlock E.l E.D a d (v := v) hR) q249 q251 qs10 q252 rfl ⟨by omega, by omega⟩ hl.1 (rest := []) rfl (Nat.le_of_ble_eq_true rfl) dX1_chain_6 (fun r σ2 H locs hH hp => ?_)
  obtain ⟨rfl, es⟩ := hp
  rw [es] at hH
  refine b_if_eq G 21 dX1_chain_9 (by decide) (fun c9 => ?_) (fun c9 => ?_)
  · refine r_iconst G ((-1)) dX1_chain_21 (by decide) ?_
    refine r_goto G 40 dX1_chain_22 (by decide) ?_
    exact hret _ _ _ _ _ _ dX1_chain_40 rfl hH ⟨(aCh_n c9).symm, ⟨hR, true, h7, fun _ => hD⟩⟩
  · obtain ⟨j, hj, rfl⟩ := inB_t c9
    refine mg_hot G K hH (lv_at hl 0 rfl) dX1_chain_12 dX1_chain_13 ?_
    refine r_iload_n G dX1_chain_16 rfl (lv_at hl 1 rfl) ?_
    refine ml_hot G K hH (by omega) dX1_chain_17 ?_
    refine r_toi (y := bI (v.hot j)) (hR.hot (by omega)) ?_
    refine b_if_ne G 25 dX1_chain_18 (by decide) (fun c18 => ?_) (fun c18 => ?_)
    · obtain ⟨b1, b2, b3, b4, b5, b6⟩ := (cs_ok hv).1 j hj
      refine mg_table G K hH (lv_at hl 0 rfl) dX1_chain_25 dX1_chain_26 ?_
      refine r_sipush G (nI 200) dX1_chain_29 (by decide) ?_
      refine mg_chainOf G K hH (lv_at hl 0 rfl) dX1_chain_32 dX1_chain_33 ?_
      refine r_iload_n G dX1_chain_36 rfl (lv_at hl 1 rfl) ?_
      refine ml_chainOf G K hH (by omega) dX1_chain_37 ?_
      refine r_toi (y := nI (v.cs.co j)) (hD.2.2.2.2.1 _ hj c18) ?_
      refine r_imulN G dX1_chain_38 ?_
      refine ml_table G K hH (by omega) dX1_chain_39 ?_
      refine r_toi (y := nI (v.cs.co j)) (hD.2.2.2.2.2 _ b1 (by rw [b6, c18]) b3) ?_
      exact hret _ _ _ _ _ _ dX1_chain_40 rfl hH ⟨(aCh_t hj (by omega) c18).symm, ⟨hR, true, h7, fun _ => hD⟩⟩
    · refine r_iconst G ((-1)) dX1_chain_21 (by decide) ?_
      refine r_goto G 40 dX1_chain_22 (by decide) ?_
      exact hret _ _ _ _ _ _ dX1_chain_40 rfl hH ⟨(aCh_f (by omega) c18).symm, ⟨hR, true, h7, fun _ => hD⟩⟩
end
section
set_option maxRecDepth 100000
def xw0 (h0 : Nat) : va_W := [(h0, .inr (0, [.int 0, .null, .null, .null, .null, .null, .null, .int 0, .int 0, .null, .null, .null, .null, .null, .null, .null, .null, .null, .null, .int 0, .null]))]
/-- what a constructor leaves: addresses, array classes, state -/
def XB (D : va_G) (h0 sz : Nat) (u : (Nat → Nat) × (Nat → ClassId) × St) (t : State) : Prop := va_P D vwCl (xw u.1 u.2.1 u.2.2) t.heap ∧ va_K D vwCl (xt u.2.1) t ∧ va_D (va_A (xw0 h0) sz) (xw u.1 u.2.1 u.2.2)
def XC (h0 : Nat) (u : (Nat → Nat) × (Nat → ClassId) × St) : Prop := u.1 0 = h0 ∧ XI u.2.2 (Vw.mt 1)
set_option maxHeartbeats 8000000 in
theorem X_init (l : Launch) (D : va_G) (h0 sz : Nat) : Met l yX0_init (ws_ yX0_init cX0_init 1 none) ({ frames := 1, cells := 17, slots := 47004, locals := 12 }) (va_Pc [.ref h0] (fun U => U.heap.size = sz ∧ va_P D vwCl (xw0 h0) U.heap ∧ va_K D vwCl [] U ∧ va_D (fun _ => True) (xw0 h0))) (va_Qv (XC h0) (XB D h0 sz) (va_A (xw0 h0) sz)) 17 47004 (va_A (xw0 h0) sz) := by
  refine Met.ofW (cc := cX0_init) (maxL := 1) (ret := none) (by decide) rfl ?_
  intro p e s m args below meth c s₁ B hml hv
  obtain ⟨rfl, hsz, hP, hK, hD0⟩ := hv
  have hx := B.exec
  have hb := B.bytes
  have hr := B.returns
  have hts := atoms_spec (ws := ws_ yX0_init cX0_init 1 none) B.pre
  have hts : ∀ w ∈ lw_all, w.before _ s = true := fun w h => hts w (List.mem_cons_of_mem _ h)
  have hown : s.vm.findClass RX0 = some m.cls := findClass_of_methodNamed B.named
  have hin : meth.name = "<init>" := (name_of_methodNamed B.named B.method).1
  subst hsz
  have hD := hD0.self (sz := s.heap.size)
  generalize hAe : va_A (xw0 h0) s.heap.size = A at hD ⊢
  have hA : ∀ q : Nat, s.heap.size ≤ q → A q := fun q h => by rw [← hAe]; exact Or.inr h
  have hS : va_S A s.heap s.heap [] := va_S.rf
  have hl := lv_entry ([.ref h0]) (n := 1) (Nat.le_of_ble_eq_true rfl)
  rw [lg_entry_eq]
  generalize (lg_sl ([.ref h0]) ++ List.replicate (1 - (lg_sl ([.ref h0])).length) Slot.unset).toArray = ls at hl ⊢
  have hl : lv_has ls 1 [(0, .ref h0)] := hl
  have hP : va_P D vwCl [(h0, .inr (0, [.int 0, .null, .null, .null, .null, .null, .null, .int 0, .int 0, .null, .null, .null, .null, .null, .null, .null, .null, .null, .null, .int 0, .null]))] _ := hP
  have hD : va_D A [(h0, .inr (0, [.int 0, .null, .null, .null, .null, .null, .null, .int 0, .int 0, .null, .null, .null, .null, .null, .null, .null, .null, .null, .null, .int 0, .null]))] := hD
  refine lv_aload_n hx hb dX0_init_0 rfl (lv_at hl 0 rfl) ?_
  refine W.objInit hx hb hown (hts _ q27) (hts _ q28) (hts _ q29) rfl (by rw [hml]; exact hl.1) rfl dX0_init_1 (Nat.le_of_ble_eq_true rfl) (Nat.le_of_ble_eq_true rfl) ?_
  refine W.eq (g2 := F0 m 4 ls []) rfl ?_
  refine lv_aload_n hx hb dX0_init_4 rfl (lv_at hl 0 rfl) ?_
  refine lv_iconst (v := nI 1) hx hb dX0_init_5 (by decide) ?_
  refine va_put (D := D) (ci := 0) (v := .int (nI 1)) (ty := .int) (C := RX0) (T := TX0) (N := 21) hx hb hts in_X0 tyX0 tyX0_ok nmX0 hown hK hP hD hS 0 rfl rfl 0 (by decide) (hts _ q31) (fun _ h9 => h9) rfl (by decide +kernel) rfl rfl (Nat.le_of_ble_eq_true rfl) dX0_init_6 (fun H locs hP hD hS => ?_)
  have hP : va_P D vwCl [(h0, .inr (0, [.int (nI 1), .null, .null, .null, .null, .null, .null, .int 0, .int 0, .null, .null, .null, .null, .null, .null, .null, .null, .null, .null, .int 0, .null]))] _ := hP
  have hD : va_D A [(h0, .inr (0, [.int (nI 1), .null, .null, .null, .null, .null, .null, .int 0, .int 0, .null, .null, .null, .null, .null, .null, .null, .null, .null, .null, .int 0, .null]))] := hD
  refine lv_aload_n hx hb dX0_init_9 rfl (lv_at hl 0 rfl) ?_
  refine lv_sipush (v := nI 200) hx hb dX0_init_10 (by decide) ?_
  refine va_newa (atype := .boolean) (ty := .boolean) (N' := 200) (a0 := (200, .inl (fun _ => 0))) hx hb (hts _ q95) rfl hK hP hD hS hA (fun _ => rfl) (nI_pos (by decide)) (nI_clamp (by decide)) (by decide) (Nat.le_of_ble_eq_true rfl) (Nat.le_of_ble_eq_true rfl) dX0_init_13 (fun z1 c1 H hK hP hD hS => ?_)
  have hP : va_P D vwCl [(h0, .inr (0, [.int (nI 1), .null, .null, .null, .null, .null, .null, .int 0, .int 0, .null, .null, .null, .null, .null, .null, .null, .null, .null, .null, .int 0, .null])), (z1, .inl (c1, (200, .inl (fun _ => 0))))] _ := hP
  have hD : va_D A [(h0, .inr (0, [.int (nI 1), .null, .null, .null, .null, .null, .null, .int 0, .int 0, .null, .null, .null, .null, .null, .null, .null, .null, .null, .null, .int 0, .null])), (z1, .inl (c1, (200, .inl (fun _ => 0))))] := hD
  have hK : va_K D vwCl [(c1, .boolean)] s := hK
  refine W.widen (k := 1) (n := 200) (Nat.le_of_ble_eq_true rfl) (Nat.le_of_ble_eq_true rfl) ?_
  refine va_putF (D := D) (ci := 0) (v := .ref z1) (ty := .array .boolean) (C := RX0) (T := TX0) (N := 21) hx hb hts in_X0 tyX0 tyX0_ok nmX0 hown hK hP hD hS 0 rfl rfl 1 (by decide) (hts _ q32) (fun _ h9 => h9) rfl hin rfl (by decide +kernel) rfl rfl (Nat.le_of_ble_eq_true rfl) dX0_init_15 (fun H locs hP hD hS => ?_)
  have hP : va_P D vwCl [(h0, .inr (0, [.int (nI 1), .ref z1, .null, .null, .null, .null, .null, .int 0, .int 0, .null, .null, .null, .null, .null, .null, .null, .null, .null, .null, .int 0, .null])), (z1, .inl (c1, (200, .inl (fun _ => 0))))] _ := hP
  have hD : va_D A [(h0, .inr (0, [.int (nI 1), .ref z1, .null, .null, .null, .null, .null, .int 0, .int 0, .null, .null, .null, .null, .null, .null, .null, .null, .null, .null, .int 0, .null])), (z1, .inl (c1, (200, .inl (fun _ => 0))))] := hD
  refine lv_aload_n hx hb dX0_init_18 rfl (lv_at hl 0 rfl) ?_
  refine lv_sipush (v := nI 1000) hx hb dX0_init_19 (by decide) ?_
  refine va_newa (atype := .int) (ty := .int) (N' := 1000) (a0 := (1000, .inl (fun _ => 0))) hx hb (hts _ q96) rfl hK hP hD hS hA (fun _ => rfl) (nI_pos (by decide)) (nI_clamp (by decide)) (by decide) (Nat.le_of_ble_eq_true rfl) (Nat.le_of_ble_eq_true rfl) dX0_init_22 (fun z2 c2 H hK hP hD hS => ?_)
  have hP : va_P D vwCl [(h0, .inr (0, [.int (nI 1), .ref z1, .null, .null, .null, .null, .null, .int 0, .int 0, .null, .null, .null, .null, .null, .null, .null, .null, .null, .null, .int 0, .null])), (z1, .inl (c1, (200, .inl (fun _ => 0)))), (z2, .inl (c2, (1000, .inl (fun _ => 0))))] _ := hP
  have hD : va_D A [(h0, .inr (0, [.int (nI 1), .ref z1, .null, .null, .null, .null, .null, .int 0, .int 0, .null, .null, .null, .null, .null, .null, .null, .null, .null, .null, .int 0, .null])), (z1, .inl (c1, (200, .inl (fun _ => 0)))), (z2, .inl (c2, (1000, .inl (fun _ => 0))))] := hD
  have hK : va_K D vwCl [(c1, .boolean), (c2, .int)] s := hK
  refine W.widen (k := 2) (n := 1200) (Nat.le_of_ble_eq_true rfl) (Nat.le_of_ble_eq_true rfl) ?_
  refine va_putF (D := D) (ci := 0) (v := .ref z2) (ty := .array .int) (C := RX0) (T := TX0) (N := 21) hx hb hts in_X0 tyX0 tyX0_ok nmX0 hown hK hP hD hS 0 rfl rfl 2 (by decide) (hts _ q33) (fun _ h9 => h9) rfl hin rfl (by decide +kernel) rfl rfl (Nat.le_of_ble_eq_true rfl) dX0_init_24 (fun H locs hP hD hS => ?_)
  have hP : va_P D vwCl [(h0, .inr (0, [.int (nI 1), .ref z1, .ref z2, .null, .null, .null, .null, .int 0, .int 0, .null, .null, .null, .null, .null, .null, .null, .null, .null, .null, .int 0, .null])), (z1, .inl (c1, (200, .inl (fun _ => 0)))), (z2, .inl (c2, (1000, .inl (fun _ => 0))))] _ := hP
  have hD : va_D A [(h0, .inr (0, [.int (nI 1), .ref z1, .ref z2, .null, .null, .null, .null, .int 0, .int 0, .null, .null, .null, .null, .null, .null, .null, .null, .null, .null, .int 0, .null])), (z1, .inl (c1, (200, .inl (fun _ => 0)))), (z2, .inl (c2, (1000, .inl (fun _ => 0))))] := hD
  refine lv_aload_n hx hb dX0_init_27 rfl (lv_at hl 0 rfl) ?_
  refine lv_sipush (v := nI 1000) hx hb dX0_init_28 (by decide) ?_
  refine va_newa (atype := .int) (ty := .int) (N' := 1000) (a0 := (1000, .inl (fun _ => 0))) hx hb (hts _ q96) rfl hK hP hD hS hA (fun _ => rfl) (nI_pos (by decide)) (nI_clamp (by decide)) (by decide) (Nat.le_of_ble_eq_true rfl) (Nat.le_of_ble_eq_true rfl) dX0_init_31 (fun z3 c3 H hK hP hD hS => ?_)
  have hP : va_P D vwCl [(h0, .inr (0, [.int (nI 1), .ref z1, .ref z2, .null, .null, .null, .null, .int 0, .int 0, .null, .null, .null, .null, .null, .null, .null, .null, .null, .null, .int 0, .null])), (z1, .inl (c1, (200, .inl (fun _ => 0)))), (z2, .inl (c2, (1000, .inl (fun _ => 0)))), (z3, .inl (c3, (1000, .inl (fun _ => 0))))] _ := hP
  have hD : va_D A [(h0, .inr (0, [.int (nI 1), .ref z1, .ref z2, .null, .null, .null, .null, .int 0, .int 0, .null, .null, .null, .null, .null, .null, .null, .null, .null, .null, .int 0, .null])), (z1, .inl (c1, (200, .inl (fun _ => 0)))), (z2, .inl (c2, (1000, .inl (fun _ => 0)))), (z3, .inl (c3, (1000, .inl (fun _ => 0))))] := hD
  have hK : va_K D vwCl [(c1, .boolean), (c2, .int), (c3, .int)] s := hK
  refine W.widen (k := 3) (n := 2200) (Nat.le_of_ble_eq_true rfl) (Nat.le_of_ble_eq_true rfl) ?_
  refine va_putF (D := D) (ci := 0) (v := .ref z3) (ty := .array .int) (C := RX0) (T := TX0) (N := 21) hx hb hts in_X0 tyX0 tyX0_ok nmX0 hown hK hP hD hS 0 rfl rfl 3 (by decide) (hts _ q34) (fun _ h9 => h9) rfl hin rfl (by decide +kernel) rfl rfl (Nat.le_of_ble_eq_true rfl) dX0_init_33 (fun H locs hP hD hS => ?_)
  have hP : va_P D vwCl [(h0, .inr (0, [.int (nI 1), .ref z1, .ref z2, .ref z3, .null, .null, .null, .int 0, .int 0, .null, .null, .null, .null, .null, .null, .null, .null, .null, .null, .int 0, .null])), (z1, .inl (c1, (200, .inl (fun _ => 0)))), (z2, .inl (c2, (1000, .inl (fun _ => 0)))), (z3, .inl (c3, (1000, .inl (fun _ => 0))))] _ := hP
  have hD : va_D A [(h0, .inr (0, [.int (nI 1), .ref z1, .ref z2, .ref z3, .null, .null, .null, .int 0, .int 0, .null, .null, .null, .null, .null, .null, .null, .null, .null, .null, .int 0, .null])), (z1, .inl (c1, (200, .inl (fun _ => 0)))), (z2, .inl (c2, (1000, .inl (fun _ => 0)))), (z3, .inl (c3, (1000, .inl (fun _ => 0))))] := hD
  refine lv_aload_n hx hb dX0_init_36 rfl (lv_at hl 0 rfl) ?_
  refine lv_sipush (v := nI 1000) hx hb dX0_init_37 (by decide) ?_
  refine va_newa (atype := .long) (ty := .long) (N' := 1000) (a0 := (1000, .inr (.inl (fun _ => 0)))) hx hb (hts _ q97) rfl hK hP hD hS hA (fun _ => rfl) (nI_pos (by decide)) (nI_clamp (by decide)) (by decide) (Nat.le_of_ble_eq_true rfl) (Nat.le_of_ble_eq_true rfl) dX0_init_40 (fun z4 c4 H hK hP hD hS => ?_)
  have hP : va_P D vwCl [(h0, .inr (0, [.int (nI 1), .ref z1, .ref z2, .ref z3, .null, .null, .null, .int 0, .int 0, .null, .null, .null, .null, .null, .null, .null, .null, .null, .null, .int 0, .null])), (z1, .inl (c1, (200, .inl (fun _ => 0)))), (z2, .inl (c2, (1000, .inl (fun _ => 0)))), (z3, .inl (c3, (1000, .inl (fun _ => 0)))), (z4, .inl (c4, (1000, .inr (.inl (fun _ => 0)))))] _ := hP
  have hD : va_D A [(h0, .inr (0, [.int (nI 1), .ref z1, .ref z2, .ref z3, .null, .null, .null, .int 0, .int 0, .null, .null, .null, .null, .null, .null, .null, .null, .null, .null, .int 0, .null])), (z1, .inl (c1, (200, .inl (fun _ => 0)))), (z2, .inl (c2, (1000, .inl (fun _ => 0)))), (z3, .inl (c3, (1000, .inl (fun _ => 0)))), (z4, .inl (c4, (1000, .inr (.inl (fun _ => 0)))))] := hD
  have hK : va_K D vwCl [(c1, .boolean), (c2, .int), (c3, .int), (c4, .long)] s := hK
  refine W.widen (k := 4) (n := 3200) (Nat.le_of_ble_eq_true rfl) (Nat.le_of_ble_eq_true rfl) ?_
  refine va_putF (D := D) (ci := 0) (v := .ref z4) (ty := .array .long) (C := RX0) (T := TX0) (N := 21) hx hb hts in_X0 tyX0 tyX0_ok nmX0 hown hK hP hD hS 0 rfl rfl 4 (by decide) (hts _ q35) (fun _ h9 => h9) rfl hin rfl (by decide +kernel) rfl rfl (Nat.le_of_ble_eq_true rfl) dX0_init_42 (fun H locs hP hD hS => ?_)
  have hP : va_P D vwCl [(h0, .inr (0, [.int (nI 1), .ref z1, .ref z2, .ref z3, .ref z4, .null, .null, .int 0, .int 0, .null, .null, .null, .null, .null, .null, .null, .null, .null, .null, .int 0, .null])), (z1, .inl (c1, (200, .inl (fun _ => 0)))), (z2, .inl (c2, (1000, .inl (fun _ => 0)))), (z3, .inl (c3, (1000, .inl (fun _ => 0)))), (z4, .inl (c4, (1000, .inr (.inl (fun _ => 0)))))] _ := hP
  have hD : va_D A [(h0, .inr (0, [.int (nI 1), .ref z1, .ref z2, .ref z3, .ref z4, .null, .null, .int 0, .int 0, .null, .null, .null, .null, .null, .null, .null, .null, .null, .null, .int 0, .null])), (z1, .inl (c1, (200, .inl (fun _ => 0)))), (z2, .inl (c2, (1000, .inl (fun _ => 0)))), (z3, .inl (c3, (1000, .inl (fun _ => 0)))), (z4, .inl (c4, (1000, .inr (.inl (fun _ => 0)))))] := hD
  refine lv_aload_n hx hb dX0_init_45 rfl (lv_at hl 0 rfl) ?_
  refine lv_sipush (v := nI 1000) hx hb dX0_init_46 (by decide) ?_
  refine va_newa (atype := .boolean) (ty := .boolean) (N' := 1000) (a0 := (1000, .inl (fun _ => 0))) hx hb (hts _ q95) rfl hK hP hD hS hA (fun _ => rfl) (nI_pos (by decide)) (nI_clamp (by decide)) (by decide) (Nat.le_of_ble_eq_true rfl) (Nat.le_of_ble_eq_true rfl) dX0_init_49 (fun z5 c5 H hK hP hD hS => ?_)
  have hP : va_P D vwCl [(h0, .inr (0, [.int (nI 1), .ref z1, .ref z2, .ref z3, .ref z4, .null, .null, .int 0, .int 0, .null, .null, .null, .null, .null, .null, .null, .null, .null, .null, .int 0, .null])), (z1, .inl (c1, (200, .inl (fun _ => 0)))), (z2, .inl (c2, (1000, .inl (fun _ => 0)))), (z3, .inl (c3, (1000, .inl (fun _ => 0)))), (z4, .inl (c4, (1000, .inr (.inl (fun _ => 0))))), (z5, .inl (c5, (1000, .inl (fun _ => 0))))] _ := hP
  have hD : va_D A [(h0, .inr (0, [.int (nI 1), .ref z1, .ref z2, .ref z3, .ref z4, .null, .null, .int 0, .int 0, .null, .null, .null, .null, .null, .null, .null, .null, .null, .null, .int 0, .null])), (z1, .inl (c1, (200, .inl (fun _ => 0)))), (z2, .inl (c2, (1000, .inl (fun _ => 0)))), (z3, .inl (c3, (1000, .inl (fun _ => 0)))), (z4, .inl (c4, (1000, .inr (.inl (fun _ => 0))))), (z5, .inl (c5, (1000, .inl (fun _ => 0))))] := hD
  have hK : va_K D vwCl [(c1, .boolean), (c2, .int), (c3, .int), (c4, .long), (c5, .boolean)] s := hK
  refine W.widen (k := 5) (n := 4200) (Nat.le_of_ble_eq_true rfl) (Nat.le_of_ble_eq_true rfl) ?_
  refine va_putF (D := D) (ci := 0) (v := .ref z5) (ty := .array .boolean) (C := RX0) (T := TX0) (N := 21) hx hb hts in_X0 tyX0 tyX0_ok nmX0 hown hK hP hD hS 0 rfl rfl 5 (by decide) (hts _ q36) (fun _ h9 => h9) rfl hin rfl (by decide +kernel) rfl rfl (Nat.le_of_ble_eq_true rfl) dX0_init_51 (fun H locs hP hD hS => ?_)
  have hP : va_P D vwCl [(h0, .inr (0, [.int (nI 1), .ref z1, .ref z2, .ref z3, .ref z4, .ref z5, .null, .int 0, .int 0, .null, .null, .null, .null, .null, .null, .null, .null, .null, .null, .int 0, .null])), (z1, .inl (c1, (200, .inl (fun _ => 0)))), (z2, .inl (c2, (1000, .inl (fun _ => 0)))), (z3, .inl (c3, (1000, .inl (fun _ => 0)))), (z4, .inl (c4, (1000, .inr (.inl (fun _ => 0))))), (z5, .inl (c5, (1000, .inl (fun _ => 0))))] _ := hP
  have hD : va_D A [(h0, .inr (0, [.int (nI 1), .ref z1, .ref z2, .ref z3, .ref z4, .ref z5, .null, .int 0, .int 0, .null, .null, .null, .null, .null, .null, .null, .null, .null, .null, .int 0, .null])), (z1, .inl (c1, (200, .inl (fun _ => 0)))), (z2, .inl (c2, (1000, .inl (fun _ => 0)))), (z3, .inl (c3, (1000, .inl (fun _ => 0)))), (z4, .inl (c4, (1000, .inr (.inl (fun _ => 0))))), (z5, .inl (c5, (1000, .inl (fun _ => 0))))] := hD
  refine lv_aload_n hx hb dX0_init_54 rfl (lv_at hl 0 rfl) ?_
  refine lv_ldc (v := nI 40000) hx hb hown (hts _ q30) dX0_init_55 ?_
  refine va_newa (atype := .short) (ty := .short) (N' := 40000) (a0 := (40000, .inl (fun _ => 0))) hx hb (hts _ q98) rfl hK hP hD hS hA (fun _ => rfl) (nI_pos (by decide)) (nI_clamp (by decide)) (by decide) (Nat.le_of_ble_eq_true rfl) (Nat.le_of_ble_eq_true rfl) dX0_init_57 (fun z6 c6 H hK hP hD hS => ?_)
  have hP : va_P D vwCl [(h0, .inr (0, [.int (nI 1), .ref z1, .ref z2, .ref z3, .ref z4, .ref z5, .null, .int 0, .int 0, .null, .null, .null, .null, .null, .null, .null, .null, .null, .null, .int 0, .null])), (z1, .inl (c1, (200, .inl (fun _ => 0)))), (z2, .inl (c2, (1000, .inl (fun _ => 0)))), (z3, .inl (c3, (1000, .inl (fun _ => 0)))), (z4, .inl (c4, (1000, .inr (.inl (fun _ => 0))))), (z5, .inl (c5, (1000, .inl (fun _ => 0)))), (z6, .inl (c6, (40000, .inl (fun _ => 0))))] _ := hP
  have hD : va_D A [(h0, .inr (0, [.int (nI 1), .ref z1, .ref z2, .ref z3, .ref z4, .ref z5, .null, .int 0, .int 0, .null, .null, .null, .null, .null, .null, .null, .null, .null, .null, .int 0, .null])), (z1, .inl (c1, (200, .inl (fun _ => 0)))), (z2, .inl (c2, (1000, .inl (fun _ => 0)))), (z3, .inl (c3, (1000, .inl (fun _ => 0)))), (z4, .inl (c4, (1000, .inr (.inl (fun _ => 0))))), (z5, .inl (c5, (1000, .inl (fun _ => 0)))), (z6, .inl (c6, (40000, .inl (fun _ => 0))))] := hD
  have hK : va_K D vwCl [(c1, .boolean), (c2, .int), (c3, .int), (c4, .long), (c5, .boolean), (c6, .short)] s := hK
  refine W.widen (k := 6) (n := 44200) (Nat.le_of_ble_eq_true rfl) (Nat.le_of_ble_eq_true rfl) ?_
  refine va_putF (D := D) (ci := 0) (v := .ref z6) (ty := .array .short) (C := RX0) (T := TX0) (N := 21) hx hb hts in_X0 tyX0 tyX0_ok nmX0 hown hK hP hD hS 0 rfl rfl 6 (by decide) (hts _ q37) (fun _ h9 => h9) rfl hin rfl (by decide +kernel) rfl rfl (Nat.le_of_ble_eq_true rfl) dX0_init_59 (fun H locs hP hD hS => ?_)
  have hP : va_P D vwCl [(h0, .inr (0, [.int (nI 1), .ref z1, .ref z2, .ref z3, .ref z4, .ref z5, .ref z6, .int 0, .int 0, .null, .null, .null, .null, .null, .null, .null, .null, .null, .null, .int 0, .null])), (z1, .inl (c1, (200, .inl (fun _ => 0)))), (z2, .inl (c2, (1000, .inl (fun _ => 0)))), (z3, .inl (c3, (1000, .inl (fun _ => 0)))), (z4, .inl (c4, (1000, .inr (.inl (fun _ => 0))))), (z5, .inl (c5, (1000, .inl (fun _ => 0)))), (z6, .inl (c6, (40000, .inl (fun _ => 0))))] _ := hP
  have hD : va_D A [(h0, .inr (0, [.int (nI 1), .ref z1, .ref z2, .ref z3, .ref z4, .ref z5, .ref z6, .int 0, .int 0, .null, .null, .null, .null, .null, .null, .null, .null, .null, .null, .int 0, .null])), (z1, .inl (c1, (200, .inl (fun _ => 0)))), (z2, .inl (c2, (1000, .inl (fun _ => 0)))), (z3, .inl (c3, (1000, .inl (fun _ => 0)))), (z4, .inl (c4, (1000, .inr (.inl (fun _ => 0))))), (z5, .inl (c5, (1000, .inl (fun _ => 0)))), (z6, .inl (c6, (40000, .inl (fun _ => 0))))] := hD
  refine lv_aload_n hx hb dX0_init_62 rfl (lv_at hl 0 rfl) ?_
  refine lv_sipush (v := nI 1000) hx hb dX0_init_63 (by decide) ?_
  refine va_newa (atype := .int) (ty := .int) (N' := 1000) (a0 := (1000, .inl (fun _ => 0))) hx hb (hts _ q96) rfl hK hP hD hS hA (fun _ => rfl) (nI_pos (by decide)) (nI_clamp (by decide)) (by decide) (Nat.le_of_ble_eq_true rfl) (Nat.le_of_ble_eq_true rfl) dX0_init_66 (fun z9 c9 H hK hP hD hS => ?_)
  have hP : va_P D vwCl [(h0, .inr (0, [.int (nI 1), .ref z1, .ref z2, .ref z3, .ref z4, .ref z5, .ref z6, .int 0, .int 0, .null, .null, .null, .null, .null, .null, .null, .null, .null, .null, .int 0, .null])), (z1, .inl (c1, (200, .inl (fun _ => 0)))), (z2, .inl (c2, (1000, .inl (fun _ => 0)))), (z3, .inl (c3, (1000, .inl (fun _ => 0)))), (z4, .inl (c4, (1000, .inr (.inl (fun _ => 0))))), (z5, .inl (c5, (1000, .inl (fun _ => 0)))), (z6, .inl (c6, (40000, .inl (fun _ => 0)))), (z9, .inl (c9, (1000, .inl (fun _ => 0))))] _ := hP
  have hD : va_D A [(h0, .inr (0, [.int (nI 1), .ref z1, .ref z2, .ref z3, .ref z4, .ref z5, .ref z6, .int 0, .int 0, .null, .null, .null, .null, .null, .null, .null, .null, .null, .null, .int 0, .null])), (z1, .inl (c1, (200, .inl (fun _ => 0)))), (z2, .inl (c2, (1000, .inl (fun _ => 0)))), (z3, .inl (c3, (1000, .inl (fun _ => 0)))), (z4, .inl (c4, (1000, .inr (.inl (fun _ => 0))))), (z5, .inl (c5, (1000, .inl (fun _ => 0)))), (z6, .inl (c6, (40000, .inl (fun _ => 0)))), (z9, .inl (c9, (1000, .inl (fun _ => 0))))] := hD
  have hK : va_K D vwCl [(c1, .boolean), (c2, .int), (c3, .int), (c4, .long), (c5, .boolean), (c6, .short), (c9, .int)] s := hK
  refine W.widen (k := 7) (n := 45200) (Nat.le_of_ble_eq_true rfl) (Nat.le_of_ble_eq_true rfl) ?_
  refine va_putF (D := D) (ci := 0) (v := .ref z9) (ty := .array .int) (C := RX0) (T := TX0) (N := 21) hx hb hts in_X0 tyX0 tyX0_ok nmX0 hown hK hP hD hS 0 rfl rfl 9 (by decide) (hts _ q40) (fun _ h9 => h9) rfl hin rfl (by decide +kernel) rfl rfl (Nat.le_of_ble_eq_true rfl) dX0_init_68 (fun H locs hP hD hS => ?_)
  have hP : va_P D vwCl [(h0, .inr (0, [.int (nI 1), .ref z1, .ref z2, .ref z3, .ref z4, .ref z5, .ref z6, .int 0, .int 0, .ref z9, .null, .null, .null, .null, .null, .null, .null, .null, .null, .int 0, .null])), (z1, .inl (c1, (200, .inl (fun _ => 0)))), (z2, .inl (c2, (1000, .inl (fun _ => 0)))), (z3, .inl (c3, (1000, .inl (fun _ => 0)))), (z4, .inl (c4, (1000, .inr (.inl (fun _ => 0))))), (z5, .inl (c5, (1000, .inl (fun _ => 0)))), (z6, .inl (c6, (40000, .inl (fun _ => 0)))), (z9, .inl (c9, (1000, .inl (fun _ => 0))))] _ := hP
  have hD : va_D A [(h0, .inr (0, [.int (nI 1), .ref z1, .ref z2, .ref z3, .ref z4, .ref z5, .ref z6, .int 0, .int 0, .ref z9, .null, .null, .null, .null, .null, .null, .null, .null, .null, .int 0, .null])), (z1, .inl (c1, (200, .inl (fun _ => 0)))), (z2, .inl (c2, (1000, .inl (fun _ => 0)))), (z3, .inl (c3, (1000, .inl (fun _ => 0)))), (z4, .inl (c4, (1000, .inr (.inl (fun _ => 0))))), (z5, .inl (c5, (1000, .inl (fun _ => 0)))), (z6, .inl (c6, (40000, .inl (fun _ => 0)))), (z9, .inl (c9, (1000, .inl (fun _ => 0))))] := hD
  refine lv_aload_n hx hb dX0_init_71 rfl (lv_at hl 0 rfl) ?_
  refine lv_sipush (v := nI 200) hx hb dX0_init_72 (by decide) ?_
  refine va_newa (atype := .int) (ty := .int) (N' := 200) (a0 := (200, .inl (fun _ => 0))) hx hb (hts _ q96) rfl hK hP hD hS hA (fun _ => rfl) (nI_pos (by decide)) (nI_clamp (by decide)) (by decide) (Nat.le_of_ble_eq_true rfl) (Nat.le_of_ble_eq_true rfl) dX0_init_75 (fun z10 c10 H hK hP hD hS => ?_)
  have hP : va_P D vwCl [(h0, .inr (0, [.int (nI 1), .ref z1, .ref z2, .ref z3, .ref z4, .ref z5, .ref z6, .int 0, .int 0, .ref z9, .null, .null, .null, .null, .null, .null, .null, .null, .null, .int 0, .null])), (z1, .inl (c1, (200, .inl (fun _ => 0)))), (z2, .inl (c2, (1000, .inl (fun _ => 0)))), (z3, .inl (c3, (1000, .inl (fun _ => 0)))), (z4, .inl (c4, (1000, .inr (.inl (fun _ => 0))))), (z5, .inl (c5, (1000, .inl (fun _ => 0)))), (z6, .inl (c6, (40000, .inl (fun _ => 0)))), (z9, .inl (c9, (1000, .inl (fun _ => 0)))), (z10, .inl (c10, (200, .inl (fun _ => 0))))] _ := hP
  have hD : va_D A [(h0, .inr (0, [.int (nI 1), .ref z1, .ref z2, .ref z3, .ref z4, .ref z5, .ref z6, .int 0, .int 0, .ref z9, .null, .null, .null, .null, .null, .null, .null, .null, .null, .int 0, .null])), (z1, .inl (c1, (200, .inl (fun _ => 0)))), (z2, .inl (c2, (1000, .inl (fun _ => 0)))), (z3, .inl (c3, (1000, .inl (fun _ => 0)))), (z4, .inl (c4, (1000, .inr (.inl (fun _ => 0))))), (z5, .inl (c5, (1000, .inl (fun _ => 0)))), (z6, .inl (c6, (40000, .inl (fun _ => 0)))), (z9, .inl (c9, (1000, .inl (fun _ => 0)))), (z10, .inl (c10, (200, .inl (fun _ => 0))))] := hD
  have hK : va_K D vwCl [(c1, .boolean), (c2, .int), (c3, .int), (c4, .long), (c5, .boolean), (c6, .short), (c9, .int), (c10, .int)] s := hK
  refine W.widen (k := 8) (n := 45400) (Nat.le_of_ble_eq_true rfl) (Nat.le_of_ble_eq_true rfl) ?_
  refine va_putF (D := D) (ci := 0) (v := .ref z10) (ty := .array .int) (C := RX0) (T := TX0) (N := 21) hx hb hts in_X0 tyX0 tyX0_ok nmX0 hown hK hP hD hS 0 rfl rfl 10 (by decide) (hts _ q41) (fun _ h9 => h9) rfl hin rfl (by decide +kernel) rfl rfl (Nat.le_of_ble_eq_true rfl) dX0_init_77 (fun H locs hP hD hS => ?_)
  have hP : va_P D vwCl [(h0, .inr (0, [.int (nI 1), .ref z1, .ref z2, .ref z3, .ref z4, .ref z5, .ref z6, .int 0, .int 0, .ref z9, .ref z10, .null, .null, .null, .null, .null, .null, .null, .null, .int 0, .null])), (z1, .inl (c1, (200, .inl (fun _ => 0)))), (z2, .inl (c2, (1000, .inl (fun _ => 0)))), (z3, .inl (c3, (1000, .inl (fun _ => 0)))), (z4, .inl (c4, (1000, .inr (.inl (fun _ => 0))))), (z5, .inl (c5, (1000, .inl (fun _ => 0)))), (z6, .inl (c6, (40000, .inl (fun _ => 0)))), (z9, .inl (c9, (1000, .inl (fun _ => 0)))), (z10, .inl (c10, (200, .inl (fun _ => 0))))] _ := hP
  have hD : va_D A [(h0, .inr (0, [.int (nI 1), .ref z1, .ref z2, .ref z3, .ref z4, .ref z5, .ref z6, .int 0, .int 0, .ref z9, .ref z10, .null, .null, .null, .null, .null, .null, .null, .null, .int 0, .null])), (z1, .inl (c1, (200, .inl (fun _ => 0)))), (z2, .inl (c2, (1000, .inl (fun _ => 0)))), (z3, .inl (c3, (1000, .inl (fun _ => 0)))), (z4, .inl (c4, (1000, .inr (.inl (fun _ => 0))))), (z5, .inl (c5, (1000, .inl (fun _ => 0)))), (z6, .inl (c6, (40000, .inl (fun _ => 0)))), (z9, .inl (c9, (1000, .inl (fun _ => 0)))), (z10, .inl (c10, (200, .inl (fun _ => 0))))] := hD
  refine lv_aload_n hx hb dX0_init_80 rfl (lv_at hl 0 rfl) ?_
  refine lv_sipush (v := nI 200) hx hb dX0_init_81 (by decide) ?_
  refine va_newa (atype := .int) (ty := .int) (N' := 200) (a0 := (200, .inl (fun _ => 0))) hx hb (hts _ q96) rfl hK hP hD hS hA (fun _ => rfl) (nI_pos (by decide)) (nI_clamp (by decide)) (by decide) (Nat.le_of_ble_eq_true rfl) (Nat.le_of_ble_eq_true rfl) dX0_init_84 (fun z11 c11 H hK hP hD hS => ?_)
  have hP : va_P D vwCl [(h0, .inr (0, [.int (nI 1), .ref z1, .ref z2, .ref z3, .ref z4, .ref z5, .ref z6, .int 0, .int 0, .ref z9, .ref z10, .null, .null, .null, .null, .null, .null, .null, .null, .int 0, .null])), (z1, .inl (c1, (200, .inl (fun _ => 0)))), (z2, .inl (c2, (1000, .inl (fun _ => 0)))), (z3, .inl (c3, (1000, .inl (fun _ => 0)))), (z4, .inl (c4, (1000, .inr (.inl (fun _ => 0))))), (z5, .inl (c5, (1000, .inl (fun _ => 0)))), (z6, .inl (c6, (40000, .inl (fun _ => 0)))), (z9, .inl (c9, (1000, .inl (fun _ => 0)))), (z10, .inl (c10, (200, .inl (fun _ => 0)))), (z11, .inl (c11, (200, .inl (fun _ => 0))))] _ := hP
  have hD : va_D A [(h0, .inr (0, [.int (nI 1), .ref z1, .ref z2, .ref z3, .ref z4, .ref z5, .ref z6, .int 0, .int 0, .ref z9, .ref z10, .null, .null, .null, .null, .null, .null, .null, .null, .int 0, .null])), (z1, .inl (c1, (200, .inl (fun _ => 0)))), (z2, .inl (c2, (1000, .inl (fun _ => 0)))), (z3, .inl (c3, (1000, .inl (fun _ => 0)))), (z4, .inl (c4, (1000, .inr (.inl (fun _ => 0))))), (z5, .inl (c5, (1000, .inl (fun _ => 0)))), (z6, .inl (c6, (40000, .inl (fun _ => 0)))), (z9, .inl (c9, (1000, .inl (fun _ => 0)))), (z10, .inl (c10, (200, .inl (fun _ => 0)))), (z11, .inl (c11, (200, .inl (fun _ => 0))))] := hD
  have hK : va_K D vwCl [(c1, .boolean), (c2, .int), (c3, .int), (c4, .long), (c5, .boolean), (c6, .short), (c9, .int), (c10, .int), (c11, .int)] s := hK
  refine W.widen (k := 9) (n := 45600) (Nat.le_of_ble_eq_true rfl) (Nat.le_of_ble_eq_true rfl) ?_
  refine va_putF (D := D) (ci := 0) (v := .ref z11) (ty := .array .int) (C := RX0) (T := TX0) (N := 21) hx hb hts in_X0 tyX0 tyX0_ok nmX0 hown hK hP hD hS 0 rfl rfl 11 (by decide) (hts _ q42) (fun _ h9 => h9) rfl hin rfl (by decide +kernel) rfl rfl (Nat.le_of_ble_eq_true rfl) dX0_init_86 (fun H locs hP hD hS => ?_)
  have hP : va_P D vwCl [(h0, .inr (0, [.int (nI 1), .ref z1, .ref z2, .ref z3, .ref z4, .ref z5, .ref z6, .int 0, .int 0, .ref z9, .ref z10, .ref z11, .null, .null, .null, .null, .null, .null, .null, .int 0, .null])), (z1, .inl (c1, (200, .inl (fun _ => 0)))), (z2, .inl (c2, (1000, .inl (fun _ => 0)))), (z3, .inl (c3, (1000, .inl (fun _ => 0)))), (z4, .inl (c4, (1000, .inr (.inl (fun _ => 0))))), (z5, .inl (c5, (1000, .inl (fun _ => 0)))), (z6, .inl (c6, (40000, .inl (fun _ => 0)))), (z9, .inl (c9, (1000, .inl (fun _ => 0)))), (z10, .inl (c10, (200, .inl (fun _ => 0)))), (z11, .inl (c11, (200, .inl (fun _ => 0))))] _ := hP
  have hD : va_D A [(h0, .inr (0, [.int (nI 1), .ref z1, .ref z2, .ref z3, .ref z4, .ref z5, .ref z6, .int 0, .int 0, .ref z9, .ref z10, .ref z11, .null, .null, .null, .null, .null, .null, .null, .int 0, .null])), (z1, .inl (c1, (200, .inl (fun _ => 0)))), (z2, .inl (c2, (1000, .inl (fun _ => 0)))), (z3, .inl (c3, (1000, .inl (fun _ => 0)))), (z4, .inl (c4, (1000, .inr (.inl (fun _ => 0))))), (z5, .inl (c5, (1000, .inl (fun _ => 0)))), (z6, .inl (c6, (40000, .inl (fun _ => 0)))), (z9, .inl (c9, (1000, .inl (fun _ => 0)))), (z10, .inl (c10, (200, .inl (fun _ => 0)))), (z11, .inl (c11, (200, .inl (fun _ => 0))))] := hD
  refine lv_aload_n hx hb dX0_init_89 rfl (lv_at hl 0 rfl) ?_
  refine lv_sipush (v := nI 200) hx hb dX0_init_90 (by decide) ?_
  refine va_newa (atype := .int) (ty := .int) (N' := 200) (a0 := (200, .inl (fun _ => 0))) hx hb (hts _ q96) rfl hK hP hD hS hA (fun _ => rfl) (nI_pos (by decide)) (nI_clamp (by decide)) (by decide) (Nat.le_of_ble_eq_true rfl) (Nat.le_of_ble_eq_true rfl) dX0_init_93 (fun z12 c12 H hK hP hD hS => ?_)
  have hP : va_P D vwCl [(h0, .inr (0, [.int (nI 1), .ref z1, .ref z2, .ref z3, .ref z4, .ref z5, .ref z6, .int 0, .int 0, .ref z9, .ref z10, .ref z11, .null, .null, .null, .null, .null, .null, .null, .int 0, .null])), (z1, .inl (c1, (200, .inl (fun _ => 0)))), (z2, .inl (c2, (1000, .inl (fun _ => 0)))), (z3, .inl (c3, (1000, .inl (fun _ => 0)))), (z4, .inl (c4, (1000, .inr (.inl (fun _ => 0))))), (z5, .inl (c5, (1000, .inl (fun _ => 0)))), (z6, .inl (c6, (40000, .inl (fun _ => 0)))), (z9, .inl (c9, (1000, .inl (fun _ => 0)))), (z10, .inl (c10, (200, .inl (fun _ => 0)))), (z11, .inl (c11, (200, .inl (fun _ => 0)))), (z12, .inl (c12, (200, .inl (fun _ => 0))))] _ := hP
  have hD : va_D A [(h0, .inr (0, [.int (nI 1), .ref z1, .ref z2, .ref z3, .ref z4, .ref z5, .ref z6, .int 0, .int 0, .ref z9, .ref z10, .ref z11, .null, .null, .null, .null, .null, .null, .null, .int 0, .null])), (z1, .inl (c1, (200, .inl (fun _ => 0)))), (z2, .inl (c2, (1000, .inl (fun _ => 0)))), (z3, .inl (c3, (1000, .inl (fun _ => 0)))), (z4, .inl (c4, (1000, .inr (.inl (fun _ => 0))))), (z5, .inl (c5, (1000, .inl (fun _ => 0)))), (z6, .inl (c6, (40000, .inl (fun _ => 0)))), (z9, .inl (c9, (1000, .inl (fun _ => 0)))), (z10, .inl (c10, (200, .inl (fun _ => 0)))), (z11, .inl (c11, (200, .inl (fun _ => 0)))), (z12, .inl (c12, (200, .inl (fun _ => 0))))] := hD
  have hK : va_K D vwCl [(c1, .boolean), (c2, .int), (c3, .int), (c4, .long), (c5, .boolean), (c6, .short), (c9, .int), (c10, .int), (c11, .int), (c12, .int)] s := hK
  refine W.widen (k := 10) (n := 45800) (Nat.le_of_ble_eq_true rfl) (Nat.le_of_ble_eq_true rfl) ?_
  refine va_putF (D := D) (ci := 0) (v := .ref z12) (ty := .array .int) (C := RX0) (T := TX0) (N := 21) hx hb hts in_X0 tyX0 tyX0_ok nmX0 hown hK hP hD hS 0 rfl rfl 12 (by decide) (hts _ q43) (fun _ h9 => h9) rfl hin rfl (by decide +kernel) rfl rfl (Nat.le_of_ble_eq_true rfl) dX0_init_95 (fun H locs hP hD hS => ?_)
  have hP : va_P D vwCl [(h0, .inr (0, [.int (nI 1), .ref z1, .ref z2, .ref z3, .ref z4, .ref z5, .ref z6, .int 0, .int 0, .ref z9, .ref z10, .ref z11, .ref z12, .null, .null, .null, .null, .null, .null, .int 0, .null])), (z1, .inl (c1, (200, .inl (fun _ => 0)))), (z2, .inl (c2, (1000, .inl (fun _ => 0)))), (z3, .inl (c3, (1000, .inl (fun _ => 0)))), (z4, .inl (c4, (1000, .inr (.inl (fun _ => 0))))), (z5, .inl (c5, (1000, .inl (fun _ => 0)))), (z6, .inl (c6, (40000, .inl (fun _ => 0)))), (z9, .inl (c9, (1000, .inl (fun _ => 0)))), (z10, .inl (c10, (200, .inl (fun _ => 0)))), (z11, .inl (c11, (200, .inl (fun _ => 0)))), (z12, .inl (c12, (200, .inl (fun _ => 0))))] _ := hP
  have hD : va_D A [(h0, .inr (0, [.int (nI 1), .ref z1, .ref z2, .ref z3, .ref z4, .ref z5, .ref z6, .int 0, .int 0, .ref z9, .ref z10, .ref z11, .ref z12, .null, .null, .null, .null, .null, .null, .int 0, .null])), (z1, .inl (c1, (200, .inl (fun _ => 0)))), (z2, .inl (c2, (1000, .inl (fun _ => 0)))), (z3, .inl (c3, (1000, .inl (fun _ => 0)))), (z4, .inl (c4, (1000, .inr (.inl (fun _ => 0))))), (z5, .inl (c5, (1000, .inl (fun _ => 0)))), (z6, .inl (c6, (40000, .inl (fun _ => 0)))), (z9, .inl (c9, (1000, .inl (fun _ => 0)))), (z10, .inl (c10, (200, .inl (fun _ => 0)))), (z11, .inl (c11, (200, .inl (fun _ => 0)))), (z12, .inl (c12, (200, .inl (fun _ => 0))))] := hD
  refine lv_aload_n hx hb dX0_init_98 rfl (lv_at hl 0 rfl) ?_
  refine lv_sipush (v := nI 200) hx hb dX0_init_99 (by decide) ?_
  refine va_newa (atype := .boolean) (ty := .boolean) (N' := 200) (a0 := (200, .inl (fun _ => 0))) hx hb (hts _ q95) rfl hK hP hD hS hA (fun _ => rfl) (nI_pos (by decide)) (nI_clamp (by decide)) (by decide) (Nat.le_of_ble_eq_true rfl) (Nat.le_of_ble_eq_true rfl) dX0_init_102 (fun z13 c13 H hK hP hD hS => ?_)
  have hP : va_P D vwCl [(h0, .inr (0, [.int (nI 1), .ref z1, .ref z2, .ref z3, .ref z4, .ref z5, .ref z6, .int 0, .int 0, .ref z9, .ref z10, .ref z11, .ref z12, .null, .null, .null, .null, .null, .null, .int 0, .null])), (z1, .inl (c1, (200, .inl (fun _ => 0)))), (z2, .inl (c2, (1000, .inl (fun _ => 0)))), (z3, .inl (c3, (1000, .inl (fun _ => 0)))), (z4, .inl (c4, (1000, .inr (.inl (fun _ => 0))))), (z5, .inl (c5, (1000, .inl (fun _ => 0)))), (z6, .inl (c6, (40000, .inl (fun _ => 0)))), (z9, .inl (c9, (1000, .inl (fun _ => 0)))), (z10, .inl (c10, (200, .inl (fun _ => 0)))), (z11, .inl (c11, (200, .inl (fun _ => 0)))), (z12, .inl (c12, (200, .inl (fun _ => 0)))), (z13, .inl (c13, (200, .inl (fun _ => 0))))] _ := hP
  have hD : va_D A [(h0, .inr (0, [.int (nI 1), .ref z1, .ref z2, .ref z3, .ref z4, .ref z5, .ref z6, .int 0, .int 0, .ref z9, .ref z10, .ref z11, .ref z12, .null, .null, .null, .null, .null, .null, .int 0, .null])), (z1, .inl (c1, (200, .inl (fun _ => 0)))), (z2, .inl (c2, (1000, .inl (fun _ => 0)))), (z3, .inl (c3, (1000, .inl (fun _ => 0)))), (z4, .inl (c4, (1000, .inr (.inl (fun _ => 0))))), (z5, .inl (c5, (1000, .inl (fun _ => 0)))), (z6, .inl (c6, (40000, .inl (fun _ => 0)))), (z9, .inl (c9, (1000, .inl (fun _ => 0)))), (z10, .inl (c10, (200, .inl (fun _ => 0)))), (z11, .inl (c11, (200, .inl (fun _ => 0)))), (z12, .inl (c12, (200, .inl (fun _ => 0)))), (z13, .inl (c13, (200, .inl (fun _ => 0))))] := hD
  have hK : va_K D vwCl [(c1, .boolean), (c2, .int), (c3, .int), (c4, .long), (c5, .boolean), (c6, .short), (c9, .int), (c10, .int), (c11, .int), (c12, .int), (c13, .boolean)] s := hK
  refine W.widen (k := 11) (n := 46000) (Nat.le_of_ble_eq_true rfl) (Nat.le_of_ble_eq_true rfl) ?_
  refine va_putF (D := D) (ci := 0) (v := .ref z13) (ty := .array .boolean) (C := RX0) (T := TX0) (N := 21) hx hb hts in_X0 tyX0 tyX0_ok nmX0 hown hK hP hD hS 0 rfl rfl 13 (by decide) (hts _ q44) (fun _ h9 => h9) rfl hin rfl (by decide +kernel) rfl rfl (Nat.le_of_ble_eq_true rfl) dX0_init_104 (fun H locs hP hD hS => ?_)
  have hP : va_P D vwCl [(h0, .inr (0, [.int (nI 1), .ref z1, .ref z2, .ref z3, .ref z4, .ref z5, .ref z6, .int 0, .int 0, .ref z9, .ref z10, .ref z11, .ref z12, .ref z13, .null, .null, .null, .null, .null, .int 0, .null])), (z1, .inl (c1, (200, .inl (fun _ => 0)))), (z2, .inl (c2, (1000, .inl (fun _ => 0)))), (z3, .inl (c3, (1000, .inl (fun _ => 0)))), (z4, .inl (c4, (1000, .inr (.inl (fun _ => 0))))), (z5, .inl (c5, (1000, .inl (fun _ => 0)))), (z6, .inl (c6, (40000, .inl (fun _ => 0)))), (z9, .inl (c9, (1000, .inl (fun _ => 0)))), (z10, .inl (c10, (200, .inl (fun _ => 0)))), (z11, .inl (c11, (200, .inl (fun _ => 0)))), (z12, .inl (c12, (200, .inl (fun _ => 0)))), (z13, .inl (c13, (200, .inl (fun _ => 0))))] _ := hP
  have hD : va_D A [(h0, .inr (0, [.int (nI 1), .ref z1, .ref z2, .ref z3, .ref z4, .ref z5, .ref z6, .int 0, .int 0, .ref z9, .ref z10, .ref z11, .ref z12, .ref z13, .null, .null, .null, .null, .null, .int 0, .null])), (z1, .inl (c1, (200, .inl (fun _ => 0)))), (z2, .inl (c2, (1000, .inl (fun _ => 0)))), (z3, .inl (c3, (1000, .inl (fun _ => 0)))), (z4, .inl (c4, (1000, .inr (.inl (fun _ => 0))))), (z5, .inl (c5, (1000, .inl (fun _ => 0)))), (z6, .inl (c6, (40000, .inl (fun _ => 0)))), (z9, .inl (c9, (1000, .inl (fun _ => 0)))), (z10, .inl (c10, (200, .inl (fun _ => 0)))), (z11, .inl (c11, (200, .inl (fun _ => 0)))), (z12, .inl (c12, (200, .inl (fun _ => 0)))), (z13, .inl (c13, (200, .inl (fun _ => 0))))] := hD
  refine lv_aload_n hx hb dX0_init_107 rfl (lv_at hl 0 rfl) ?_
  refine lv_sipush (v := nI 200) hx hb dX0_init_108 (by decide) ?_
  refine va_newa (atype := .long) (ty := .long) (N' := 200) (a0 := (200, .inr (.inl (fun _ => 0)))) hx hb (hts _ q97) rfl hK hP hD hS hA (fun _ => rfl) (nI_pos (by decide)) (nI_clamp (by decide)) (by decide) (Nat.le_of_ble_eq_true rfl) (Nat.le_of_ble_eq_true rfl) dX0_init_111 (fun z14 c14 H hK hP hD hS => ?_)
  have hP : va_P D vwCl [(h0, .inr (0, [.int (nI 1), .ref z1, .ref z2, .ref z3, .ref z4, .ref z5, .ref z6, .int 0, .int 0, .ref z9, .ref z10, .ref z11, .ref z12, .ref z13, .null, .null, .null, .null, .null, .int 0, .null])), (z1, .inl (c1, (200, .inl (fun _ => 0)))), (z2, .inl (c2, (1000, .inl (fun _ => 0)))), (z3, .inl (c3, (1000, .inl (fun _ => 0)))), (z4, .inl (c4, (1000, .inr (.inl (fun _ => 0))))), (z5, .inl (c5, (1000, .inl (fun _ => 0)))), (z6, .inl (c6, (40000, .inl (fun _ => 0)))), (z9, .inl (c9, (1000, .inl (fun _ => 0)))), (z10, .inl (c10, (200, .inl (fun _ => 0)))), (z11, .inl (c11, (200, .inl (fun _ => 0)))), (z12, .inl (c12, (200, .inl (fun _ => 0)))), (z13, .inl (c13, (200, .inl (fun _ => 0)))), (z14, .inl (c14, (200, .inr (.inl (fun _ => 0)))))] _ := hP
  have hD : va_D A [(h0, .inr (0, [.int (nI 1), .ref z1, .ref z2, .ref z3, .ref z4, .ref z5, .ref z6, .int 0, .int 0, .ref z9, .ref z10, .ref z11, .ref z12, .ref z13, .null, .null, .null, .null, .null, .int 0, .null])), (z1, .inl (c1, (200, .inl (fun _ => 0)))), (z2, .inl (c2, (1000, .inl (fun _ => 0)))), (z3, .inl (c3, (1000, .inl (fun _ => 0)))), (z4, .inl (c4, (1000, .inr (.inl (fun _ => 0))))), (z5, .inl (c5, (1000, .inl (fun _ => 0)))), (z6, .inl (c6, (40000, .inl (fun _ => 0)))), (z9, .inl (c9, (1000, .inl (fun _ => 0)))), (z10, .inl (c10, (200, .inl (fun _ => 0)))), (z11, .inl (c11, (200, .inl (fun _ => 0)))), (z12, .inl (c12, (200, .inl (fun _ => 0)))), (z13, .inl (c13, (200, .inl (fun _ => 0)))), (z14, .inl (c14, (200, .inr (.inl (fun _ => 0)))))] := hD
  have hK : va_K D vwCl [(c1, .boolean), (c2, .int), (c3, .int), (c4, .long), (c5, .boolean), (c6, .short), (c9, .int), (c10, .int), (c11, .int), (c12, .int), (c13, .boolean), (c14, .long)] s := hK
  refine W.widen (k := 12) (n := 46200) (Nat.le_of_ble_eq_true rfl) (Nat.le_of_ble_eq_true rfl) ?_
  refine va_putF (D := D) (ci := 0) (v := .ref z14) (ty := .array .long) (C := RX0) (T := TX0) (N := 21) hx hb hts in_X0 tyX0 tyX0_ok nmX0 hown hK hP hD hS 0 rfl rfl 14 (by decide) (hts _ q45) (fun _ h9 => h9) rfl hin rfl (by decide +kernel) rfl rfl (Nat.le_of_ble_eq_true rfl) dX0_init_113 (fun H locs hP hD hS => ?_)
  have hP : va_P D vwCl [(h0, .inr (0, [.int (nI 1), .ref z1, .ref z2, .ref z3, .ref z4, .ref z5, .ref z6, .int 0, .int 0, .ref z9, .ref z10, .ref z11, .ref z12, .ref z13, .ref z14, .null, .null, .null, .null, .int 0, .null])), (z1, .inl (c1, (200, .inl (fun _ => 0)))), (z2, .inl (c2, (1000, .inl (fun _ => 0)))), (z3, .inl (c3, (1000, .inl (fun _ => 0)))), (z4, .inl (c4, (1000, .inr (.inl (fun _ => 0))))), (z5, .inl (c5, (1000, .inl (fun _ => 0)))), (z6, .inl (c6, (40000, .inl (fun _ => 0)))), (z9, .inl (c9, (1000, .inl (fun _ => 0)))), (z10, .inl (c10, (200, .inl (fun _ => 0)))), (z11, .inl (c11, (200, .inl (fun _ => 0)))), (z12, .inl (c12, (200, .inl (fun _ => 0)))), (z13, .inl (c13, (200, .inl (fun _ => 0)))), (z14, .inl (c14, (200, .inr (.inl (fun _ => 0)))))] _ := hP
  have hD : va_D A [(h0, .inr (0, [.int (nI 1), .ref z1, .ref z2, .ref z3, .ref z4, .ref z5, .ref z6, .int 0, .int 0, .ref z9, .ref z10, .ref z11, .ref z12, .ref z13, .ref z14, .null, .null, .null, .null, .int 0, .null])), (z1, .inl (c1, (200, .inl (fun _ => 0)))), (z2, .inl (c2, (1000, .inl (fun _ => 0)))), (z3, .inl (c3, (1000, .inl (fun _ => 0)))), (z4, .inl (c4, (1000, .inr (.inl (fun _ => 0))))), (z5, .inl (c5, (1000, .inl (fun _ => 0)))), (z6, .inl (c6, (40000, .inl (fun _ => 0)))), (z9, .inl (c9, (1000, .inl (fun _ => 0)))), (z10, .inl (c10, (200, .inl (fun _ => 0)))), (z11, .inl (c11, (200, .inl (fun _ => 0)))), (z12, .inl (c12, (200, .inl (fun _ => 0)))), (z13, .inl (c13, (200, .inl (fun _ => 0)))), (z14, .inl (c14, (200, .inr (.inl (fun _ => 0)))))] := hD
  refine lv_aload_n hx hb dX0_init_116 rfl (lv_at hl 0 rfl) ?_
  refine lv_sipush (v := nI 200) hx hb dX0_init_117 (by decide) ?_
  refine va_newa (atype := .int) (ty := .int) (N' := 200) (a0 := (200, .inl (fun _ => 0))) hx hb (hts _ q96) rfl hK hP hD hS hA (fun _ => rfl) (nI_pos (by decide)) (nI_clamp (by decide)) (by decide) (Nat.le_of_ble_eq_true rfl) (Nat.le_of_ble_eq_true rfl) dX0_init_120 (fun z15 c15 H hK hP hD hS => ?_)
  have hP : va_P D vwCl [(h0, .inr (0, [.int (nI 1), .ref z1, .ref z2, .ref z3, .ref z4, .ref z5, .ref z6, .int 0, .int 0, .ref z9, .ref z10, .ref z11, .ref z12, .ref z13, .ref z14, .null, .null, .null, .null, .int 0, .null])), (z1, .inl (c1, (200, .inl (fun _ => 0)))), (z2, .inl (c2, (1000, .inl (fun _ => 0)))), (z3, .inl (c3, (1000, .inl (fun _ => 0)))), (z4, .inl (c4, (1000, .inr (.inl (fun _ => 0))))), (z5, .inl (c5, (1000, .inl (fun _ => 0)))), (z6, .inl (c6, (40000, .inl (fun _ => 0)))), (z9, .inl (c9, (1000, .inl (fun _ => 0)))), (z10, .inl (c10, (200, .inl (fun _ => 0)))), (z11, .inl (c11, (200, .inl (fun _ => 0)))), (z12, .inl (c12, (200, .inl (fun _ => 0)))), (z13, .inl (c13, (200, .inl (fun _ => 0)))), (z14, .inl (c14, (200, .inr (.inl (fun _ => 0))))), (z15, .inl (c15, (200, .inl (fun _ => 0))))] _ := hP
  have hD : va_D A [(h0, .inr (0, [.int (nI 1), .ref z1, .ref z2, .ref z3, .ref z4, .ref z5, .ref z6, .int 0, .int 0, .ref z9, .ref z10, .ref z11, .ref z12, .ref z13, .ref z14, .null, .null, .null, .null, .int 0, .null])), (z1, .inl (c1, (200, .inl (fun _ => 0)))), (z2, .inl (c2, (1000, .inl (fun _ => 0)))), (z3, .inl (c3, (1000, .inl (fun _ => 0)))), (z4, .inl (c4, (1000, .inr (.inl (fun _ => 0))))), (z5, .inl (c5, (1000, .inl (fun _ => 0)))), (z6, .inl (c6, (40000, .inl (fun _ => 0)))), (z9, .inl (c9, (1000, .inl (fun _ => 0)))), (z10, .inl (c10, (200, .inl (fun _ => 0)))), (z11, .inl (c11, (200, .inl (fun _ => 0)))), (z12, .inl (c12, (200, .inl (fun _ => 0)))), (z13, .inl (c13, (200, .inl (fun _ => 0)))), (z14, .inl (c14, (200, .inr (.inl (fun _ => 0))))), (z15, .inl (c15, (200, .inl (fun _ => 0))))] := hD
  have hK : va_K D vwCl [(c1, .boolean), (c2, .int), (c3, .int), (c4, .long), (c5, .boolean), (c6, .short), (c9, .int), (c10, .int), (c11, .int), (c12, .int), (c13, .boolean), (c14, .long), (c15, .int)] s := hK
  refine W.widen (k := 13) (n := 46400) (Nat.le_of_ble_eq_true rfl) (Nat.le_of_ble_eq_true rfl) ?_
  refine va_putF (D := D) (ci := 0) (v := .ref z15) (ty := .array .int) (C := RX0) (T := TX0) (N := 21) hx hb hts in_X0 tyX0 tyX0_ok nmX0 hown hK hP hD hS 0 rfl rfl 15 (by decide) (hts _ q46) (fun _ h9 => h9) rfl hin rfl (by decide +kernel) rfl rfl (Nat.le_of_ble_eq_true rfl) dX0_init_122 (fun H locs hP hD hS => ?_)
  have hP : va_P D vwCl [(h0, .inr (0, [.int (nI 1), .ref z1, .ref z2, .ref z3, .ref z4, .ref z5, .ref z6, .int 0, .int 0, .ref z9, .ref z10, .ref z11, .ref z12, .ref z13, .ref z14, .ref z15, .null, .null, .null, .int 0, .null])), (z1, .inl (c1, (200, .inl (fun _ => 0)))), (z2, .inl (c2, (1000, .inl (fun _ => 0)))), (z3, .inl (c3, (1000, .inl (fun _ => 0)))), (z4, .inl (c4, (1000, .inr (.inl (fun _ => 0))))), (z5, .inl (c5, (1000, .inl (fun _ => 0)))), (z6, .inl (c6, (40000, .inl (fun _ => 0)))), (z9, .inl (c9, (1000, .inl (fun _ => 0)))), (z10, .inl (c10, (200, .inl (fun _ => 0)))), (z11, .inl (c11, (200, .inl (fun _ => 0)))), (z12, .inl (c12, (200, .inl (fun _ => 0)))), (z13, .inl (c13, (200, .inl (fun _ => 0)))), (z14, .inl (c14, (200, .inr (.inl (fun _ => 0))))), (z15, .inl (c15, (200, .inl (fun _ => 0))))] _ := hP
  have hD : va_D A [(h0, .inr (0, [.int (nI 1), .ref z1, .ref z2, .ref z3, .ref z4, .ref z5, .ref z6, .int 0, .int 0, .ref z9, .ref z10, .ref z11, .ref z12, .ref z13, .ref z14, .ref z15, .null, .null, .null, .int 0, .null])), (z1, .inl (c1, (200, .inl (fun _ => 0)))), (z2, .inl (c2, (1000, .inl (fun _ => 0)))), (z3, .inl (c3, (1000, .inl (fun _ => 0)))), (z4, .inl (c4, (1000, .inr (.inl (fun _ => 0))))), (z5, .inl (c5, (1000, .inl (fun _ => 0)))), (z6, .inl (c6, (40000, .inl (fun _ => 0)))), (z9, .inl (c9, (1000, .inl (fun _ => 0)))), (z10, .inl (c10, (200, .inl (fun _ => 0)))), (z11, .inl (c11, (200, .inl (fun _ => 0)))), (z12, .inl (c12, (200, .inl (fun _ => 0)))), (z13, .inl (c13, (200, .inl (fun _ => 0)))), (z14, .inl (c14, (200, .inr (.inl (fun _ => 0))))), (z15, .inl (c15, (200, .inl (fun _ => 0))))] := hD
  refine lv_aload_n hx hb dX0_init_125 rfl (lv_at hl 0 rfl) ?_
  refine lv_sipush (v := nI 200) hx hb dX0_init_126 (by decide) ?_
  refine va_newa (atype := .int) (ty := .int) (N' := 200) (a0 := (200, .inl (fun _ => 0))) hx hb (hts _ q96) rfl hK hP hD hS hA (fun _ => rfl) (nI_pos (by decide)) (nI_clamp (by decide)) (by decide) (Nat.le_of_ble_eq_true rfl) (Nat.le_of_ble_eq_true rfl) dX0_init_129 (fun z16 c16 H hK hP hD hS => ?_)
  have hP : va_P D vwCl [(h0, .inr (0, [.int (nI 1), .ref z1, .ref z2, .ref z3, .ref z4, .ref z5, .ref z6, .int 0, .int 0, .ref z9, .ref z10, .ref z11, .ref z12, .ref z13, .ref z14, .ref z15, .null, .null, .null, .int 0, .null])), (z1, .inl (c1, (200, .inl (fun _ => 0)))), (z2, .inl (c2, (1000, .inl (fun _ => 0)))), (z3, .inl (c3, (1000, .inl (fun _ => 0)))), (z4, .inl (c4, (1000, .inr (.inl (fun _ => 0))))), (z5, .inl (c5, (1000, .inl (fun _ => 0)))), (z6, .inl (c6, (40000, .inl (fun _ => 0)))), (z9, .inl (c9, (1000, .inl (fun _ => 0)))), (z10, .inl (c10, (200, .inl (fun _ => 0)))), (z11, .inl (c11, (200, .inl (fun _ => 0)))), (z12, .inl (c12, (200, .inl (fun _ => 0)))), (z13, .inl (c13, (200, .inl (fun _ => 0)))), (z14, .inl (c14, (200, .inr (.inl (fun _ => 0))))), (z15, .inl (c15, (200, .inl (fun _ => 0)))), (z16, .inl (c16, (200, .inl (fun _ => 0))))] _ := hP
  have hD : va_D A [(h0, .inr (0, [.int (nI 1), .ref z1, .ref z2, .ref z3, .ref z4, .ref z5, .ref z6, .int 0, .int 0, .ref z9, .ref z10, .ref z11, .ref z12, .ref z13, .ref z14, .ref z15, .null, .null, .null, .int 0, .null])), (z1, .inl (c1, (200, .inl (fun _ => 0)))), (z2, .inl (c2, (1000, .inl (fun _ => 0)))), (z3, .inl (c3, (1000, .inl (fun _ => 0)))), (z4, .inl (c4, (1000, .inr (.inl (fun _ => 0))))), (z5, .inl (c5, (1000, .inl (fun _ => 0)))), (z6, .inl (c6, (40000, .inl (fun _ => 0)))), (z9, .inl (c9, (1000, .inl (fun _ => 0)))), (z10, .inl (c10, (200, .inl (fun _ => 0)))), (z11, .inl (c11, (200, .inl (fun _ => 0)))), (z12, .inl (c12, (200, .inl (fun _ => 0)))), (z13, .inl (c13, (200, .inl (fun _ => 0)))), (z14, .inl (c14, (200, .inr (.inl (fun _ => 0))))), (z15, .inl (c15, (200, .inl (fun _ => 0)))), (z16, .inl (c16, (200, .inl (fun _ => 0))))] := hD
  have hK : va_K D vwCl [(c1, .boolean), (c2, .int), (c3, .int), (c4, .long), (c5, .boolean), (c6, .short), (c9, .int), (c10, .int), (c11, .int), (c12, .int), (c13, .boolean), (c14, .long), (c15, .int), (c16, .int)] s := hK
  refine W.widen (k := 14) (n := 46600) (Nat.le_of_ble_eq_true rfl) (Nat.le_of_ble_eq_true rfl) ?_
  refine va_putF (D := D) (ci := 0) (v := .ref z16) (ty := .array .int) (C := RX0) (T := TX0) (N := 21) hx hb hts in_X0 tyX0 tyX0_ok nmX0 hown hK hP hD hS 0 rfl rfl 16 (by decide) (hts _ q47) (fun _ h9 => h9) rfl hin rfl (by decide +kernel) rfl rfl (Nat.le_of_ble_eq_true rfl) dX0_init_131 (fun H locs hP hD hS => ?_)
  have hP : va_P D vwCl [(h0, .inr (0, [.int (nI 1), .ref z1, .ref z2, .ref z3, .ref z4, .ref z5, .ref z6, .int 0, .int 0, .ref z9, .ref z10, .ref z11, .ref z12, .ref z13, .ref z14, .ref z15, .ref z16, .null, .null, .int 0, .null])), (z1, .inl (c1, (200, .inl (fun _ => 0)))), (z2, .inl (c2, (1000, .inl (fun _ => 0)))), (z3, .inl (c3, (1000, .inl (fun _ => 0)))), (z4, .inl (c4, (1000, .inr (.inl (fun _ => 0))))), (z5, .inl (c5, (1000, .inl (fun _ => 0)))), (z6, .inl (c6, (40000, .inl (fun _ => 0)))), (z9, .inl (c9, (1000, .inl (fun _ => 0)))), (z10, .inl (c10, (200, .inl (fun _ => 0)))), (z11, .inl (c11, (200, .inl (fun _ => 0)))), (z12, .inl (c12, (200, .inl (fun _ => 0)))), (z13, .inl (c13, (200, .inl (fun _ => 0)))), (z14, .inl (c14, (200, .inr (.inl (fun _ => 0))))), (z15, .inl (c15, (200, .inl (fun _ => 0)))), (z16, .inl (c16, (200, .inl (fun _ => 0))))] _ := hP
  have hD : va_D A [(h0, .inr (0, [.int (nI 1), .ref z1, .ref z2, .ref z3, .ref z4, .ref z5, .ref z6, .int 0, .int 0, .ref z9, .ref z10, .ref z11, .ref z12, .ref z13, .ref z14, .ref z15, .ref z16, .null, .null, .int 0, .null])), (z1, .inl (c1, (200, .inl (fun _ => 0)))), (z2, .inl (c2, (1000, .inl (fun _ => 0)))), (z3, .inl (c3, (1000, .inl (fun _ => 0)))), (z4, .inl (c4, (1000, .inr (.inl (fun _ => 0))))), (z5, .inl (c5, (1000, .inl (fun _ => 0)))), (z6, .inl (c6, (40000, .inl (fun _ => 0)))), (z9, .inl (c9, (1000, .inl (fun _ => 0)))), (z10, .inl (c10, (200, .inl (fun _ => 0)))), (z11, .inl (c11, (200, .inl (fun _ => 0)))), (z12, .inl (c12, (200, .inl (fun _ => 0)))), (z13, .inl (c13, (200, .inl (fun _ => 0)))), (z14, .inl (c14, (200, .inr (.inl (fun _ => 0))))), (z15, .inl (c15, (200, .inl (fun _ => 0)))), (z16, .inl (c16, (200, .inl (fun _ => 0))))] := hD
  refine lv_aload_n hx hb dX0_init_134 rfl (lv_at hl 0 rfl) ?_
  refine lv_sipush (v := nI 200) hx hb dX0_init_135 (by decide) ?_
  refine va_newa (atype := .int) (ty := .int) (N' := 200) (a0 := (200, .inl (fun _ => 0))) hx hb (hts _ q96) rfl hK hP hD hS hA (fun _ => rfl) (nI_pos (by decide)) (nI_clamp (by decide)) (by decide) (Nat.le_of_ble_eq_true rfl) (Nat.le_of_ble_eq_true rfl) dX0_init_138 (fun z17 c17 H hK hP hD hS => ?_)
  have hP : va_P D vwCl [(h0, .inr (0, [.int (nI 1), .ref z1, .ref z2, .ref z3, .ref z4, .ref z5, .ref z6, .int 0, .int 0, .ref z9, .ref z10, .ref z11, .ref z12, .ref z13, .ref z14, .ref z15, .ref z16, .null, .null, .int 0, .null])), (z1, .inl (c1, (200, .inl (fun _ => 0)))), (z2, .inl (c2, (1000, .inl (fun _ => 0)))), (z3, .inl (c3, (1000, .inl (fun _ => 0)))), (z4, .inl (c4, (1000, .inr (.inl (fun _ => 0))))), (z5, .inl (c5, (1000, .inl (fun _ => 0)))), (z6, .inl (c6, (40000, .inl (fun _ => 0)))), (z9, .inl (c9, (1000, .inl (fun _ => 0)))), (z10, .inl (c10, (200, .inl (fun _ => 0)))), (z11, .inl (c11, (200, .inl (fun _ => 0)))), (z12, .inl (c12, (200, .inl (fun _ => 0)))), (z13, .inl (c13, (200, .inl (fun _ => 0)))), (z14, .inl (c14, (200, .inr (.inl (fun _ => 0))))), (z15, .inl (c15, (200, .inl (fun _ => 0)))), (z16, .inl (c16, (200, .inl (fun _ => 0)))), (z17, .inl (c17, (200, .inl (fun _ => 0))))] _ := hP
  have hD : va_D A [(h0, .inr (0, [.int (nI 1), .ref z1, .ref z2, .ref z3, .ref z4, .ref z5, .ref z6, .int 0, .int 0, .ref z9, .ref z10, .ref z11, .ref z12, .ref z13, .ref z14, .ref z15, .ref z16, .null, .null, .int 0, .null])), (z1, .inl (c1, (200, .inl (fun _ => 0)))), (z2, .inl (c2, (1000, .inl (fun _ => 0)))), (z3, .inl (c3, (1000, .inl (fun _ => 0)))), (z4, .inl (c4, (1000, .inr (.inl (fun _ => 0))))), (z5, .inl (c5, (1000, .inl (fun _ => 0)))), (z6, .inl (c6, (40000, .inl (fun _ => 0)))), (z9, .inl (c9, (1000, .inl (fun _ => 0)))), (z10, .inl (c10, (200, .inl (fun _ => 0)))), (z11, .inl (c11, (200, .inl (fun _ => 0)))), (z12, .inl (c12, (200, .inl (fun _ => 0)))), (z13, .inl (c13, (200, .inl (fun _ => 0)))), (z14, .inl (c14, (200, .inr (.inl (fun _ => 0))))), (z15, .inl (c15, (200, .inl (fun _ => 0)))), (z16, .inl (c16, (200, .inl (fun _ => 0)))), (z17, .inl (c17, (200, .inl (fun _ => 0))))] := hD
  have hK : va_K D vwCl [(c1, .boolean), (c2, .int), (c3, .int), (c4, .long), (c5, .boolean), (c6, .short), (c9, .int), (c10, .int), (c11, .int), (c12, .int), (c13, .boolean), (c14, .long), (c15, .int), (c16, .int), (c17, .int)] s := hK
  refine W.widen (k := 15) (n := 46800) (Nat.le_of_ble_eq_true rfl) (Nat.le_of_ble_eq_true rfl) ?_
  refine va_putF (D := D) (ci := 0) (v := .ref z17) (ty := .array .int) (C := RX0) (T := TX0) (N := 21) hx hb hts in_X0 tyX0 tyX0_ok nmX0 hown hK hP hD hS 0 rfl rfl 17 (by decide) (hts _ q48) (fun _ h9 => h9) rfl hin rfl (by decide +kernel) rfl rfl (Nat.le_of_ble_eq_true rfl) dX0_init_140 (fun H locs hP hD hS => ?_)
  have hP : va_P D vwCl [(h0, .inr (0, [.int (nI 1), .ref z1, .ref z2, .ref z3, .ref z4, .ref z5, .ref z6, .int 0, .int 0, .ref z9, .ref z10, .ref z11, .ref z12, .ref z13, .ref z14, .ref z15, .ref z16, .ref z17, .null, .int 0, .null])), (z1, .inl (c1, (200, .inl (fun _ => 0)))), (z2, .inl (c2, (1000, .inl (fun _ => 0)))), (z3, .inl (c3, (1000, .inl (fun _ => 0)))), (z4, .inl (c4, (1000, .inr (.inl (fun _ => 0))))), (z5, .inl (c5, (1000, .inl (fun _ => 0)))), (z6, .inl (c6, (40000, .inl (fun _ => 0)))), (z9, .inl (c9, (1000, .inl (fun _ => 0)))), (z10, .inl (c10, (200, .inl (fun _ => 0)))), (z11, .inl (c11, (200, .inl (fun _ => 0)))), (z12, .inl (c12, (200, .inl (fun _ => 0)))), (z13, .inl (c13, (200, .inl (fun _ => 0)))), (z14, .inl (c14, (200, .inr (.inl (fun _ => 0))))), (z15, .inl (c15, (200, .inl (fun _ => 0)))), (z16, .inl (c16, (200, .inl (fun _ => 0)))), (z17, .inl (c17, (200, .inl (fun _ => 0))))] _ := hP
  have hD : va_D A [(h0, .inr (0, [.int (nI 1), .ref z1, .ref z2, .ref z3, .ref z4, .ref z5, .ref z6, .int 0, .int 0, .ref z9, .ref z10, .ref z11, .ref z12, .ref z13, .ref z14, .ref z15, .ref z16, .ref z17, .null, .int 0, .null])), (z1, .inl (c1, (200, .inl (fun _ => 0)))), (z2, .inl (c2, (1000, .inl (fun _ => 0)))), (z3, .inl (c3, (1000, .inl (fun _ => 0)))), (z4, .inl (c4, (1000, .inr (.inl (fun _ => 0))))), (z5, .inl (c5, (1000, .inl (fun _ => 0)))), (z6, .inl (c6, (40000, .inl (fun _ => 0)))), (z9, .inl (c9, (1000, .inl (fun _ => 0)))), (z10, .inl (c10, (200, .inl (fun _ => 0)))), (z11, .inl (c11, (200, .inl (fun _ => 0)))), (z12, .inl (c12, (200, .inl (fun _ => 0)))), (z13, .inl (c13, (200, .inl (fun _ => 0)))), (z14, .inl (c14, (200, .inr (.inl (fun _ => 0))))), (z15, .inl (c15, (200, .inl (fun _ => 0)))), (z16, .inl (c16, (200, .inl (fun _ => 0)))), (z17, .inl (c17, (200, .inl (fun _ => 0))))] := hD
  refine lv_aload_n hx hb dX0_init_143 rfl (lv_at hl 0 rfl) ?_
  refine lv_sipush (v := nI 200) hx hb dX0_init_144 (by decide) ?_
  refine va_newa (atype := .int) (ty := .int) (N' := 200) (a0 := (200, .inl (fun _ => 0))) hx hb (hts _ q96) rfl hK hP hD hS hA (fun _ => rfl) (nI_pos (by decide)) (nI_clamp (by decide)) (by decide) (Nat.le_of_ble_eq_true rfl) (Nat.le_of_ble_eq_true rfl) dX0_init_147 (fun z18 c18 H hK hP hD hS => ?_)
  have hP : va_P D vwCl [(h0, .inr (0, [.int (nI 1), .ref z1, .ref z2, .ref z3, .ref z4, .ref z5, .ref z6, .int 0, .int 0, .ref z9, .ref z10, .ref z11, .ref z12, .ref z13, .ref z14, .ref z15, .ref z16, .ref z17, .null, .int 0, .null])), (z1, .inl (c1, (200, .inl (fun _ => 0)))), (z2, .inl (c2, (1000, .inl (fun _ => 0)))), (z3, .inl (c3, (1000, .inl (fun _ => 0)))), (z4, .inl (c4, (1000, .inr (.inl (fun _ => 0))))), (z5, .inl (c5, (1000, .inl (fun _ => 0)))), (z6, .inl (c6, (40000, .inl (fun _ => 0)))), (z9, .inl (c9, (1000, .inl (fun _ => 0)))), (z10, .inl (c10, (200, .inl (fun _ => 0)))), (z11, .inl (c11, (200, .inl (fun _ => 0)))), (z12, .inl (c12, (200, .inl (fun _ => 0)))), (z13, .inl (c13, (200, .inl (fun _ => 0)))), (z14, .inl (c14, (200, .inr (.inl (fun _ => 0))))), (z15, .inl (c15, (200, .inl (fun _ => 0)))), (z16, .inl (c16, (200, .inl (fun _ => 0)))), (z17, .inl (c17, (200, .inl (fun _ => 0)))), (z18, .inl (c18, (200, .inl (fun _ => 0))))] _ := hP
  have hD : va_D A [(h0, .inr (0, [.int (nI 1), .ref z1, .ref z2, .ref z3, .ref z4, .ref z5, .ref z6, .int 0, .int 0, .ref z9, .ref z10, .ref z11, .ref z12, .ref z13, .ref z14, .ref z15, .ref z16, .ref z17, .null, .int 0, .null])), (z1, .inl (c1, (200, .inl (fun _ => 0)))), (z2, .inl (c2, (1000, .inl (fun _ => 0)))), (z3, .inl (c3, (1000, .inl (fun _ => 0)))), (z4, .inl (c4, (1000, .inr (.inl (fun _ => 0))))), (z5, .inl (c5, (1000, .inl (fun _ => 0)))), (z6, .inl (c6, (40000, .inl (fun _ => 0)))), (z9, .inl (c9, (1000, .inl (fun _ => 0)))), (z10, .inl (c10, (200, .inl (fun _ => 0)))), (z11, .inl (c11, (200, .inl (fun _ => 0)))), (z12, .inl (c12, (200, .inl (fun _ => 0)))), (z13, .inl (c13, (200, .inl (fun _ => 0)))), (z14, .inl (c14, (200, .inr (.inl (fun _ => 0))))), (z15, .inl (c15, (200, .inl (fun _ => 0)))), (z16, .inl (c16, (200, .inl (fun _ => 0)))), (z17, .inl (c17, (200, .inl (fun _ => 0)))), (z18, .inl (c18, (200, .inl (fun _ => 0))))] := hD
  have hK : va_K D vwCl [(c1, .boolean), (c2, .int), (c3, .int), (c4, .long), (c5, .boolean), (c6, .short), (c9, .int), (c10, .int), (c11, .int), (c12, .int), (c13, .boolean), (c14, .long), (c15, .int), (c16, .int), (c17, .int), (c18, .int)] s := hK
  refine W.widen (k := 16) (n := 47000) (Nat.le_of_ble_eq_true rfl) (Nat.le_of_ble_eq_true rfl) ?_
  refine va_putF (D := D) (ci := 0) (v := .ref z18) (ty := .array .int) (C := RX0) (T := TX0) (N := 21) hx hb hts in_X0 tyX0 tyX0_ok nmX0 hown hK hP hD hS 0 rfl rfl 18 (by decide) (hts _ q49) (fun _ h9 => h9) rfl hin rfl (by decide +kernel) rfl rfl (Nat.le_of_ble_eq_true rfl) dX0_init_149 (fun H locs hP hD hS => ?_)
  have hP : va_P D vwCl [(h0, .inr (0, [.int (nI 1), .ref z1, .ref z2, .ref z3, .ref z4, .ref z5, .ref z6, .int 0, .int 0, .ref z9, .ref z10, .ref z11, .ref z12, .ref z13, .ref z14, .ref z15, .ref z16, .ref z17, .ref z18, .int 0, .null])), (z1, .inl (c1, (200, .inl (fun _ => 0)))), (z2, .inl (c2, (1000, .inl (fun _ => 0)))), (z3, .inl (c3, (1000, .inl (fun _ => 0)))), (z4, .inl (c4, (1000, .inr (.inl (fun _ => 0))))), (z5, .inl (c5, (1000, .inl (fun _ => 0)))), (z6, .inl (c6, (40000, .inl (fun _ => 0)))), (z9, .inl (c9, (1000, .inl (fun _ => 0)))), (z10, .inl (c10, (200, .inl (fun _ => 0)))), (z11, .inl (c11, (200, .inl (fun _ => 0)))), (z12, .inl (c12, (200, .inl (fun _ => 0)))), (z13, .inl (c13, (200, .inl (fun _ => 0)))), (z14, .inl (c14, (200, .inr (.inl (fun _ => 0))))), (z15, .inl (c15, (200, .inl (fun _ => 0)))), (z16, .inl (c16, (200, .inl (fun _ => 0)))), (z17, .inl (c17, (200, .inl (fun _ => 0)))), (z18, .inl (c18, (200, .inl (fun _ => 0))))] _ := hP
  have hD : va_D A [(h0, .inr (0, [.int (nI 1), .ref z1, .ref z2, .ref z3, .ref z4, .ref z5, .ref z6, .int 0, .int 0, .ref z9, .ref z10, .ref z11, .ref z12, .ref z13, .ref z14, .ref z15, .ref z16, .ref z17, .ref z18, .int 0, .null])), (z1, .inl (c1, (200, .inl (fun _ => 0)))), (z2, .inl (c2, (1000, .inl (fun _ => 0)))), (z3, .inl (c3, (1000, .inl (fun _ => 0)))), (z4, .inl (c4, (1000, .inr (.inl (fun _ => 0))))), (z5, .inl (c5, (1000, .inl (fun _ => 0)))), (z6, .inl (c6, (40000, .inl (fun _ => 0)))), (z9, .inl (c9, (1000, .inl (fun _ => 0)))), (z10, .inl (c10, (200, .inl (fun _ => 0)))), (z11, .inl (c11, (200, .inl (fun _ => 0)))), (z12, .inl (c12, (200, .inl (fun _ => 0)))), (z13, .inl (c13, (200, .inl (fun _ => 0)))), (z14, .inl (c14, (200, .inr (.inl (fun _ => 0))))), (z15, .inl (c15, (200, .inl (fun _ => 0)))), (z16, .inl (c16, (200, .inl (fun _ => 0)))), (z17, .inl (c17, (200, .inl (fun _ => 0)))), (z18, .inl (c18, (200, .inl (fun _ => 0))))] := hD
  refine lv_aload_n hx hb dX0_init_152 rfl (lv_at hl 0 rfl) ?_
  refine lv_iconst (v := nI 4) hx hb dX0_init_153 (by decide) ?_
  refine va_newa (atype := .long) (ty := .long) (N' := 4) (a0 := (4, .inr (.inl (fun _ => 0)))) hx hb (hts _ q97) rfl hK hP hD hS hA (fun _ => rfl) (nI_pos (by decide)) (nI_clamp (by decide)) (by decide) (Nat.le_of_ble_eq_true rfl) (Nat.le_of_ble_eq_true rfl) dX0_init_154 (fun z20 c20 H hK hP hD hS => ?_)
  have hP : va_P D vwCl [(h0, .inr (0, [.int (nI 1), .ref z1, .ref z2, .ref z3, .ref z4, .ref z5, .ref z6, .int 0, .int 0, .ref z9, .ref z10, .ref z11, .ref z12, .ref z13, .ref z14, .ref z15, .ref z16, .ref z17, .ref z18, .int 0, .null])), (z1, .inl (c1, (200, .inl (fun _ => 0)))), (z2, .inl (c2, (1000, .inl (fun _ => 0)))), (z3, .inl (c3, (1000, .inl (fun _ => 0)))), (z4, .inl (c4, (1000, .inr (.inl (fun _ => 0))))), (z5, .inl (c5, (1000, .inl (fun _ => 0)))), (z6, .inl (c6, (40000, .inl (fun _ => 0)))), (z9, .inl (c9, (1000, .inl (fun _ => 0)))), (z10, .inl (c10, (200, .inl (fun _ => 0)))), (z11, .inl (c11, (200, .inl (fun _ => 0)))), (z12, .inl (c12, (200, .inl (fun _ => 0)))), (z13, .inl (c13, (200, .inl (fun _ => 0)))), (z14, .inl (c14, (200, .inr (.inl (fun _ => 0))))), (z15, .inl (c15, (200, .inl (fun _ => 0)))), (z16, .inl (c16, (200, .inl (fun _ => 0)))), (z17, .inl (c17, (200, .inl (fun _ => 0)))), (z18, .inl (c18, (200, .inl (fun _ => 0)))), (z20, .inl (c20, (4, .inr (.inl (fun _ => 0)))))] _ := hP
  have hD : va_D A [(h0, .inr (0, [.int (nI 1), .ref z1, .ref z2, .ref z3, .ref z4, .ref z5, .ref z6, .int 0, .int 0, .ref z9, .ref z10, .ref z11, .ref z12, .ref z13, .ref z14, .ref z15, .ref z16, .ref z17, .ref z18, .int 0, .null])), (z1, .inl (c1, (200, .inl (fun _ => 0)))), (z2, .inl (c2, (1000, .inl (fun _ => 0)))), (z3, .inl (c3, (1000, .inl (fun _ => 0)))), (z4, .inl (c4, (1000, .inr (.inl (fun _ => 0))))), (z5, .inl (c5, (1000, .inl (fun _ => 0)))), (z6, .inl (c6, (40000, .inl (fun _ => 0)))), (z9, .inl (c9, (1000, .inl (fun _ => 0)))), (z10, .inl (c10, (200, .inl (fun _ => 0)))), (z11, .inl (c11, (200, .inl (fun _ => 0)))), (z12, .inl (c12, (200, .inl (fun _ => 0)))), (z13, .inl (c13, (200, .inl (fun _ => 0)))), (z14, .inl (c14, (200, .inr (.inl (fun _ => 0))))), (z15, .inl (c15, (200, .inl (fun _ => 0)))), (z16, .inl (c16, (200, .inl (fun _ => 0)))), (z17, .inl (c17, (200, .inl (fun _ => 0)))), (z18, .inl (c18, (200, .inl (fun _ => 0)))), (z20, .inl (c20, (4, .inr (.inl (fun _ => 0)))))] := hD
  have hK : va_K D vwCl [(c1, .boolean), (c2, .int), (c3, .int), (c4, .long), (c5, .boolean), (c6, .short), (c9, .int), (c10, .int), (c11, .int), (c12, .int), (c13, .boolean), (c14, .long), (c15, .int), (c16, .int), (c17, .int), (c18, .int), (c20, .long)] s := hK
  refine W.widen (k := 17) (n := 47004) (Nat.le_of_ble_eq_true rfl) (Nat.le_of_ble_eq_true rfl) ?_
  refine va_putF (D := D) (ci := 0) (v := .ref z20) (ty := .array .long) (C := RX0) (T := TX0) (N := 21) hx hb hts in_X0 tyX0 tyX0_ok nmX0 hown hK hP hD hS 0 rfl rfl 20 (by decide) (hts _ q51) (fun _ h9 => h9) rfl hin rfl (by decide +kernel) rfl rfl (Nat.le_of_ble_eq_true rfl) dX0_init_156 (fun H locs hP hD hS => ?_)
  have hP : va_P D vwCl [(h0, .inr (0, [.int (nI 1), .ref z1, .ref z2, .ref z3, .ref z4, .ref z5, .ref z6, .int 0, .int 0, .ref z9, .ref z10, .ref z11, .ref z12, .ref z13, .ref z14, .ref z15, .ref z16, .ref z17, .ref z18, .int 0, .ref z20])), (z1, .inl (c1, (200, .inl (fun _ => 0)))), (z2, .inl (c2, (1000, .inl (fun _ => 0)))), (z3, .inl (c3, (1000, .inl (fun _ => 0)))), (z4, .inl (c4, (1000, .inr (.inl (fun _ => 0))))), (z5, .inl (c5, (1000, .inl (fun _ => 0)))), (z6, .inl (c6, (40000, .inl (fun _ => 0)))), (z9, .inl (c9, (1000, .inl (fun _ => 0)))), (z10, .inl (c10, (200, .inl (fun _ => 0)))), (z11, .inl (c11, (200, .inl (fun _ => 0)))), (z12, .inl (c12, (200, .inl (fun _ => 0)))), (z13, .inl (c13, (200, .inl (fun _ => 0)))), (z14, .inl (c14, (200, .inr (.inl (fun _ => 0))))), (z15, .inl (c15, (200, .inl (fun _ => 0)))), (z16, .inl (c16, (200, .inl (fun _ => 0)))), (z17, .inl (c17, (200, .inl (fun _ => 0)))), (z18, .inl (c18, (200, .inl (fun _ => 0)))), (z20, .inl (c20, (4, .inr (.inl (fun _ => 0)))))] _ := hP
  have hD : va_D A [(h0, .inr (0, [.int (nI 1), .ref z1, .ref z2, .ref z3, .ref z4, .ref z5, .ref z6, .int 0, .int 0, .ref z9, .ref z10, .ref z11, .ref z12, .ref z13, .ref z14, .ref z15, .ref z16, .ref z17, .ref z18, .int 0, .ref z20])), (z1, .inl (c1, (200, .inl (fun _ => 0)))), (z2, .inl (c2, (1000, .inl (fun _ => 0)))), (z3, .inl (c3, (1000, .inl (fun _ => 0)))), (z4, .inl (c4, (1000, .inr (.inl (fun _ => 0))))), (z5, .inl (c5, (1000, .inl (fun _ => 0)))), (z6, .inl (c6, (40000, .inl (fun _ => 0)))), (z9, .inl (c9, (1000, .inl (fun _ => 0)))), (z10, .inl (c10, (200, .inl (fun _ => 0)))), (z11, .inl (c11, (200, .inl (fun _ => 0)))), (z12, .inl (c12, (200, .inl (fun _ => 0)))), (z13, .inl (c13, (200, .inl (fun _ => 0)))), (z14, .inl (c14, (200, .inr (.inl (fun _ => 0))))), (z15, .inl (c15, (200, .inl (fun _ => 0)))), (z16, .inl (c16, (200, .inl (fun _ => 0)))), (z17, .inl (c17, (200, .inl (fun _ => 0)))), (z18, .inl (c18, (200, .inl (fun _ => 0)))), (z20, .inl (c20, (4, .inr (.inl (fun _ => 0)))))] := hD
  have hP9 : va_P D vwCl (xw (fun k => ([h0, z1, z2, z3, z4, z5, z6, 0, 0, z9, z10, z11, z12, z13, z14, z15, z16, z17, z18, 0, z20] : List Nat).getD k 0) (fun k => ([c1, c1, c2, c3, c4, c5, c6, c1, c1, c9, c10, c11, c12, c13, c14, c15, c16, c17, c18, c1, c20] : List ClassId).getD k c1) ((fun k => if k = 0 then nI 1 else 0, fun _ _ => 0, fun _ _ => 0) : St)) _ := hP
  have hD9 : va_D A (xw (fun k => ([h0, z1, z2, z3, z4, z5, z6, 0, 0, z9, z10, z11, z12, z13, z14, z15, z16, z17, z18, 0, z20] : List Nat).getD k 0) (fun k => ([c1, c1, c2, c3, c4, c5, c6, c1, c1, c9, c10, c11, c12, c13, c14, c15, c16, c17, c18, c1, c20] : List ClassId).getD k c1) ((fun k => if k = 0 then nI 1 else 0, fun _ _ => 0, fun _ _ => 0) : St)) := hD
  have hK9 : va_K D vwCl (xt (fun k => ([c1, c1, c2, c3, c4, c5, c6, c1, c1, c9, c10, c11, c12, c13, c14, c15, c16, c17, c18, c1, c20] : List ClassId).getD k c1)) s := hK
  subst hAe
  exact W.vret hx hb hr (fun t ht hW => ⟨⟨((fun k => ([h0, z1, z2, z3, z4, z5, z6, 0, 0, z9, z10, z11, z12, z13, z14, z15, z16, z17, z18, 0, z20] : List Nat).getD k 0), (fun k => ([c1, c1, c2, c3, c4, c5, c6, c1, c1, c9, c10, c11, c12, c13, c14, c15, c16, c17, c18, c1, c20] : List ClassId).getD k c1), ((fun k => if k = 0 then nI 1 else 0, fun _ _ => 0, fun _ _ => 0) : St)), rfl, ⟨rfl, ⟨XR.mt (by decide) (by decide) rfl rfl (fun i hi => rfl) (fun i hi => rfl), false, rfl, (fun z => by cases z)⟩⟩, by rw [ht]; exact hP9, va_K.moved hW.alike hK9, hD9⟩, hS.F ht⟩) hS.2.2 dX0_init_159
def mw0 (h0 : Nat) : va_W := [(h0, .inr (1, [.int 0, .null, .int 0, .null, .null, .null, .null, .int 0, .null, .null, .null, .null, .null, .int 0, .int 0, .null, .null, .null]))]
/-- what a constructor leaves: addresses, array classes, state -/
def MB (D : va_G) (h0 sz : Nat) (u : (Nat → Nat) × (Nat → ClassId) × St) (t : State) : Prop := va_P D vwCl (mw u.1 u.2.1 u.2.2) t.heap ∧ va_K D vwCl (mt u.2.1) t ∧ va_D (va_A (mw0 h0) sz) (mw u.1 u.2.1 u.2.2)
def MC (h0 : Nat) (u : (Nat → Nat) × (Nat → ClassId) × St) : Prop := u.1 0 = h0 ∧ MI u.2.2 (Vw.mt 1)
set_option maxHeartbeats 8000000 in
theorem M_init (l : Launch) (D : va_G) (h0 sz : Nat) : Met l yX1_init (ws_ yX1_init cX1_init 1 none) ({ frames := 1, cells := 13, slots := 46400, locals := 12 }) (va_Pc [.ref h0] (fun U => U.heap.size = sz ∧ va_P D vwCl (mw0 h0) U.heap ∧ va_K D vwCl [] U ∧ va_D (fun _ => True) (mw0 h0))) (va_Qv (MC h0) (MB D h0 sz) (va_A (mw0 h0) sz)) 13 46400 (va_A (mw0 h0) sz) := by
  refine Met.ofW (cc := cX1_init) (maxL := 1) (ret := none) (by decide) rfl ?_
  intro p e s m args below meth c s₁ B hml hv
  obtain ⟨rfl, hsz, hP, hK, hD0⟩ := hv
  have hx := B.exec
  have hb := B.bytes
  have hr := B.returns
  have hts := atoms_spec (ws := ws_ yX1_init cX1_init 1 none) B.pre
  have hts : ∀ w ∈ lw_all, w.before _ s = true := fun w h => hts w (List.mem_cons_of_mem _ h)
  have hown : s.vm.findClass RX1 = some m.cls := findClass_of_methodNamed B.named
  have hin : meth.name = "<init>" := (name_of_methodNamed B.named B.method).1
  subst hsz
  have hD := hD0.self (sz := s.heap.size)
  generalize hAe : va_A (mw0 h0) s.heap.size = A at hD ⊢
  have hA : ∀ q : Nat, s.heap.size ≤ q → A q := fun q h => by rw [← hAe]; exact Or.inr h
  have hS : va_S A s.heap s.heap [] := va_S.rf
  have hl := lv_entry ([.ref h0]) (n := 1) (Nat.le_of_ble_eq_true rfl)
  rw [lg_entry_eq]
  generalize (lg_sl ([.ref h0]) ++ List.replicate (1 - (lg_sl ([.ref h0])).length) Slot.unset).toArray = ls at hl ⊢
  have hl : lv_has ls 1 [(0, .ref h0)] := hl
  have hP : va_P D vwCl [(h0, .inr (1, [.int 0, .null, .int 0, .null, .null, .null, .null, .int 0, .null, .null, .null, .null, .null, .int 0, .int 0, .null, .null, .null]))] _ := hP
  have hD : va_D A [(h0, .inr (1, [.int 0, .null, .int 0, .null, .null, .null, .null, .int 0, .null, .null, .null, .null, .null, .int 0, .int 0, .null, .null, .null]))] := hD
  refine lv_aload_n hx hb dX1_init_0 rfl (lv_at hl 0 rfl) ?_
  refine W.objInit hx hb hown (hts _ q184) (hts _ q28) (hts _ q29) rfl (by rw [hml]; exact hl.1) rfl dX1_init_1 (Nat.le_of_ble_eq_true rfl) (Nat.le_of_ble_eq_true rfl) ?_
  refine W.eq (g2 := F0 m 4 ls []) rfl ?_
  refine lv_aload_n hx hb dX1_init_4 rfl (lv_at hl 0 rfl) ?_
  refine lv_iconst (v := nI 1) hx hb dX1_init_5 (by decide) ?_
  refine va_put (D := D) (ci := 1) (v := .int (nI 1)) (ty := .int) (C := RX1) (T := TX1) (N := 18) hx hb hts in_X1 tyX1 tyX1_ok nmX1 hown hK hP hD hS 0 rfl rfl 0 (by decide) (hts _ q186) (fun _ h9 => h9) rfl (by decide +kernel) rfl rfl (Nat.le_of_ble_eq_true rfl) dX1_init_6 (fun H locs hP hD hS => ?_)
  have hP : va_P D vwCl [(h0, .inr (1, [.int (nI 1), .null, .int 0, .null, .null, .null, .null, .int 0, .null, .null, .null, .null, .null, .int 0, .int 0, .null, .null, .null]))] _ := hP
  have hD : va_D A [(h0, .inr (1, [.int (nI 1), .null, .int 0, .null, .null, .null, .null, .int 0, .null, .null, .null, .null, .null, .int 0, .int 0, .null, .null, .null]))] := hD
  refine lv_aload_n hx hb dX1_init_9 rfl (lv_at hl 0 rfl) ?_
  refine lv_sipush (v := nI 200) hx hb dX1_init_10 (by decide) ?_
  refine va_newa (atype := .boolean) (ty := .boolean) (N' := 200) (a0 := (200, .inl (fun _ => 0))) hx hb (hts _ q95) rfl hK hP hD hS hA (fun _ => rfl) (nI_pos (by decide)) (nI_clamp (by decide)) (by decide) (Nat.le_of_ble_eq_true rfl) (Nat.le_of_ble_eq_true rfl) dX1_init_13 (fun z1 c1 H hK hP hD hS => ?_)
  have hP : va_P D vwCl [(h0, .inr (1, [.int (nI 1), .null, .int 0, .null, .null, .null, .null, .int 0, .null, .null, .null, .null, .null, .int 0, .int 0, .null, .null, .null])), (z1, .inl (c1, (200, .inl (fun _ => 0))))] _ := hP
  have hD : va_D A [(h0, .inr (1, [.int (nI 1), .null, .int 0, .null, .null, .null, .null, .int 0, .null, .null, .null, .null, .null, .int 0, .int 0, .null, .null, .null])), (z1, .inl (c1, (200, .inl (fun _ => 0))))] := hD
  have hK : va_K D vwCl [(c1, .boolean)] s := hK
  refine W.widen (k := 1) (n := 200) (Nat.le_of_ble_eq_true rfl) (Nat.le_of_ble_eq_true rfl) ?_
  refine va_putF (D := D) (ci := 1) (v := .ref z1) (ty := .array .boolean) (C := RX1) (T := TX1) (N := 18) hx hb hts in_X1 tyX1 tyX1_ok nmX1 hown hK hP hD hS 0 rfl rfl 1 (by decide) (hts _ q187) (fun _ h9 => h9) rfl hin rfl (by decide +kernel) rfl rfl (Nat.le_of_ble_eq_true rfl) dX1_init_15 (fun H locs hP hD hS => ?_)
  have hP : va_P D vwCl [(h0, .inr (1, [.int (nI 1), .ref z1, .int 0, .null, .null, .null, .null, .int 0, .null, .null, .null, .null, .null, .int 0, .int 0, .null, .null, .null])), (z1, .inl (c1, (200, .inl (fun _ => 0))))] _ := hP
  have hD : va_D A [(h0, .inr (1, [.int (nI 1), .ref z1, .int 0, .null, .null, .null, .null, .int 0, .null, .null, .null, .null, .null, .int 0, .int 0, .null, .null, .null])), (z1, .inl (c1, (200, .inl (fun _ => 0))))] := hD
  refine lv_aload_n hx hb dX1_init_18 rfl (lv_at hl 0 rfl) ?_
  refine lv_sipush (v := nI 1000) hx hb dX1_init_19 (by decide) ?_
  refine va_newa (atype := .int) (ty := .int) (N' := 1000) (a0 := (1000, .inl (fun _ => 0))) hx hb (hts _ q96) rfl hK hP hD hS hA (fun _ => rfl) (nI_pos (by decide)) (nI_clamp (by decide)) (by decide) (Nat.le_of_ble_eq_true rfl) (Nat.le_of_ble_eq_true rfl) dX1_init_22 (fun z3 c3 H hK hP hD hS => ?_)
  have hP : va_P D vwCl [(h0, .inr (1, [.int (nI 1), .ref z1, .int 0, .null, .null, .null, .null, .int 0, .null, .null, .null, .null, .null, .int 0, .int 0, .null, .null, .null])), (z1, .inl (c1, (200, .inl (fun _ => 0)))), (z3, .inl (c3, (1000, .inl (fun _ => 0))))] _ := hP
  have hD : va_D A [(h0, .inr (1, [.int (nI 1), .ref z1, .int 0, .null, .null, .null, .null, .int 0, .null, .null, .null, .null, .null, .int 0, .int 0, .null, .null, .null])), (z1, .inl (c1, (200, .inl (fun _ => 0)))), (z3, .inl (c3, (1000, .inl (fun _ => 0))))] := hD
  have hK : va_K D vwCl [(c1, .boolean), (c3, .int)] s := hK
  refine W.widen (k := 2) (n := 1200) (Nat.le_of_ble_eq_true rfl) (Nat.le_of_ble_eq_true rfl) ?_
  refine va_putF (D := D) (ci := 1) (v := .ref z3) (ty := .array .int) (C := RX1) (T := TX1) (N := 18) hx hb hts in_X1 tyX1 tyX1_ok nmX1 hown hK hP hD hS 0 rfl rfl 3 (by decide) (hts _ q189) (fun _ h9 => h9) rfl hin rfl (by decide +kernel) rfl rfl (Nat.le_of_ble_eq_true rfl) dX1_init_24 (fun H locs hP hD hS => ?_)
  have hP : va_P D vwCl [(h0, .inr (1, [.int (nI 1), .ref z1, .int 0, .ref z3, .null, .null, .null, .int 0, .null, .null, .null, .null, .null, .int 0, .int 0, .null, .null, .null])), (z1, .inl (c1, (200, .inl (fun _ => 0)))), (z3, .inl (c3, (1000, .inl (fun _ => 0))))] _ := hP
  have hD : va_D A [(h0, .inr (1, [.int (nI 1), .ref z1, .int 0, .ref z3, .null, .null, .null, .int 0, .null, .null, .null, .null, .null, .int 0, .int 0, .null, .null, .null])), (z1, .inl (c1, (200, .inl (fun _ => 0)))), (z3, .inl (c3, (1000, .inl (fun _ => 0))))] := hD
  refine lv_aload_n hx hb dX1_init_27 rfl (lv_at hl 0 rfl) ?_
  refine lv_sipush (v := nI 1000) hx hb dX1_init_28 (by decide) ?_
  refine va_newa (atype := .int) (ty := .int) (N' := 1000) (a0 := (1000, .inl (fun _ => 0))) hx hb (hts _ q96) rfl hK hP hD hS hA (fun _ => rfl) (nI_pos (by decide)) (nI_clamp (by decide)) (by decide) (Nat.le_of_ble_eq_true rfl) (Nat.le_of_ble_eq_true rfl) dX1_init_31 (fun z4 c4 H hK hP hD hS => ?_)
  have hP : va_P D vwCl [(h0, .inr (1, [.int (nI 1), .ref z1, .int 0, .ref z3, .null, .null, .null, .int 0, .null, .null, .null, .null, .null, .int 0, .int 0, .null, .null, .null])), (z1, .inl (c1, (200, .inl (fun _ => 0)))), (z3, .inl (c3, (1000, .inl (fun _ => 0)))), (z4, .inl (c4, (1000, .inl (fun _ => 0))))] _ := hP
  have hD : va_D A [(h0, .inr (1, [.int (nI 1), .ref z1, .int 0, .ref z3, .null, .null, .null, .int 0, .null, .null, .null, .null, .null, .int 0, .int 0, .null, .null, .null])), (z1, .inl (c1, (200, .inl (fun _ => 0)))), (z3, .inl (c3, (1000, .inl (fun _ => 0)))), (z4, .inl (c4, (1000, .inl (fun _ => 0))))] := hD
  have hK : va_K D vwCl [(c1, .boolean), (c3, .int), (c4, .int)] s := hK
  refine W.widen (k := 3) (n := 2200) (Nat.le_of_ble_eq_true rfl) (Nat.le_of_ble_eq_true rfl) ?_
  refine va_putF (D := D) (ci := 1) (v := .ref z4) (ty := .array .int) (C := RX1) (T := TX1) (N := 18) hx hb hts in_X1 tyX1 tyX1_ok nmX1 hown hK hP hD hS 0 rfl rfl 4 (by decide) (hts _ q190) (fun _ h9 => h9) rfl hin rfl (by decide +kernel) rfl rfl (Nat.le_of_ble_eq_true rfl) dX1_init_33 (fun H locs hP hD hS => ?_)
  have hP : va_P D vwCl [(h0, .inr (1, [.int (nI 1), .ref z1, .int 0, .ref z3, .ref z4, .null, .null, .int 0, .null, .null, .null, .null, .null, .int 0, .int 0, .null, .null, .null])), (z1, .inl (c1, (200, .inl (fun _ => 0)))), (z3, .inl (c3, (1000, .inl (fun _ => 0)))), (z4, .inl (c4, (1000, .inl (fun _ => 0))))] _ := hP
  have hD : va_D A [(h0, .inr (1, [.int (nI 1), .ref z1, .int 0, .ref z3, .ref z4, .null, .null, .int 0, .null, .null, .null, .null, .null, .int 0, .int 0, .null, .null, .null])), (z1, .inl (c1, (200, .inl (fun _ => 0)))), (z3, .inl (c3, (1000, .inl (fun _ => 0)))), (z4, .inl (c4, (1000, .inl (fun _ => 0))))] := hD
  refine lv_aload_n hx hb dX1_init_36 rfl (lv_at hl 0 rfl) ?_
  refine lv_sipush (v := nI 1000) hx hb dX1_init_37 (by decide) ?_
  refine va_newa (atype := .long) (ty := .long) (N' := 1000) (a0 := (1000, .inr (.inl (fun _ => 0)))) hx hb (hts _ q97) rfl hK hP hD hS hA (fun _ => rfl) (nI_pos (by decide)) (nI_clamp (by decide)) (by decide) (Nat.le_of_ble_eq_true rfl) (Nat.le_of_ble_eq_true rfl) dX1_init_40 (fun z5 c5 H hK hP hD hS => ?_)
  have hP : va_P D vwCl [(h0, .inr (1, [.int (nI 1), .ref z1, .int 0, .ref z3, .ref z4, .null, .null, .int 0, .null, .null, .null, .null, .null, .int 0, .int 0, .null, .null, .null])), (z1, .inl (c1, (200, .inl (fun _ => 0)))), (z3, .inl (c3, (1000, .inl (fun _ => 0)))), (z4, .inl (c4, (1000, .inl (fun _ => 0)))), (z5, .inl (c5, (1000, .inr (.inl (fun _ => 0)))))] _ := hP
  have hD : va_D A [(h0, .inr (1, [.int (nI 1), .ref z1, .int 0, .ref z3, .ref z4, .null, .null, .int 0, .null, .null, .null, .null, .null, .int 0, .int 0, .null, .null, .null])), (z1, .inl (c1, (200, .inl (fun _ => 0)))), (z3, .inl (c3, (1000, .inl (fun _ => 0)))), (z4, .inl (c4, (1000, .inl (fun _ => 0)))), (z5, .inl (c5, (1000, .inr (.inl (fun _ => 0)))))] := hD
  have hK : va_K D vwCl [(c1, .boolean), (c3, .int), (c4, .int), (c5, .long)] s := hK
  refine W.widen (k := 4) (n := 3200) (Nat.le_of_ble_eq_true rfl) (Nat.le_of_ble_eq_true rfl) ?_
  refine va_putF (D := D) (ci := 1) (v := .ref z5) (ty := .array .long) (C := RX1) (T := TX1) (N := 18) hx hb hts in_X1 tyX1 tyX1_ok nmX1 hown hK hP hD hS 0 rfl rfl 5 (by decide) (hts _ q191) (fun _ h9 => h9) rfl hin rfl (by decide +kernel) rfl rfl (Nat.le_of_ble_eq_true rfl) dX1_init_42 (fun H locs hP hD hS => ?_)
  have hP : va_P D vwCl [(h0, .inr (1, [.int (nI 1), .ref z1, .int 0, .ref z3, .ref z4, .ref z5, .null, .int 0, .null, .null, .null, .null, .null, .int 0, .int 0, .null, .null, .null])), (z1, .inl (c1, (200, .inl (fun _ => 0)))), (z3, .inl (c3, (1000, .inl (fun _ => 0)))), (z4, .inl (c4, (1000, .inl (fun _ => 0)))), (z5, .inl (c5, (1000, .inr (.inl (fun _ => 0)))))] _ := hP
  have hD : va_D A [(h0, .inr (1, [.int (nI 1), .ref z1, .int 0, .ref z3, .ref z4, .ref z5, .null, .int 0, .null, .null, .null, .null, .null, .int 0, .int 0, .null, .null, .null])), (z1, .inl (c1, (200, .inl (fun _ => 0)))), (z3, .inl (c3, (1000, .inl (fun _ => 0)))), (z4, .inl (c4, (1000, .inl (fun _ => 0)))), (z5, .inl (c5, (1000, .inr (.inl (fun _ => 0)))))] := hD
  refine lv_aload_n hx hb dX1_init_45 rfl (lv_at hl 0 rfl) ?_
  refine lv_sipush (v := nI 1000) hx hb dX1_init_46 (by decide) ?_
  refine va_newa (atype := .boolean) (ty := .boolean) (N' := 1000) (a0 := (1000, .inl (fun _ => 0))) hx hb (hts _ q95) rfl hK hP hD hS hA (fun _ => rfl) (nI_pos (by decide)) (nI_clamp (by decide)) (by decide) (Nat.le_of_ble_eq_true rfl) (Nat.le_of_ble_eq_true rfl) dX1_init_49 (fun z6 c6 H hK hP hD hS => ?_)
  have hP : va_P D vwCl [(h0, .inr (1, [.int (nI 1), .ref z1, .int 0, .ref z3, .ref z4, .ref z5, .null, .int 0, .null, .null, .null, .null, .null, .int 0, .int 0, .null, .null, .null])), (z1, .inl (c1, (200, .inl (fun _ => 0)))), (z3, .inl (c3, (1000, .inl (fun _ => 0)))), (z4, .inl (c4, (1000, .inl (fun _ => 0)))), (z5, .inl (c5, (1000, .inr (.inl (fun _ => 0))))), (z6, .inl (c6, (1000, .inl (fun _ => 0))))] _ := hP
  have hD : va_D A [(h0, .inr (1, [.int (nI 1), .ref z1, .int 0, .ref z3, .ref z4, .ref z5, .null, .int 0, .null, .null, .null, .null, .null, .int 0, .int 0, .null, .null, .null])), (z1, .inl (c1, (200, .inl (fun _ => 0)))), (z3, .inl (c3, (1000, .inl (fun _ => 0)))), (z4, .inl (c4, (1000, .inl (fun _ => 0)))), (z5, .inl (c5, (1000, .inr (.inl (fun _ => 0))))), (z6, .inl (c6, (1000, .inl (fun _ => 0))))] := hD
  have hK : va_K D vwCl [(c1, .boolean), (c3, .int), (c4, .int), (c5, .long), (c6, .boolean)] s := hK
  refine W.widen (k := 5) (n := 4200) (Nat.le_of_ble_eq_true rfl) (Nat.le_of_ble_eq_true rfl) ?_
  refine va_putF (D := D) (ci := 1) (v := .ref z6) (ty := .array .boolean) (C := RX1) (T := TX1) (N := 18) hx hb hts in_X1 tyX1 tyX1_ok nmX1 hown hK hP hD hS 0 rfl rfl 6 (by decide) (hts _ q192) (fun _ h9 => h9) rfl hin rfl (by decide +kernel) rfl rfl (Nat.le_of_ble_eq_true rfl) dX1_init_51 (fun H locs hP hD hS => ?_)
  have hP : va_P D vwCl [(h0, .inr (1, [.int (nI 1), .ref z1, .int 0, .ref z3, .ref z4, .ref z5, .ref z6, .int 0, .null, .null, .null, .null, .null, .int 0, .int 0, .null, .null, .null])), (z1, .inl (c1, (200, .inl (fun _ => 0)))), (z3, .inl (c3, (1000, .inl (fun _ => 0)))), (z4, .inl (c4, (1000, .inl (fun _ => 0)))), (z5, .inl (c5, (1000, .inr (.inl (fun _ => 0))))), (z6, .inl (c6, (1000, .inl (fun _ => 0))))] _ := hP
  have hD : va_D A [(h0, .inr (1, [.int (nI 1), .ref z1, .int 0, .ref z3, .ref z4, .ref z5, .ref z6, .int 0, .null, .null, .null, .null, .null, .int 0, .int 0, .null, .null, .null])), (z1, .inl (c1, (200, .inl (fun _ => 0)))), (z3, .inl (c3, (1000, .inl (fun _ => 0)))), (z4, .inl (c4, (1000, .inl (fun _ => 0)))), (z5, .inl (c5, (1000, .inr (.inl (fun _ => 0))))), (z6, .inl (c6, (1000, .inl (fun _ => 0))))] := hD
  refine lv_aload_n hx hb dX1_init_54 rfl (lv_at hl 0 rfl) ?_
  refine lv_ldc (v := nI 40000) hx hb hown (hts _ q185) dX1_init_55 ?_
  refine va_newa (atype := .int) (ty := .int) (N' := 40000) (a0 := (40000, .inl (fun _ => 0))) hx hb (hts _ q96) rfl hK hP hD hS hA (fun _ => rfl) (nI_pos (by decide)) (nI_clamp (by decide)) (by decide) (Nat.le_of_ble_eq_true rfl) (Nat.le_of_ble_eq_true rfl) dX1_init_57 (fun z8 c8 H hK hP hD hS => ?_)
  have hP : va_P D vwCl [(h0, .inr (1, [.int (nI 1), .ref z1, .int 0, .ref z3, .ref z4, .ref z5, .ref z6, .int 0, .null, .null, .null, .null, .null, .int 0, .int 0, .null, .null, .null])), (z1, .inl (c1, (200, .inl (fun _ => 0)))), (z3, .inl (c3, (1000, .inl (fun _ => 0)))), (z4, .inl (c4, (1000, .inl (fun _ => 0)))), (z5, .inl (c5, (1000, .inr (.inl (fun _ => 0))))), (z6, .inl (c6, (1000, .inl (fun _ => 0)))), (z8, .inl (c8, (40000, .inl (fun _ => 0))))] _ := hP
  have hD : va_D A [(h0, .inr (1, [.int (nI 1), .ref z1, .int 0, .ref z3, .ref z4, .ref z5, .ref z6, .int 0, .null, .null, .null, .null, .null, .int 0, .int 0, .null, .null, .null])), (z1, .inl (c1, (200, .inl (fun _ => 0)))), (z3, .inl (c3, (1000, .inl (fun _ => 0)))), (z4, .inl (c4, (1000, .inl (fun _ => 0)))), (z5, .inl (c5, (1000, .inr (.inl (fun _ => 0))))), (z6, .inl (c6, (1000, .inl (fun _ => 0)))), (z8, .inl (c8, (40000, .inl (fun _ => 0))))] := hD
  have hK : va_K D vwCl [(c1, .boolean), (c3, .int), (c4, .int), (c5, .long), (c6, .boolean), (c8, .int)] s := hK
  refine W.widen (k := 6) (n := 44200) (Nat.le_of_ble_eq_true rfl) (Nat.le_of_ble_eq_true rfl) ?_
  refine va_putF (D := D) (ci := 1) (v := .ref z8) (ty := .array .int) (C := RX1) (T := TX1) (N := 18) hx hb hts in_X1 tyX1 tyX1_ok nmX1 hown hK hP hD hS 0 rfl rfl 8 (by decide) (hts _ q194) (fun _ h9 => h9) rfl hin rfl (by decide +kernel) rfl rfl (Nat.le_of_ble_eq_true rfl) dX1_init_59 (fun H locs hP hD hS => ?_)
  have hP : va_P D vwCl [(h0, .inr (1, [.int (nI 1), .ref z1, .int 0, .ref z3, .ref z4, .ref z5, .ref z6, .int 0, .ref z8, .null, .null, .null, .null, .int 0, .int 0, .null, .null, .null])), (z1, .inl (c1, (200, .inl (fun _ => 0)))), (z3, .inl (c3, (1000, .inl (fun _ => 0)))), (z4, .inl (c4, (1000, .inl (fun _ => 0)))), (z5, .inl (c5, (1000, .inr (.inl (fun _ => 0))))), (z6, .inl (c6, (1000, .inl (fun _ => 0)))), (z8, .inl (c8, (40000, .inl (fun _ => 0))))] _ := hP
  have hD : va_D A [(h0, .inr (1, [.int (nI 1), .ref z1, .int 0, .ref z3, .ref z4, .ref z5, .ref z6, .int 0, .ref z8, .null, .null, .null, .null, .int 0, .int 0, .null, .null, .null])), (z1, .inl (c1, (200, .inl (fun _ => 0)))), (z3, .inl (c3, (1000, .inl (fun _ => 0)))), (z4, .inl (c4, (1000, .inl (fun _ => 0)))), (z5, .inl (c5, (1000, .inr (.inl (fun _ => 0))))), (z6, .inl (c6, (1000, .inl (fun _ => 0)))), (z8, .inl (c8, (40000, .inl (fun _ => 0))))] := hD
  refine lv_aload_n hx hb dX1_init_62 rfl (lv_at hl 0 rfl) ?_
  refine lv_sipush (v := nI 200) hx hb dX1_init_63 (by decide) ?_
  refine va_newa (atype := .int) (ty := .int) (N' := 200) (a0 := (200, .inl (fun _ => 0))) hx hb (hts _ q96) rfl hK hP hD hS hA (fun _ => rfl) (nI_pos (by decide)) (nI_clamp (by decide)) (by decide) (Nat.le_of_ble_eq_true rfl) (Nat.le_of_ble_eq_true rfl) dX1_init_66 (fun z9 c9 H hK hP hD hS => ?_)
  have hP : va_P D vwCl [(h0, .inr (1, [.int (nI 1), .ref z1, .int 0, .ref z3, .ref z4, .ref z5, .ref z6, .int 0, .ref z8, .null, .null, .null, .null, .int 0, .int 0, .null, .null, .null])), (z1, .inl (c1, (200, .inl (fun _ => 0)))), (z3, .inl (c3, (1000, .inl (fun _ => 0)))), (z4, .inl (c4, (1000, .inl (fun _ => 0)))), (z5, .inl (c5, (1000, .inr (.inl (fun _ => 0))))), (z6, .inl (c6, (1000, .inl (fun _ => 0)))), (z8, .inl (c8, (40000, .inl (fun _ => 0)))), (z9, .inl (c9, (200, .inl (fun _ => 0))))] _ := hP
  have hD : va_D A [(h0, .inr (1, [.int (nI 1), .ref z1, .int 0, .ref z3, .ref z4, .ref z5, .ref z6, .int 0, .ref z8, .null, .null, .null, .null, .int 0, .int 0, .null, .null, .null])), (z1, .inl (c1, (200, .inl (fun _ => 0)))), (z3, .inl (c3, (1000, .inl (fun _ => 0)))), (z4, .inl (c4, (1000, .inl (fun _ => 0)))), (z5, .inl (c5, (1000, .inr (.inl (fun _ => 0))))), (z6, .inl (c6, (1000, .inl (fun _ => 0)))), (z8, .inl (c8, (40000, .inl (fun _ => 0)))), (z9, .inl (c9, (200, .inl (fun _ => 0))))] := hD
  have hK : va_K D vwCl [(c1, .boolean), (c3, .int), (c4, .int), (c5, .long), (c6, .boolean), (c8, .int), (c9, .int)] s := hK
  refine W.widen (k := 7) (n := 44400) (Nat.le_of_ble_eq_true rfl) (Nat.le_of_ble_eq_true rfl) ?_
  refine va_putF (D := D) (ci := 1) (v := .ref z9) (ty := .array .int) (C := RX1) (T := TX1) (N := 18) hx hb hts in_X1 tyX1 tyX1_ok nmX1 hown hK hP hD hS 0 rfl rfl 9 (by decide) (hts _ q195) (fun _ h9 => h9) rfl hin rfl (by decide +kernel) rfl rfl (Nat.le_of_ble_eq_true rfl) dX1_init_68 (fun H locs hP hD hS => ?_)
  have hP : va_P D vwCl [(h0, .inr (1, [.int (nI 1), .ref z1, .int 0, .ref z3, .ref z4, .ref z5, .ref z6, .int 0, .ref z8, .ref z9, .null, .null, .null, .int 0, .int 0, .null, .null, .null])), (z1, .inl (c1, (200, .inl (fun _ => 0)))), (z3, .inl (c3, (1000, .inl (fun _ => 0)))), (z4, .inl (c4, (1000, .inl (fun _ => 0)))), (z5, .inl (c5, (1000, .inr (.inl (fun _ => 0))))), (z6, .inl (c6, (1000, .inl (fun _ => 0)))), (z8, .inl (c8, (40000, .inl (fun _ => 0)))), (z9, .inl (c9, (200, .inl (fun _ => 0))))] _ := hP
  have hD : va_D A [(h0, .inr (1, [.int (nI 1), .ref z1, .int 0, .ref z3, .ref z4, .ref z5, .ref z6, .int 0, .ref z8, .ref z9, .null, .null, .null, .int 0, .int 0, .null, .null, .null])), (z1, .inl (c1, (200, .inl (fun _ => 0)))), (z3, .inl (c3, (1000, .inl (fun _ => 0)))), (z4, .inl (c4, (1000, .inl (fun _ => 0)))), (z5, .inl (c5, (1000, .inr (.inl (fun _ => 0))))), (z6, .inl (c6, (1000, .inl (fun _ => 0)))), (z8, .inl (c8, (40000, .inl (fun _ => 0)))), (z9, .inl (c9, (200, .inl (fun _ => 0))))] := hD
  refine lv_aload_n hx hb dX1_init_71 rfl (lv_at hl 0 rfl) ?_
  refine lv_sipush (v := nI 200) hx hb dX1_init_72 (by decide) ?_
  refine va_newa (atype := .int) (ty := .int) (N' := 200) (a0 := (200, .inl (fun _ => 0))) hx hb (hts _ q96) rfl hK hP hD hS hA (fun _ => rfl) (nI_pos (by decide)) (nI_clamp (by decide)) (by decide) (Nat.le_of_ble_eq_true rfl) (Nat.le_of_ble_eq_true rfl) dX1_init_75 (fun z10 c10 H hK hP hD hS => ?_)
  have hP : va_P D vwCl [(h0, .inr (1, [.int (nI 1), .ref z1, .int 0, .ref z3, .ref z4, .ref z5, .ref z6, .int 0, .ref z8, .ref z9, .null, .null, .null, .int 0, .int 0, .null, .null, .null])), (z1, .inl (c1, (200, .inl (fun _ => 0)))), (z3, .inl (c3, (1000, .inl (fun _ => 0)))), (z4, .inl (c4, (1000, .inl (fun _ => 0)))), (z5, .inl (c5, (1000, .inr (.inl (fun _ => 0))))), (z6, .inl (c6, (1000, .inl (fun _ => 0)))), (z8, .inl (c8, (40000, .inl (fun _ => 0)))), (z9, .inl (c9, (200, .inl (fun _ => 0)))), (z10, .inl (c10, (200, .inl (fun _ => 0))))] _ := hP
  have hD : va_D A [(h0, .inr (1, [.int (nI 1), .ref z1, .int 0, .ref z3, .ref z4, .ref z5, .ref z6, .int 0, .ref z8, .ref z9, .null, .null, .null, .int 0, .int 0, .null, .null, .null])), (z1, .inl (c1, (200, .inl (fun _ => 0)))), (z3, .inl (c3, (1000, .inl (fun _ => 0)))), (z4, .inl (c4, (1000, .inl (fun _ => 0)))), (z5, .inl (c5, (1000, .inr (.inl (fun _ => 0))))), (z6, .inl (c6, (1000, .inl (fun _ => 0)))), (z8, .inl (c8, (40000, .inl (fun _ => 0)))), (z9, .inl (c9, (200, .inl (fun _ => 0)))), (z10, .inl (c10, (200, .inl (fun _ => 0))))] := hD
  have hK : va_K D vwCl [(c1, .boolean), (c3, .int), (c4, .int), (c5, .long), (c6, .boolean), (c8, .int), (c9, .int), (c10, .int)] s := hK
  refine W.widen (k := 8) (n := 44600) (Nat.le_of_ble_eq_true rfl) (Nat.le_of_ble_eq_true rfl) ?_
  refine va_putF (D := D) (ci := 1) (v := .ref z10) (ty := .array .int) (C := RX1) (T := TX1) (N := 18) hx hb hts in_X1 tyX1 tyX1_ok nmX1 hown hK hP hD hS 0 rfl rfl 10 (by decide) (hts _ q196) (fun _ h9 => h9) rfl hin rfl (by decide +kernel) rfl rfl (Nat.le_of_ble_eq_true rfl) dX1_init_77 (fun H locs hP hD hS => ?_)
  have hP : va_P D vwCl [(h0, .inr (1, [.int (nI 1), .ref z1, .int 0, .ref z3, .ref z4, .ref z5, .ref z6, .int 0, .ref z8, .ref z9, .ref z10, .null, .null, .int 0, .int 0, .null, .null, .null])), (z1, .inl (c1, (200, .inl (fun _ => 0)))), (z3, .inl (c3, (1000, .inl (fun _ => 0)))), (z4, .inl (c4, (1000, .inl (fun _ => 0)))), (z5, .inl (c5, (1000, .inr (.inl (fun _ => 0))))), (z6, .inl (c6, (1000, .inl (fun _ => 0)))), (z8, .inl (c8, (40000, .inl (fun _ => 0)))), (z9, .inl (c9, (200, .inl (fun _ => 0)))), (z10, .inl (c10, (200, .inl (fun _ => 0))))] _ := hP
  have hD : va_D A [(h0, .inr (1, [.int (nI 1), .ref z1, .int 0, .ref z3, .ref z4, .ref z5, .ref z6, .int 0, .ref z8, .ref z9, .ref z10, .null, .null, .int 0, .int 0, .null, .null, .null])), (z1, .inl (c1, (200, .inl (fun _ => 0)))), (z3, .inl (c3, (1000, .inl (fun _ => 0)))), (z4, .inl (c4, (1000, .inl (fun _ => 0)))), (z5, .inl (c5, (1000, .inr (.inl (fun _ => 0))))), (z6, .inl (c6, (1000, .inl (fun _ => 0)))), (z8, .inl (c8, (40000, .inl (fun _ => 0)))), (z9, .inl (c9, (200, .inl (fun _ => 0)))), (z10, .inl (c10, (200, .inl (fun _ => 0))))] := hD
  refine lv_aload_n hx hb dX1_init_80 rfl (lv_at hl 0 rfl) ?_
  refine lv_sipush (v := nI 200) hx hb dX1_init_81 (by decide) ?_
  refine va_newa (atype := .int) (ty := .int) (N' := 200) (a0 := (200, .inl (fun _ => 0))) hx hb (hts _ q96) rfl hK hP hD hS hA (fun _ => rfl) (nI_pos (by decide)) (nI_clamp (by decide)) (by decide) (Nat.le_of_ble_eq_true rfl) (Nat.le_of_ble_eq_true rfl) dX1_init_84 (fun z11 c11 H hK hP hD hS => ?_)
  have hP : va_P D vwCl [(h0, .inr (1, [.int (nI 1), .ref z1, .int 0, .ref z3, .ref z4, .ref z5, .ref z6, .int 0, .ref z8, .ref z9, .ref z10, .null, .null, .int 0, .int 0, .null, .null, .null])), (z1, .inl (c1, (200, .inl (fun _ => 0)))), (z3, .inl (c3, (1000, .inl (fun _ => 0)))), (z4, .inl (c4, (1000, .inl (fun _ => 0)))), (z5, .inl (c5, (1000, .inr (.inl (fun _ => 0))))), (z6, .inl (c6, (1000, .inl (fun _ => 0)))), (z8, .inl (c8, (40000, .inl (fun _ => 0)))), (z9, .inl (c9, (200, .inl (fun _ => 0)))), (z10, .inl (c10, (200, .inl (fun _ => 0)))), (z11, .inl (c11, (200, .inl (fun _ => 0))))] _ := hP
  have hD : va_D A [(h0, .inr (1, [.int (nI 1), .ref z1, .int 0, .ref z3, .ref z4, .ref z5, .ref z6, .int 0, .ref z8, .ref z9, .ref z10, .null, .null, .int 0, .int 0, .null, .null, .null])), (z1, .inl (c1, (200, .inl (fun _ => 0)))), (z3, .inl (c3, (1000, .inl (fun _ => 0)))), (z4, .inl (c4, (1000, .inl (fun _ => 0)))), (z5, .inl (c5, (1000, .inr (.inl (fun _ => 0))))), (z6, .inl (c6, (1000, .inl (fun _ => 0)))), (z8, .inl (c8, (40000, .inl (fun _ => 0)))), (z9, .inl (c9, (200, .inl (fun _ => 0)))), (z10, .inl (c10, (200, .inl (fun _ => 0)))), (z11, .inl (c11, (200, .inl (fun _ => 0))))] := hD
  have hK : va_K D vwCl [(c1, .boolean), (c3, .int), (c4, .int), (c5, .long), (c6, .boolean), (c8, .int), (c9, .int), (c10, .int), (c11, .int)] s := hK
  refine W.widen (k := 9) (n := 44800) (Nat.le_of_ble_eq_true rfl) (Nat.le_of_ble_eq_true rfl) ?_
  refine va_putF (D := D) (ci := 1) (v := .ref z11) (ty := .array .int) (C := RX1) (T := TX1) (N := 18) hx hb hts in_X1 tyX1 tyX1_ok nmX1 hown hK hP hD hS 0 rfl rfl 11 (by decide) (hts _ q197) (fun _ h9 => h9) rfl hin rfl (by decide +kernel) rfl rfl (Nat.le_of_ble_eq_true rfl) dX1_init_86 (fun H locs hP hD hS => ?_)
  have hP : va_P D vwCl [(h0, .inr (1, [.int (nI 1), .ref z1, .int 0, .ref z3, .ref z4, .ref z5, .ref z6, .int 0, .ref z8, .ref z9, .ref z10, .ref z11, .null, .int 0, .int 0, .null, .null, .null])), (z1, .inl (c1, (200, .inl (fun _ => 0)))), (z3, .inl (c3, (1000, .inl (fun _ => 0)))), (z4, .inl (c4, (1000, .inl (fun _ => 0)))), (z5, .inl (c5, (1000, .inr (.inl (fun _ => 0))))), (z6, .inl (c6, (1000, .inl (fun _ => 0)))), (z8, .inl (c8, (40000, .inl (fun _ => 0)))), (z9, .inl (c9, (200, .inl (fun _ => 0)))), (z10, .inl (c10, (200, .inl (fun _ => 0)))), (z11, .inl (c11, (200, .inl (fun _ => 0))))] _ := hP
  have hD : va_D A [(h0, .inr (1, [.int (nI 1), .ref z1, .int 0, .ref z3, .ref z4, .ref z5, .ref z6, .int 0, .ref z8, .ref z9, .ref z10, .ref z11, .null, .int 0, .int 0, .null, .null, .null])), (z1, .inl (c1, (200, .inl (fun _ => 0)))), (z3, .inl (c3, (1000, .inl (fun _ => 0)))), (z4, .inl (c4, (1000, .inl (fun _ => 0)))), (z5, .inl (c5, (1000, .inr (.inl (fun _ => 0))))), (z6, .inl (c6, (1000, .inl (fun _ => 0)))), (z8, .inl (c8, (40000, .inl (fun _ => 0)))), (z9, .inl (c9, (200, .inl (fun _ => 0)))), (z10, .inl (c10, (200, .inl (fun _ => 0)))), (z11, .inl (c11, (200, .inl (fun _ => 0))))] := hD
  refine lv_aload_n hx hb dX1_init_89 rfl (lv_at hl 0 rfl) ?_
  refine lv_sipush (v := nI 200) hx hb dX1_init_90 (by decide) ?_
  refine va_newa (atype := .int) (ty := .int) (N' := 200) (a0 := (200, .inl (fun _ => 0))) hx hb (hts _ q96) rfl hK hP hD hS hA (fun _ => rfl) (nI_pos (by decide)) (nI_clamp (by decide)) (by decide) (Nat.le_of_ble_eq_true rfl) (Nat.le_of_ble_eq_true rfl) dX1_init_93 (fun z12 c12 H hK hP hD hS => ?_)
  have hP : va_P D vwCl [(h0, .inr (1, [.int (nI 1), .ref z1, .int 0, .ref z3, .ref z4, .ref z5, .ref z6, .int 0, .ref z8, .ref z9, .ref z10, .ref z11, .null, .int 0, .int 0, .null, .null, .null])), (z1, .inl (c1, (200, .inl (fun _ => 0)))), (z3, .inl (c3, (1000, .inl (fun _ => 0)))), (z4, .inl (c4, (1000, .inl (fun _ => 0)))), (z5, .inl (c5, (1000, .inr (.inl (fun _ => 0))))), (z6, .inl (c6, (1000, .inl (fun _ => 0)))), (z8, .inl (c8, (40000, .inl (fun _ => 0)))), (z9, .inl (c9, (200, .inl (fun _ => 0)))), (z10, .inl (c10, (200, .inl (fun _ => 0)))), (z11, .inl (c11, (200, .inl (fun _ => 0)))), (z12, .inl (c12, (200, .inl (fun _ => 0))))] _ := hP
  have hD : va_D A [(h0, .inr (1, [.int (nI 1), .ref z1, .int 0, .ref z3, .ref z4, .ref z5, .ref z6, .int 0, .ref z8, .ref z9, .ref z10, .ref z11, .null, .int 0, .int 0, .null, .null, .null])), (z1, .inl (c1, (200, .inl (fun _ => 0)))), (z3, .inl (c3, (1000, .inl (fun _ => 0)))), (z4, .inl (c4, (1000, .inl (fun _ => 0)))), (z5, .inl (c5, (1000, .inr (.inl (fun _ => 0))))), (z6, .inl (c6, (1000, .inl (fun _ => 0)))), (z8, .inl (c8, (40000, .inl (fun _ => 0)))), (z9, .inl (c9, (200, .inl (fun _ => 0)))), (z10, .inl (c10, (200, .inl (fun _ => 0)))), (z11, .inl (c11, (200, .inl (fun _ => 0)))), (z12, .inl (c12, (200, .inl (fun _ => 0))))] := hD
  have hK : va_K D vwCl [(c1, .boolean), (c3, .int), (c4, .int), (c5, .long), (c6, .boolean), (c8, .int), (c9, .int), (c10, .int), (c11, .int), (c12, .int)] s := hK
  refine W.widen (k := 10) (n := 45000) (Nat.le_of_ble_eq_true rfl) (Nat.le_of_ble_eq_true rfl) ?_
  refine va_putF (D := D) (ci := 1) (v := .ref z12) (ty := .array .int) (C := RX1) (T := TX1) (N := 18) hx hb hts in_X1 tyX1 tyX1_ok nmX1 hown hK hP hD hS 0 rfl rfl 12 (by decide) (hts _ q198) (fun _ h9 => h9) rfl hin rfl (by decide +kernel) rfl rfl (Nat.le_of_ble_eq_true rfl) dX1_init_95 (fun H locs hP hD hS => ?_)
  have hP : va_P D vwCl [(h0, .inr (1, [.int (nI 1), .ref z1, .int 0, .ref z3, .ref z4, .ref z5, .ref z6, .int 0, .ref z8, .ref z9, .ref z10, .ref z11, .ref z12, .int 0, .int 0, .null, .null, .null])), (z1, .inl (c1, (200, .inl (fun _ => 0)))), (z3, .inl (c3, (1000, .inl (fun _ => 0)))), (z4, .inl (c4, (1000, .inl (fun _ => 0)))), (z5, .inl (c5, (1000, .inr (.inl (fun _ => 0))))), (z6, .inl (c6, (1000, .inl (fun _ => 0)))), (z8, .inl (c8, (40000, .inl (fun _ => 0)))), (z9, .inl (c9, (200, .inl (fun _ => 0)))), (z10, .inl (c10, (200, .inl (fun _ => 0)))), (z11, .inl (c11, (200, .inl (fun _ => 0)))), (z12, .inl (c12, (200, .inl (fun _ => 0))))] _ := hP
  have hD : va_D A [(h0, .inr (1, [.int (nI 1), .ref z1, .int 0, .ref z3, .ref z4, .ref z5, .ref z6, .int 0, .ref z8, .ref z9, .ref z10, .ref z11, .ref z12, .int 0, .int 0, .null, .null, .null])), (z1, .inl (c1, (200, .inl (fun _ => 0)))), (z3, .inl (c3, (1000, .inl (fun _ => 0)))), (z4, .inl (c4, (1000, .inl (fun _ => 0)))), (z5, .inl (c5, (1000, .inr (.inl (fun _ => 0))))), (z6, .inl (c6, (1000, .inl (fun _ => 0)))), (z8, .inl (c8, (40000, .inl (fun _ => 0)))), (z9, .inl (c9, (200, .inl (fun _ => 0)))), (z10, .inl (c10, (200, .inl (fun _ => 0)))), (z11, .inl (c11, (200, .inl (fun _ => 0)))), (z12, .inl (c12, (200, .inl (fun _ => 0))))] := hD
  refine lv_aload_n hx hb dX1_init_98 rfl (lv_at hl 0 rfl) ?_
  refine lv_sipush (v := nI 1000) hx hb dX1_init_99 (by decide) ?_
  refine va_newa (atype := .boolean) (ty := .boolean) (N' := 1000) (a0 := (1000, .inl (fun _ => 0))) hx hb (hts _ q95) rfl hK hP hD hS hA (fun _ => rfl) (nI_pos (by decide)) (nI_clamp (by decide)) (by decide) (Nat.le_of_ble_eq_true rfl) (Nat.le_of_ble_eq_true rfl) dX1_init_102 (fun z15 c15 H hK hP hD hS => ?_)
  have hP : va_P D vwCl [(h0, .inr (1, [.int (nI 1), .ref z1, .int 0, .ref z3, .ref z4, .ref z5, .ref z6, .int 0, .ref z8, .ref z9, .ref z10, .ref z11, .ref z12, .int 0, .int 0, .null, .null, .null])), (z1, .inl (c1, (200, .inl (fun _ => 0)))), (z3, .inl (c3, (1000, .inl (fun _ => 0)))), (z4, .inl (c4, (1000, .inl (fun _ => 0)))), (z5, .inl (c5, (1000, .inr (.inl (fun _ => 0))))), (z6, .inl (c6, (1000, .inl (fun _ => 0)))), (z8, .inl (c8, (40000, .inl (fun _ => 0)))), (z9, .inl (c9, (200, .inl (fun _ => 0)))), (z10, .inl (c10, (200, .inl (fun _ => 0)))), (z11, .inl (c11, (200, .inl (fun _ => 0)))), (z12, .inl (c12, (200, .inl (fun _ => 0)))), (z15, .inl (c15, (1000, .inl (fun _ => 0))))] _ := hP
  have hD : va_D A [(h0, .inr (1, [.int (nI 1), .ref z1, .int 0, .ref z3, .ref z4, .ref z5, .ref z6, .int 0, .ref z8, .ref z9, .ref z10, .ref z11, .ref z12, .int 0, .int 0, .null, .null, .null])), (z1, .inl (c1, (200, .inl (fun _ => 0)))), (z3, .inl (c3, (1000, .inl (fun _ => 0)))), (z4, .inl (c4, (1000, .inl (fun _ => 0)))), (z5, .inl (c5, (1000, .inr (.inl (fun _ => 0))))), (z6, .inl (c6, (1000, .inl (fun _ => 0)))), (z8, .inl (c8, (40000, .inl (fun _ => 0)))), (z9, .inl (c9, (200, .inl (fun _ => 0)))), (z10, .inl (c10, (200, .inl (fun _ => 0)))), (z11, .inl (c11, (200, .inl (fun _ => 0)))), (z12, .inl (c12, (200, .inl (fun _ => 0)))), (z15, .inl (c15, (1000, .inl (fun _ => 0))))] := hD
  have hK : va_K D vwCl [(c1, .boolean), (c3, .int), (c4, .int), (c5, .long), (c6, .boolean), (c8, .int), (c9, .int), (c10, .int), (c11, .int), (c12, .int), (c15, .boolean)] s := hK
  refine W.widen (k := 11) (n := 46000) (Nat.le_of_ble_eq_true rfl) (Nat.le_of_ble_eq_true rfl) ?_
  refine va_putF (D := D) (ci := 1) (v := .ref z15) (ty := .array .boolean) (C := RX1) (T := TX1) (N := 18) hx hb hts in_X1 tyX1 tyX1_ok nmX1 hown hK hP hD hS 0 rfl rfl 15 (by decide) (hts _ q201) (fun _ h9 => h9) rfl hin rfl (by decide +kernel) rfl rfl (Nat.le_of_ble_eq_true rfl) dX1_init_104 (fun H locs hP hD hS => ?_)
  have hP : va_P D vwCl [(h0, .inr (1, [.int (nI 1), .ref z1, .int 0, .ref z3, .ref z4, .ref z5, .ref z6, .int 0, .ref z8, .ref z9, .ref z10, .ref z11, .ref z12, .int 0, .int 0, .ref z15, .null, .null])), (z1, .inl (c1, (200, .inl (fun _ => 0)))), (z3, .inl (c3, (1000, .inl (fun _ => 0)))), (z4, .inl (c4, (1000, .inl (fun _ => 0)))), (z5, .inl (c5, (1000, .inr (.inl (fun _ => 0))))), (z6, .inl (c6, (1000, .inl (fun _ => 0)))), (z8, .inl (c8, (40000, .inl (fun _ => 0)))), (z9, .inl (c9, (200, .inl (fun _ => 0)))), (z10, .inl (c10, (200, .inl (fun _ => 0)))), (z11, .inl (c11, (200, .inl (fun _ => 0)))), (z12, .inl (c12, (200, .inl (fun _ => 0)))), (z15, .inl (c15, (1000, .inl (fun _ => 0))))] _ := hP
  have hD : va_D A [(h0, .inr (1, [.int (nI 1), .ref z1, .int 0, .ref z3, .ref z4, .ref z5, .ref z6, .int 0, .ref z8, .ref z9, .ref z10, .ref z11, .ref z12, .int 0, .int 0, .ref z15, .null, .null])), (z1, .inl (c1, (200, .inl (fun _ => 0)))), (z3, .inl (c3, (1000, .inl (fun _ => 0)))), (z4, .inl (c4, (1000, .inl (fun _ => 0)))), (z5, .inl (c5, (1000, .inr (.inl (fun _ => 0))))), (z6, .inl (c6, (1000, .inl (fun _ => 0)))), (z8, .inl (c8, (40000, .inl (fun _ => 0)))), (z9, .inl (c9, (200, .inl (fun _ => 0)))), (z10, .inl (c10, (200, .inl (fun _ => 0)))), (z11, .inl (c11, (200, .inl (fun _ => 0)))), (z12, .inl (c12, (200, .inl (fun _ => 0)))), (z15, .inl (c15, (1000, .inl (fun _ => 0))))] := hD
  refine lv_aload_n hx hb dX1_init_107 rfl (lv_at hl 0 rfl) ?_
  refine lv_sipush (v := nI 200) hx hb dX1_init_108 (by decide) ?_
  refine va_newa (atype := .boolean) (ty := .boolean) (N' := 200) (a0 := (200, .inl (fun _ => 0))) hx hb (hts _ q95) rfl hK hP hD hS hA (fun _ => rfl) (nI_pos (by decide)) (nI_clamp (by decide)) (by decide) (Nat.le_of_ble_eq_true rfl) (Nat.le_of_ble_eq_true rfl) dX1_init_111 (fun z16 c16 H hK hP hD hS => ?_)
  have hP : va_P D vwCl [(h0, .inr (1, [.int (nI 1), .ref z1, .int 0, .ref z3, .ref z4, .ref z5, .ref z6, .int 0, .ref z8, .ref z9, .ref z10, .ref z11, .ref z12, .int 0, .int 0, .ref z15, .null, .null])), (z1, .inl (c1, (200, .inl (fun _ => 0)))), (z3, .inl (c3, (1000, .inl (fun _ => 0)))), (z4, .inl (c4, (1000, .inl (fun _ => 0)))), (z5, .inl (c5, (1000, .inr (.inl (fun _ => 0))))), (z6, .inl (c6, (1000, .inl (fun _ => 0)))), (z8, .inl (c8, (40000, .inl (fun _ => 0)))), (z9, .inl (c9, (200, .inl (fun _ => 0)))), (z10, .inl (c10, (200, .inl (fun _ => 0)))), (z11, .inl (c11, (200, .inl (fun _ => 0)))), (z12, .inl (c12, (200, .inl (fun _ => 0)))), (z15, .inl (c15, (1000, .inl (fun _ => 0)))), (z16, .inl (c16, (200, .inl (fun _ => 0))))] _ := hP
  have hD : va_D A [(h0, .inr (1, [.int (nI 1), .ref z1, .int 0, .ref z3, .ref z4, .ref z5, .ref z6, .int 0, .ref z8, .ref z9, .ref z10, .ref z11, .ref z12, .int 0, .int 0, .ref z15, .null, .null])), (z1, .inl (c1, (200, .inl (fun _ => 0)))), (z3, .inl (c3, (1000, .inl (fun _ => 0)))), (z4, .inl (c4, (1000, .inl (fun _ => 0)))), (z5, .inl (c5, (1000, .inr (.inl (fun _ => 0))))), (z6, .inl (c6, (1000, .inl (fun _ => 0)))), (z8, .inl (c8, (40000, .inl (fun _ => 0)))), (z9, .inl (c9, (200, .inl (fun _ => 0)))), (z10, .inl (c10, (200, .inl (fun _ => 0)))), (z11, .inl (c11, (200, .inl (fun _ => 0)))), (z12, .inl (c12, (200, .inl (fun _ => 0)))), (z15, .inl (c15, (1000, .inl (fun _ => 0)))), (z16, .inl (c16, (200, .inl (fun _ => 0))))] := hD
  have hK : va_K D vwCl [(c1, .boolean), (c3, .int), (c4, .int), (c5, .long), (c6, .boolean), (c8, .int), (c9, .int), (c10, .int), (c11, .int), (c12, .int), (c15, .boolean), (c16, .boolean)] s := hK
  refine W.widen (k := 12) (n := 46200) (Nat.le_of_ble_eq_true rfl) (Nat.le_of_ble_eq_true rfl) ?_
  refine va_putF (D := D) (ci := 1) (v := .ref z16) (ty := .array .boolean) (C := RX1) (T := TX1) (N := 18) hx hb hts in_X1 tyX1 tyX1_ok nmX1 hown hK hP hD hS 0 rfl rfl 16 (by decide) (hts _ q202) (fun _ h9 => h9) rfl hin rfl (by decide +kernel) rfl rfl (Nat.le_of_ble_eq_true rfl) dX1_init_113 (fun H locs hP hD hS => ?_)
  have hP : va_P D vwCl [(h0, .inr (1, [.int (nI 1), .ref z1, .int 0, .ref z3, .ref z4, .ref z5, .ref z6, .int 0, .ref z8, .ref z9, .ref z10, .ref z11, .ref z12, .int 0, .int 0, .ref z15, .ref z16, .null])), (z1, .inl (c1, (200, .inl (fun _ => 0)))), (z3, .inl (c3, (1000, .inl (fun _ => 0)))), (z4, .inl (c4, (1000, .inl (fun _ => 0)))), (z5, .inl (c5, (1000, .inr (.inl (fun _ => 0))))), (z6, .inl (c6, (1000, .inl (fun _ => 0)))), (z8, .inl (c8, (40000, .inl (fun _ => 0)))), (z9, .inl (c9, (200, .inl (fun _ => 0)))), (z10, .inl (c10, (200, .inl (fun _ => 0)))), (z11, .inl (c11, (200, .inl (fun _ => 0)))), (z12, .inl (c12, (200, .inl (fun _ => 0)))), (z15, .inl (c15, (1000, .inl (fun _ => 0)))), (z16, .inl (c16, (200, .inl (fun _ => 0))))] _ := hP
  have hD : va_D A [(h0, .inr (1, [.int (nI 1), .ref z1, .int 0, .ref z3, .ref z4, .ref z5, .ref z6, .int 0, .ref z8, .ref z9, .ref z10, .ref z11, .ref z12, .int 0, .int 0, .ref z15, .ref z16, .null])), (z1, .inl (c1, (200, .inl (fun _ => 0)))), (z3, .inl (c3, (1000, .inl (fun _ => 0)))), (z4, .inl (c4, (1000, .inl (fun _ => 0)))), (z5, .inl (c5, (1000, .inr (.inl (fun _ => 0))))), (z6, .inl (c6, (1000, .inl (fun _ => 0)))), (z8, .inl (c8, (40000, .inl (fun _ => 0)))), (z9, .inl (c9, (200, .inl (fun _ => 0)))), (z10, .inl (c10, (200, .inl (fun _ => 0)))), (z11, .inl (c11, (200, .inl (fun _ => 0)))), (z12, .inl (c12, (200, .inl (fun _ => 0)))), (z15, .inl (c15, (1000, .inl (fun _ => 0)))), (z16, .inl (c16, (200, .inl (fun _ => 0))))] := hD
  refine lv_aload_n hx hb dX1_init_116 rfl (lv_at hl 0 rfl) ?_
  refine lv_sipush (v := nI 200) hx hb dX1_init_117 (by decide) ?_
  refine va_newa (atype := .int) (ty := .int) (N' := 200) (a0 := (200, .inl (fun _ => 0))) hx hb (hts _ q96) rfl hK hP hD hS hA (fun _ => rfl) (nI_pos (by decide)) (nI_clamp (by decide)) (by decide) (Nat.le_of_ble_eq_true rfl) (Nat.le_of_ble_eq_true rfl) dX1_init_120 (fun z17 c17 H hK hP hD hS => ?_)
  have hP : va_P D vwCl [(h0, .inr (1, [.int (nI 1), .ref z1, .int 0, .ref z3, .ref z4, .ref z5, .ref z6, .int 0, .ref z8, .ref z9, .ref z10, .ref z11, .ref z12, .int 0, .int 0, .ref z15, .ref z16, .null])), (z1, .inl (c1, (200, .inl (fun _ => 0)))), (z3, .inl (c3, (1000, .inl (fun _ => 0)))), (z4, .inl (c4, (1000, .inl (fun _ => 0)))), (z5, .inl (c5, (1000, .inr (.inl (fun _ => 0))))), (z6, .inl (c6, (1000, .inl (fun _ => 0)))), (z8, .inl (c8, (40000, .inl (fun _ => 0)))), (z9, .inl (c9, (200, .inl (fun _ => 0)))), (z10, .inl (c10, (200, .inl (fun _ => 0)))), (z11, .inl (c11, (200, .inl (fun _ => 0)))), (z12, .inl (c12, (200, .inl (fun _ => 0)))), (z15, .inl (c15, (1000, .inl (fun _ => 0)))), (z16, .inl (c16, (200, .inl (fun _ => 0)))), (z17, .inl (c17, (200, .inl (fun _ => 0))))] _ := hP
  have hD : va_D A [(h0, .inr (1, [.int (nI 1), .ref z1, .int 0, .ref z3, .ref z4, .ref z5, .ref z6, .int 0, .ref z8, .ref z9, .ref z10, .ref z11, .ref z12, .int 0, .int 0, .ref z15, .ref z16, .null])), (z1, .inl (c1, (200, .inl (fun _ => 0)))), (z3, .inl (c3, (1000, .inl (fun _ => 0)))), (z4, .inl (c4, (1000, .inl (fun _ => 0)))), (z5, .inl (c5, (1000, .inr (.inl (fun _ => 0))))), (z6, .inl (c6, (1000, .inl (fun _ => 0)))), (z8, .inl (c8, (40000, .inl (fun _ => 0)))), (z9, .inl (c9, (200, .inl (fun _ => 0)))), (z10, .inl (c10, (200, .inl (fun _ => 0)))), (z11, .inl (c11, (200, .inl (fun _ => 0)))), (z12, .inl (c12, (200, .inl (fun _ => 0)))), (z15, .inl (c15, (1000, .inl (fun _ => 0)))), (z16, .inl (c16, (200, .inl (fun _ => 0)))), (z17, .inl (c17, (200, .inl (fun _ => 0))))] := hD
  have hK : va_K D vwCl [(c1, .boolean), (c3, .int), (c4, .int), (c5, .long), (c6, .boolean), (c8, .int), (c9, .int), (c10, .int), (c11, .int), (c12, .int), (c15, .boolean), (c16, .boolean), (c17, .int)] s := hK
  refine W.widen (k := 13) (n := 46400) (Nat.le_of_ble_eq_true rfl) (Nat.le_of_ble_eq_true rfl) ?_
  refine va_putF (D := D) (ci := 1) (v := .ref z17) (ty := .array .int) (C := RX1) (T := TX1) (N := 18) hx hb hts in_X1 tyX1 tyX1_ok nmX1 hown hK hP hD hS 0 rfl rfl 17 (by decide) (hts _ q203) (fun _ h9 => h9) rfl hin rfl (by decide +kernel) rfl rfl (Nat.le_of_ble_eq_true rfl) dX1_init_122 (fun H locs hP hD hS => ?_)
  have hP : va_P D vwCl [(h0, .inr (1, [.int (nI 1), .ref z1, .int 0, .ref z3, .ref z4, .ref z5, .ref z6, .int 0, .ref z8, .ref z9, .ref z10, .ref z11, .ref z12, .int 0, .int 0, .ref z15, .ref z16, .ref z17])), (z1, .inl (c1, (200, .inl (fun _ => 0)))), (z3, .inl (c3, (1000, .inl (fun _ => 0)))), (z4, .inl (c4, (1000, .inl (fun _ => 0)))), (z5, .inl (c5, (1000, .inr (.inl (fun _ => 0))))), (z6, .inl (c6, (1000, .inl (fun _ => 0)))), (z8, .inl (c8, (40000, .inl (fun _ => 0)))), (z9, .inl (c9, (200, .inl (fun _ => 0)))), (z10, .inl (c10, (200, .inl (fun _ => 0)))), (z11, .inl (c11, (200, .inl (fun _ => 0)))), (z12, .inl (c12, (200, .inl (fun _ => 0)))), (z15, .inl (c15, (1000, .inl (fun _ => 0)))), (z16, .inl (c16, (200, .inl (fun _ => 0)))), (z17, .inl (c17, (200, .inl (fun _ => 0))))] _ := hP
  have hD : va_D A [(h0, .inr (1, [.int (nI 1), .ref z1, .int 0, .ref z3, .ref z4, .ref z5, .ref z6, .int 0, .ref z8, .ref z9, .ref z10, .ref z11, .ref z12, .int 0, .int 0, .ref z15, .ref z16, .ref z17])), (z1, .inl (c1, (200, .inl (fun _ => 0)))), (z3, .inl (c3, (1000, .inl (fun _ => 0)))), (z4, .inl (c4, (1000, .inl (fun _ => 0)))), (z5, .inl (c5, (1000, .inr (.inl (fun _ => 0))))), (z6, .inl (c6, (1000, .inl (fun _ => 0)))), (z8, .inl (c8, (40000, .inl (fun _ => 0)))), (z9, .inl (c9, (200, .inl (fun _ => 0)))), (z10, .inl (c10, (200, .inl (fun _ => 0)))), (z11, .inl (c11, (200, .inl (fun _ => 0)))), (z12, .inl (c12, (200, .inl (fun _ => 0)))), (z15, .inl (c15, (1000, .inl (fun _ => 0)))), (z16, .inl (c16, (200, .inl (fun _ => 0)))), (z17, .inl (c17, (200, .inl (fun _ => 0))))] := hD
  have hP9 : va_P D vwCl (mw (fun k => ([h0, z1, 0, z3, z4, z5, z6, 0, z8, z9, z10, z11, z12, 0, 0, z15, z16, z17] : List Nat).getD k 0) (fun k => ([c1, c1, c1, c3, c4, c5, c6, c1, c8, c9, c10, c11, c12, c1, c1, c15, c16, c17] : List ClassId).getD k c1) ((fun k => if k = 0 then nI 1 else 0, fun _ _ => 0, fun _ _ => 0) : St)) _ := hP
  have hD9 : va_D A (mw (fun k => ([h0, z1, 0, z3, z4, z5, z6, 0, z8, z9, z10, z11, z12, 0, 0, z15, z16, z17] : List Nat).getD k 0) (fun k => ([c1, c1, c1, c3, c4, c5, c6, c1, c8, c9, c10, c11, c12, c1, c1, c15, c16, c17] : List ClassId).getD k c1) ((fun k => if k = 0 then nI 1 else 0, fun _ _ => 0, fun _ _ => 0) : St)) := hD
  have hK9 : va_K D vwCl (mt (fun k => ([c1, c1, c1, c3, c4, c5, c6, c1, c8, c9, c10, c11, c12, c1, c1, c15, c16, c17] : List ClassId).getD k c1)) s := hK
  subst hAe
  exact W.vret hx hb hr (fun t ht hW => ⟨⟨((fun k => ([h0, z1, 0, z3, z4, z5, z6, 0, z8, z9, z10, z11, z12, 0, 0, z15, z16, z17] : List Nat).getD k 0), (fun k => ([c1, c1, c1, c3, c4, c5, c6, c1, c8, c9, c10, c11, c12, c1, c1, c15, c16, c17] : List ClassId).getD k c1), ((fun k => if k = 0 then nI 1 else 0, fun _ _ => 0, fun _ _ => 0) : St)), rfl, ⟨rfl, ⟨MR.mt (by decide) (by decide) rfl rfl (fun i hi => rfl), false, rfl, (fun z => by cases z)⟩⟩, by rw [ht]; exact hP9, va_K.moved hW.alike hK9, hD9⟩, hS.F ht⟩) hS.2.2 dX1_init_125
end
section
set_option maxRecDepth 100000
abbrev RLw : String := "BlockRowsLaw"
theorem lxcall_i {E : Ev} {a : Nat → Nat} {d : Nat → ClassId} {σ : St} {a' : Nat → Nat} {d' : Nat → ClassId} {τ : St} {cc : ByteArray} {nL : Nat} {H : Heap} {locs : List Loc} {pc : Nat} {ls : Array Slot} {rest : List Value} {y : MethodName} {b : ByteArray} {mL : Nat} {ty : FieldType} {fr lo : Nat} {as : List Value} {post : Int32 → St → Prop} {idx : Nat}
    (G : CX E RLw cc nL) (K : KX E (xt d)) (hH : HH E (xw a d σ ++ mw a' d' τ) H locs) (hy : y.cls = RX0) (hM : CMi E.l y b mL ty fr lo E.D (xt d) (xw a d) (.ref (a 0) :: as) σ post) (q1 : Cond.methodLink RLw idx y ∈ lw_all) (q2 : Cond.instanceMethod y ∈ lw_all) (q3 : Cond.selects RX0 y y ∈ lw_all) (q5 : Cond.code y b mL (some ty) ∈ lw_all) (hd : (parseMethodDescriptor y.desc).map (fun d => d.parameters.length) = some as.length)
    (hR : fr + 1 ≤ E.R.frames ∧ 8 + (mL + 11) + lo ≤ E.R.locals) (hls : ls.size = nL) {st : List Value} (hst : st = as.reverse ++ .ref (a 0) :: rest) (hrest : (rest.map fun v => v.category).sum ≤ 8) (dg : decode cc pc = .ok (.invokevirtual idx, 3))
    (kk : ∀ (r : Int32) (σ' : St) (H : Heap) (locs : List Loc), HH E (mw a' d' τ ++ xw a d σ') H locs → post r σ' → WE E H locs (pc + 3) ls (.int r :: rest)) : WE E H locs pc ls st := by
  have hh : y.cls ≠ "java/lang/invoke/MethodHandle" ∧ y.cls ≠ "java/lang/invoke/VarHandle" := by
    rw [hy]
    exact ⟨by decide +kernel, by decide +kernel⟩
  refine call_i (wr := mw a' d' τ) (ci := 0) (T := TX0) (N := 21) (fs := ((xw a d σ).head?.elim [] (fun q => match q.2 with
    | .inr z => z.2
    | .inl _ => []))) G K hH [0, 1, 2, 3, 4, 5, 6, 7, 8, 9, 10, 11, 12, 13, 14, 15, 16, 17] [18, 19, 20, 21, 22, 23, 24, 25, 26, 27, 28, 29, 30, 31] rfl rfl rfl (by decide) rfl hM (lw_V q1 q2 (by rw [hy]; exact q3) (by rw [hy]; exact q19) q5) ⟨hh.1, hh.2, hd⟩ rfl (by rw [hy]; rfl) hR hls hst hrest dg (fun r σ' H locs hH hp => kk r σ' H locs hH hp)
theorem lxcall_l {E : Ev} {a : Nat → Nat} {d : Nat → ClassId} {σ : St} {a' : Nat → Nat} {d' : Nat → ClassId} {τ : St} {cc : ByteArray} {nL : Nat} {H : Heap} {locs : List Loc} {pc : Nat} {ls : Array Slot} {rest : List Value} {y : MethodName} {b : ByteArray} {mL : Nat}  {fr lo : Nat} {as : List Value} {post : Int64 → St → Prop} {idx : Nat}
    (G : CX E RLw cc nL) (K : KX E (xt d)) (hH : HH E (xw a d σ ++ mw a' d' τ) H locs) (hy : y.cls = RX0) (hM : CMl E.l y b mL fr lo E.D (xt d) (xw a d) (.ref (a 0) :: as) σ post) (q1 : Cond.methodLink RLw idx y ∈ lw_all) (q2 : Cond.instanceMethod y ∈ lw_all) (q3 : Cond.selects RX0 y y ∈ lw_all) (q5 : Cond.code y b mL (some .long) ∈ lw_all) (hd : (parseMethodDescriptor y.desc).map (fun d => d.parameters.length) = some as.length)
    (hR : fr + 1 ≤ E.R.frames ∧ 8 + (mL + 11) + lo ≤ E.R.locals) (hls : ls.size = nL) {st : List Value} (hst : st = as.reverse ++ .ref (a 0) :: rest) (hrest : (rest.map fun v => v.category).sum ≤ 8) (dg : decode cc pc = .ok (.invokevirtual idx, 3))
    (kk : ∀ (r : Int64) (σ' : St) (H : Heap) (locs : List Loc), HH E (mw a' d' τ ++ xw a d σ') H locs → post r σ' → WE E H locs (pc + 3) ls (.long r :: rest)) : WE E H locs pc ls st := by
  have hh : y.cls ≠ "java/lang/invoke/MethodHandle" ∧ y.cls ≠ "java/lang/invoke/VarHandle" := by
    rw [hy]
    exact ⟨by decide +kernel, by decide +kernel⟩
  refine call_l (wr := mw a' d' τ) (ci := 0) (T := TX0) (N := 21) (fs := ((xw a d σ).head?.elim [] (fun q => match q.2 with
    | .inr z => z.2
    | .inl _ => []))) G K hH [0, 1, 2, 3, 4, 5, 6, 7, 8, 9, 10, 11, 12, 13, 14, 15, 16, 17] [18, 19, 20, 21, 22, 23, 24, 25, 26, 27, 28, 29, 30, 31] rfl rfl rfl (by decide) rfl hM (lw_V q1 q2 (by rw [hy]; exact q3) (by rw [hy]; exact q19) q5) ⟨hh.1, hh.2, hd⟩ rfl (by rw [hy]; rfl) hR hls hst hrest dg (fun r σ' H locs hH hp => kk r σ' H locs hH hp)
theorem lmcall_i {E : Ev} {a : Nat → Nat} {d : Nat → ClassId} {σ : St} {a' : Nat → Nat} {d' : Nat → ClassId} {τ : St} {cc : ByteArray} {nL : Nat} {H : Heap} {locs : List Loc} {pc : Nat} {ls : Array Slot} {rest : List Value} {y : MethodName} {b : ByteArray} {mL : Nat} {ty : FieldType} {fr lo : Nat} {as : List Value} {post : Int32 → St → Prop} {idx : Nat}
    (G : CX E RLw cc nL) (K : KX E (mt d)) (hH : HH E (mw a d σ ++ xw a' d' τ) H locs) (hy : y.cls = RX1) (hM : CMi E.l y b mL ty fr lo E.D (mt d) (mw a d) (.ref (a 0) :: as) σ post) (q1 : Cond.methodLink RLw idx y ∈ lw_all) (q2 : Cond.instanceMethod y ∈ lw_all) (q3 : Cond.selects RX1 y y ∈ lw_all) (q5 : Cond.code y b mL (some ty) ∈ lw_all) (hd : (parseMethodDescriptor y.desc).map (fun d => d.parameters.length) = some as.length)
    (hR : fr + 1 ≤ E.R.frames ∧ 8 + (mL + 11) + lo ≤ E.R.locals) (hls : ls.size = nL) {st : List Value} (hst : st = as.reverse ++ .ref (a 0) :: rest) (hrest : (rest.map fun v => v.category).sum ≤ 8) (dg : decode cc pc = .ok (.invokevirtual idx, 3))
    (kk : ∀ (r : Int32) (σ' : St) (H : Heap) (locs : List Loc), HH E (xw a' d' τ ++ mw a d σ') H locs → post r σ' → WE E H locs (pc + 3) ls (.int r :: rest)) : WE E H locs pc ls st := by
  have hh : y.cls ≠ "java/lang/invoke/MethodHandle" ∧ y.cls ≠ "java/lang/invoke/VarHandle" := by
    rw [hy]
    exact ⟨by decide +kernel, by decide +kernel⟩
  refine call_i (wr := xw a' d' τ) (ci := 1) (T := TX1) (N := 18) (fs := ((mw a d σ).head?.elim [] (fun q => match q.2 with
    | .inr z => z.2
    | .inl _ => []))) G K hH [0, 1, 2, 3, 4, 5, 6, 7, 8, 9, 10, 11, 12, 13] [14, 15, 16, 17, 18, 19, 20, 21, 22, 23, 24, 25, 26, 27, 28, 29, 30, 31] rfl rfl rfl (by decide) rfl hM (lw_V q1 q2 (by rw [hy]; exact q3) (by rw [hy]; exact q20) q5) ⟨hh.1, hh.2, hd⟩ rfl (by rw [hy]; rfl) hR hls hst hrest dg (fun r σ' H locs hH hp => kk r σ' H locs hH hp)
theorem lmcall_l {E : Ev} {a : Nat → Nat} {d : Nat → ClassId} {σ : St} {a' : Nat → Nat} {d' : Nat → ClassId} {τ : St} {cc : ByteArray} {nL : Nat} {H : Heap} {locs : List Loc} {pc : Nat} {ls : Array Slot} {rest : List Value} {y : MethodName} {b : ByteArray} {mL : Nat}  {fr lo : Nat} {as : List Value} {post : Int64 → St → Prop} {idx : Nat}
    (G : CX E RLw cc nL) (K : KX E (mt d)) (hH : HH E (mw a d σ ++ xw a' d' τ) H locs) (hy : y.cls = RX1) (hM : CMl E.l y b mL fr lo E.D (mt d) (mw a d) (.ref (a 0) :: as) σ post) (q1 : Cond.methodLink RLw idx y ∈ lw_all) (q2 : Cond.instanceMethod y ∈ lw_all) (q3 : Cond.selects RX1 y y ∈ lw_all) (q5 : Cond.code y b mL (some .long) ∈ lw_all) (hd : (parseMethodDescriptor y.desc).map (fun d => d.parameters.length) = some as.length)
    (hR : fr + 1 ≤ E.R.frames ∧ 8 + (mL + 11) + lo ≤ E.R.locals) (hls : ls.size = nL) {st : List Value} (hst : st = as.reverse ++ .ref (a 0) :: rest) (hrest : (rest.map fun v => v.category).sum ≤ 8) (dg : decode cc pc = .ok (.invokevirtual idx, 3))
    (kk : ∀ (r : Int64) (σ' : St) (H : Heap) (locs : List Loc), HH E (xw a' d' τ ++ mw a d σ') H locs → post r σ' → WE E H locs (pc + 3) ls (.long r :: rest)) : WE E H locs pc ls st := by
  have hh : y.cls ≠ "java/lang/invoke/MethodHandle" ∧ y.cls ≠ "java/lang/invoke/VarHandle" := by
    rw [hy]
    exact ⟨by decide +kernel, by decide +kernel⟩
  refine call_l (wr := xw a' d' τ) (ci := 1) (T := TX1) (N := 18) (fs := ((mw a d σ).head?.elim [] (fun q => match q.2 with
    | .inr z => z.2
    | .inl _ => []))) G K hH [0, 1, 2, 3, 4, 5, 6, 7, 8, 9, 10, 11, 12, 13] [14, 15, 16, 17, 18, 19, 20, 21, 22, 23, 24, 25, 26, 27, 28, 29, 30, 31] rfl rfl rfl (by decide) rfl hM (lw_V q1 q2 (by rw [hy]; exact q3) (by rw [hy]; exact q20) q5) ⟨hh.1, hh.2, hd⟩ rfl (by rw [hy]; rfl) hR hls hst hrest dg (fun r σ' H locs hH hp => kk r σ' H locs hH hp)
theorem l_sld {E : Ev} {own : String} {cc : ByteArray} {nL : Nat} {H : Heap} {locs : List Loc} {pc : Nat} {ls : Array Slot} {rest : List Value} {w : va_W} {b L : Nat} {xs : Nat → Int32} (G : CX E own cc nL) (hX : va_X b L xs E.s E.s.heap) (hbl : b < E.s.heap.size) (hbA : ¬ E.A b) (hL : L ≤ 320) (hH : HH E w H locs) {j : Nat} (hj : j < L) (dg : decode cc pc = .ok (.iaload, 1)) (kk : WE E H locs (pc + 1) ls (.int (xs j) :: rest)) : WE E H locs pc ls (.int (nI j) :: .ref b :: rest) := by
  refine va_sld G.1.1 G.1.2.1 hX hbl hbA hH.2.2 (vp_in_nI hj (by omega)) dg ?_
  rw [nI_clamp (by omega)]
  exact kk
theorem l_slen {E : Ev} {own : String} {cc : ByteArray} {nL : Nat} {H : Heap} {locs : List Loc} {pc : Nat} {ls : Array Slot} {rest : List Value} {w : va_W} {b L : Nat} {xs : Nat → Int32} (G : CX E own cc nL) (hX : va_X b L xs E.s E.s.heap) (hbl : b < E.s.heap.size) (hbA : ¬ E.A b) (hH : HH E w H locs) (dg : decode cc pc = .ok (.arraylength, 1)) (kk : WE E H locs (pc + 1) ls (.int (nI L) :: rest)) : WE E H locs pc ls (.ref b :: rest) :=
  va_slen G.1.1 G.1.2.1 hX hbl hbA hH.2.2 dg kk
theorem r_sw {E : Ev} {own : String} {cc : ByteArray} {nL : Nat} {H : Heap} {locs : List Loc} {pc : Nat} {ls : Array Slot} {rest : List Value} (G : CX E own cc nL) {dflt lo hi : Int} {offs : Array Int} {len : Nat} {x : Int32} {off : Int} (tgt : Nat) (dg : decode cc pc = .ok (.tableswitch dflt lo hi offs, len)) (h1 : ¬ x.toInt < lo) (h2 : ¬ hi < x.toInt) (ho : offs[(x.toInt - lo).toNat]? = some off) (ht : (pc : Int) + off = (tgt : Int)) (kk : WE E H locs tgt ls rest) : WE E H locs pc ls (.int x :: rest) :=
  lv_tableIn G.1.1 G.1.2.1 dg h1 h2 ho ht kk
theorem le5 {L i : Nat} (hL : L ≤ 320) (hi : i ≤ 320) (h : ¬ nI L - nI 5 < nI i) : i + 5 ≤ L := by
  rcases Nat.lt_or_ge L (i + 5) with q | q
  · refine absurd (Int32.lt_iff_toInt_lt.mpr ?_) h
    rw [Int32.toInt_sub, nI_toInt (by omega), nI_toInt (by omega), nI_toInt (by omega), Int.bmod_eq_of_le (by omega) (by omega)]
    omega
  · exact q
set_option maxHeartbeats 8000000 in
theorem law_loop {E : Ev} {a a2 : Nat → Nat} {d d2 : Nat → ClassId} {b L : Nat} {xs : Nat → Int32} (G : CX E RLw cL_law 4) (Kx : KX E (xt d)) (Km : KX E (mt d2)) (hX : va_X b L xs E.s E.s.heap) (hbl : b < E.s.heap.size) (hbA : ¬ E.A b) (hL : L ≤ 320) (hfr : 6 ≤ E.R.frames) (hlo : 139 ≤ E.R.locals) (hret : ∀ (pc : Nat) (ls : Array Slot) (H : Heap) (locs : List Loc) (w : va_W), decode cL_law pc = .ok (.ireturn, 1) → HH E w H locs → WE E H locs pc ls [.int (nI 1)]) :
    ∀ (M : Nat) (σ τ : St) (v : Vw) (i : Nat) (H : Heap) (locs : List Loc) (ls : Array Slot), HH E (xw a d σ ++ mw a2 d2 τ) H locs → XI σ v → MI τ v → i ≤ L → L - i < M → lv_has ls 4 [(0, .ref b), (1, .ref (a 0)), (2, .ref (a2 0)), (3, .int (nI i))] → WE E H locs 18 ls [] := by
  intro M
  induction M with
  | zero => exact fun σ τ v i H locs ls _ _ _ _ q => absurd q (Nat.not_lt_zero _)
  | succ M ih =>
    intro σ τ v i H locs ls hH hxi hmi hi hM hl
    have hbd := hxi.1.ok.bd
    have hnh := nh_le v
    refine r_iload_n G dL_law_18 rfl (lv_at hl 3 rfl) ?_
    refine r_aload_n G dL_law_19 rfl (lv_at hl 0 rfl) ?_
    refine l_slen G hX hbl hbA hH dL_law_20 ?_
    refine r_iconst G (nI 5) dL_law_21 (by decide) ?_
    refine r_isub G dL_law_22 ?_
    refine r_icmp_gt G 345 dL_law_23 (by decide) (fun c23 => ?_) (fun c23 => ?_)
    · refine r_iconst G (nI 1) dL_law_345 (by decide) ?_
      exact hret _ _ _ _ _ dL_law_346 hH
    · have h5 := le5 hL (by omega) c23
      refine r_aload_n G dL_law_26 rfl (lv_at hl 0 rfl) ?_
      refine r_iload_n G dL_law_27 rfl (lv_at hl 3 rfl) ?_
      refine l_sld G hX hbl hbA hL hH (by omega) dL_law_28 ?_
      refine r_bipush G (nI 7) dL_law_29 (by decide) ?_
      refine r_iand G dL_law_31 ?_
      obtain ⟨j, hj, ej⟩ := pk_andE (xs i) (m := nI 7) 3 (by decide)
      refine r_toi (y := nI j) ej ?_
      have hj : j < 8 := hj
      rcases (show j = 0 ∨ j = 1 ∨ j = 2 ∨ j = 3 ∨ j = 4 ∨ j = 5 ∨ j = 6 ∨ j = 7 by omega) with rfl | rfl | rfl | rfl | rfl | rfl | rfl | rfl
      · refine r_sw G (off := 48) 80 dL_law_32 (by decide) (by decide) (by decide) (by decide) ?_
        refine r_aload_n G dL_law_80 rfl (lv_at hl 1 rfl) ?_
        refine r_aload_n G dL_law_81 rfl (lv_at hl 0 rfl) ?_
        refine r_iload_n G dL_law_82 rfl (lv_at hl 3 rfl) ?_
        refine r_iconst G (nI 1) dL_law_83 (by decide) ?_
        refine r_iaddN G dL_law_84 ?_
        refine l_sld G hX hbl hbA hL hH (by omega) dL_law_85 ?_
        refine lxcall_i G Kx hH rfl (X_size E.l E.D a d (v := v) hxi) q99 q100 q101 q102 rfl ⟨by omega, by omega⟩ hl.1 (rest := []) rfl (Nat.le_of_ble_eq_true rfl) dL_law_86 (fun r σ1 H locs hH hp => ?_)
        obtain ⟨rfl, gx⟩ := hp
        refine r_aload_n G dL_law_89 rfl (lv_at hl 2 rfl) ?_
        refine r_aload_n G dL_law_90 rfl (lv_at hl 0 rfl) ?_
        refine r_iload_n G dL_law_91 rfl (lv_at hl 3 rfl) ?_
        refine r_iconst G (nI 1) dL_law_92 (by decide) ?_
        refine r_iaddN G dL_law_93 ?_
        refine l_sld G hX hbl hbA hL hH (by omega) dL_law_94 ?_
        refine lmcall_i G Km hH rfl (M_size E.l E.D a2 d2 (v := v) hmi) q241 q242 q243 q244 rfl ⟨by omega, by omega⟩ hl.1 (rest := [.int (bI (okN (xs (i + 1))))]) rfl (Nat.le_of_ble_eq_true rfl) dL_law_95 (fun r τ1 H locs hH hp => ?_)
        obtain ⟨rfl, gm⟩ := hp
        refine r_icmp_eq G 339 dL_law_98 (by decide) (fun c98 => ?_) (fun c98 => ?_)
        · refine r_iinc G (k := 3) (nI (i + 5)) [(3, .int (nI (i + 5))), (0, .ref b), (1, .ref (a 0)), (2, .ref (a2 0))] dL_law_339 hl rfl (inc5 _) (by decide) rfl (fun ls hl => ?_)
          refine r_goto G 18 dL_law_342 (by decide) ?_
          exact ih _ _ _ _ H locs ls hH gx gm (by omega) (by omega) (lv_sub hl [1, 2, 3, 0] rfl)
        · exact absurd rfl c98
      · refine r_sw G (off := 71) 103 dL_law_32 (by decide) (by decide) (by decide) (by decide) ?_
        refine r_aload_n G dL_law_103 rfl (lv_at hl 1 rfl) ?_
        refine r_aload_n G dL_law_104 rfl (lv_at hl 0 rfl) ?_
        refine r_iload_n G dL_law_105 rfl (lv_at hl 3 rfl) ?_
        refine r_iconst G (nI 1) dL_law_106 (by decide) ?_
        refine r_iaddN G dL_law_107 ?_
        refine l_sld G hX hbl hbA hL hH (by omega) dL_law_108 ?_
        refine r_aload_n G dL_law_109 rfl (lv_at hl 0 rfl) ?_
        refine r_iload_n G dL_law_110 rfl (lv_at hl 3 rfl) ?_
        refine r_iconst G (nI 2) dL_law_111 (by decide) ?_
        refine r_iaddN G dL_law_112 ?_
        refine l_sld G hX hbl hbA hL hH (by omega) dL_law_113 ?_
        refine r_if_eq G 121 dL_law_114 (by decide) (fun c114 => ?_) (fun c114 => ?_)
        · refine r_iconst G (nI 0) dL_law_121 (by decide) ?_
          refine r_toi (y := bI (decide (xs (i + 2) ≠ 0))) (bI_f (fun h => h c114)) ?_
          refine lxcall_i G Kx hH rfl (X_heat E.l E.D a d (v := v) hxi) q103 q104 q105 q106 rfl ⟨by omega, by omega⟩ hl.1 (rest := []) rfl (Nat.le_of_ble_eq_true rfl) dL_law_122 (fun r σ1 H locs hH hp => ?_)
          obtain ⟨rfl, gx⟩ := hp
          refine r_aload_n G dL_law_125 rfl (lv_at hl 2 rfl) ?_
          refine r_aload_n G dL_law_126 rfl (lv_at hl 0 rfl) ?_
          refine r_iload_n G dL_law_127 rfl (lv_at hl 3 rfl) ?_
          refine r_iconst G (nI 1) dL_law_128 (by decide) ?_
          refine r_iaddN G dL_law_129 ?_
          refine l_sld G hX hbl hbA hL hH (by omega) dL_law_130 ?_
          refine r_aload_n G dL_law_131 rfl (lv_at hl 0 rfl) ?_
          refine r_iload_n G dL_law_132 rfl (lv_at hl 3 rfl) ?_
          refine r_iconst G (nI 2) dL_law_133 (by decide) ?_
          refine r_iaddN G dL_law_134 ?_
          refine l_sld G hX hbl hbA hL hH (by omega) dL_law_135 ?_
          refine r_if_eq G 143 dL_law_136 (by decide) (fun c136 => ?_) (fun c136 => ?_)
          · refine r_iconst G (nI 0) dL_law_143 (by decide) ?_
            refine r_toi (y := bI (decide (xs (i + 2) ≠ 0))) (bI_f (fun h => h c136)) ?_
            refine lmcall_i G Km hH rfl (M_heat E.l E.D a2 d2 (v := v) hmi) q245 q246 q247 q248 rfl ⟨by omega, by omega⟩ hl.1 (rest := [.int (bI (inB v.nb (xs (i + 1))))]) rfl (Nat.le_of_ble_eq_true rfl) dL_law_144 (fun r τ1 H locs hH hp => ?_)
            obtain ⟨rfl, gm⟩ := hp
            refine r_icmp_eq G 339 dL_law_147 (by decide) (fun c147 => ?_) (fun c147 => ?_)
            · refine r_iinc G (k := 3) (nI (i + 5)) [(3, .int (nI (i + 5))), (0, .ref b), (1, .ref (a 0)), (2, .ref (a2 0))] dL_law_339 hl rfl (inc5 _) (by decide) rfl (fun ls hl => ?_)
              refine r_goto G 18 dL_law_342 (by decide) ?_
              exact ih _ _ _ _ H locs ls hH gx gm (by omega) (by omega) (lv_sub hl [1, 2, 3, 0] rfl)
            · exact absurd rfl c147
          · refine r_iconst G (nI 1) dL_law_139 (by decide) ?_
            refine r_goto G 144 dL_law_140 (by decide) ?_
            refine r_toi (y := bI (decide (xs (i + 2) ≠ 0))) (bI_t c136) ?_
            refine lmcall_i G Km hH rfl (M_heat E.l E.D a2 d2 (v := v) hmi) q245 q246 q247 q248 rfl ⟨by omega, by omega⟩ hl.1 (rest := [.int (bI (inB v.nb (xs (i + 1))))]) rfl (Nat.le_of_ble_eq_true rfl) dL_law_144 (fun r τ1 H locs hH hp => ?_)
            obtain ⟨rfl, gm⟩ := hp
            refine r_icmp_eq G 339 dL_law_147 (by decide) (fun c147 => ?_) (fun c147 => ?_)
            · refine r_iinc G (k := 3) (nI (i + 5)) [(3, .int (nI (i + 5))), (0, .ref b), (1, .ref (a 0)), (2, .ref (a2 0))] dL_law_339 hl rfl (inc5 _) (by decide) rfl (fun ls hl => ?_)
              refine r_goto G 18 dL_law_342 (by decide) ?_
              exact ih _ _ _ _ H locs ls hH gx gm (by omega) (by omega) (lv_sub hl [1, 2, 3, 0] rfl)
            · exact absurd rfl c147
        · refine r_iconst G (nI 1) dL_law_117 (by decide) ?_
          refine r_goto G 122 dL_law_118 (by decide) ?_
          refine r_toi (y := bI (decide (xs (i + 2) ≠ 0))) (bI_t c114) ?_
          refine lxcall_i G Kx hH rfl (X_heat E.l E.D a d (v := v) hxi) q103 q104 q105 q106 rfl ⟨by omega, by omega⟩ hl.1 (rest := []) rfl (Nat.le_of_ble_eq_true rfl) dL_law_122 (fun r σ1 H locs hH hp => ?_)
          obtain ⟨rfl, gx⟩ := hp
          refine r_aload_n G dL_law_125 rfl (lv_at hl 2 rfl) ?_
          refine r_aload_n G dL_law_126 rfl (lv_at hl 0 rfl) ?_
          refine r_iload_n G dL_law_127 rfl (lv_at hl 3 rfl) ?_
          refine r_iconst G (nI 1) dL_law_128 (by decide) ?_
          refine r_iaddN G dL_law_129 ?_
          refine l_sld G hX hbl hbA hL hH (by omega) dL_law_130 ?_
          refine r_aload_n G dL_law_131 rfl (lv_at hl 0 rfl) ?_
          refine r_iload_n G dL_law_132 rfl (lv_at hl 3 rfl) ?_
          refine r_iconst G (nI 2) dL_law_133 (by decide) ?_
          refine r_iaddN G dL_law_134 ?_
          refine l_sld G hX hbl hbA hL hH (by omega) dL_law_135 ?_
          refine r_if_eq G 143 dL_law_136 (by decide) (fun c136 => ?_) (fun c136 => ?_)
          · refine r_iconst G (nI 0) dL_law_143 (by decide) ?_
            refine r_toi (y := bI (decide (xs (i + 2) ≠ 0))) (bI_f (fun h => h c136)) ?_
            refine lmcall_i G Km hH rfl (M_heat E.l E.D a2 d2 (v := v) hmi) q245 q246 q247 q248 rfl ⟨by omega, by omega⟩ hl.1 (rest := [.int (bI (inB v.nb (xs (i + 1))))]) rfl (Nat.le_of_ble_eq_true rfl) dL_law_144 (fun r τ1 H locs hH hp => ?_)
            obtain ⟨rfl, gm⟩ := hp
            refine r_icmp_eq G 339 dL_law_147 (by decide) (fun c147 => ?_) (fun c147 => ?_)
            · refine r_iinc G (k := 3) (nI (i + 5)) [(3, .int (nI (i + 5))), (0, .ref b), (1, .ref (a 0)), (2, .ref (a2 0))] dL_law_339 hl rfl (inc5 _) (by decide) rfl (fun ls hl => ?_)
              refine r_goto G 18 dL_law_342 (by decide) ?_
              exact ih _ _ _ _ H locs ls hH gx gm (by omega) (by omega) (lv_sub hl [1, 2, 3, 0] rfl)
            · exact absurd rfl c147
          · refine r_iconst G (nI 1) dL_law_139 (by decide) ?_
            refine r_goto G 144 dL_law_140 (by decide) ?_
            refine r_toi (y := bI (decide (xs (i + 2) ≠ 0))) (bI_t c136) ?_
            refine lmcall_i G Km hH rfl (M_heat E.l E.D a2 d2 (v := v) hmi) q245 q246 q247 q248 rfl ⟨by omega, by omega⟩ hl.1 (rest := [.int (bI (inB v.nb (xs (i + 1))))]) rfl (Nat.le_of_ble_eq_true rfl) dL_law_144 (fun r τ1 H locs hH hp => ?_)
            obtain ⟨rfl, gm⟩ := hp
            refine r_icmp_eq G 339 dL_law_147 (by decide) (fun c147 => ?_) (fun c147 => ?_)
            · refine r_iinc G (k := 3) (nI (i + 5)) [(3, .int (nI (i + 5))), (0, .ref b), (1, .ref (a 0)), (2, .ref (a2 0))] dL_law_339 hl rfl (inc5 _) (by decide) rfl (fun ls hl => ?_)
              refine r_goto G 18 dL_law_342 (by decide) ?_
              exact ih _ _ _ _ H locs ls hH gx gm (by omega) (by omega) (lv_sub hl [1, 2, 3, 0] rfl)
            · exact absurd rfl c147
      · refine r_sw G (off := 120) 152 dL_law_32 (by decide) (by decide) (by decide) (by decide) ?_
        refine r_aload_n G dL_law_152 rfl (lv_at hl 1 rfl) ?_
        refine r_aload_n G dL_law_153 rfl (lv_at hl 0 rfl) ?_
        refine r_iload_n G dL_law_154 rfl (lv_at hl 3 rfl) ?_
        refine r_iconst G (nI 1) dL_law_155 (by decide) ?_
        refine r_iaddN G dL_law_156 ?_
        refine l_sld G hX hbl hbA hL hH (by omega) dL_law_157 ?_
        refine r_aload_n G dL_law_158 rfl (lv_at hl 0 rfl) ?_
        refine r_iload_n G dL_law_159 rfl (lv_at hl 3 rfl) ?_
        refine r_iconst G (nI 2) dL_law_160 (by decide) ?_
        refine r_iaddN G dL_law_161 ?_
        refine l_sld G hX hbl hbA hL hH (by omega) dL_law_162 ?_
        refine r_aload_n G dL_law_163 rfl (lv_at hl 0 rfl) ?_
        refine r_iload_n G dL_law_164 rfl (lv_at hl 3 rfl) ?_
        refine r_iconst G (nI 3) dL_law_165 (by decide) ?_
        refine r_iaddN G dL_law_166 ?_
        refine l_sld G hX hbl hbA hL hH (by omega) dL_law_167 ?_
        refine r_aload_n G dL_law_168 rfl (lv_at hl 0 rfl) ?_
        refine r_iload_n G dL_law_169 rfl (lv_at hl 3 rfl) ?_
        refine r_iconst G (nI 4) dL_law_170 (by decide) ?_
        refine r_iaddN G dL_law_171 ?_
        refine l_sld G hX hbl hbA hL hH (by omega) dL_law_172 ?_
        refine r_if_eq G 180 dL_law_173 (by decide) (fun c173 => ?_) (fun c173 => ?_)
        · refine r_iconst G (nI 0) dL_law_180 (by decide) ?_
          refine r_toi (y := bI (decide (xs (i + 4) ≠ 0))) (bI_f (fun h => h c173)) ?_
          refine lxcall_l G Kx hH rfl (X_way E.l E.D a d (v := v) hxi) q111 q112 q113 q114 rfl ⟨by omega, by omega⟩ hl.1 (rest := []) rfl (Nat.le_of_ble_eq_true rfl) dL_law_181 (fun r σ1 H locs hH hp => ?_)
          obtain ⟨rfl, gx⟩ := hp
          refine r_aload_n G dL_law_184 rfl (lv_at hl 2 rfl) ?_
          refine r_aload_n G dL_law_185 rfl (lv_at hl 0 rfl) ?_
          refine r_iload_n G dL_law_186 rfl (lv_at hl 3 rfl) ?_
          refine r_iconst G (nI 1) dL_law_187 (by decide) ?_
          refine r_iaddN G dL_law_188 ?_
          refine l_sld G hX hbl hbA hL hH (by omega) dL_law_189 ?_
          refine r_aload_n G dL_law_190 rfl (lv_at hl 0 rfl) ?_
          refine r_iload_n G dL_law_191 rfl (lv_at hl 3 rfl) ?_
          refine r_iconst G (nI 2) dL_law_192 (by decide) ?_
          refine r_iaddN G dL_law_193 ?_
          refine l_sld G hX hbl hbA hL hH (by omega) dL_law_194 ?_
          refine r_aload_n G dL_law_195 rfl (lv_at hl 0 rfl) ?_
          refine r_iload_n G dL_law_196 rfl (lv_at hl 3 rfl) ?_
          refine r_iconst G (nI 3) dL_law_197 (by decide) ?_
          refine r_iaddN G dL_law_198 ?_
          refine l_sld G hX hbl hbA hL hH (by omega) dL_law_199 ?_
          refine r_aload_n G dL_law_200 rfl (lv_at hl 0 rfl) ?_
          refine r_iload_n G dL_law_201 rfl (lv_at hl 3 rfl) ?_
          refine r_iconst G (nI 4) dL_law_202 (by decide) ?_
          refine r_iaddN G dL_law_203 ?_
          refine l_sld G hX hbl hbA hL hH (by omega) dL_law_204 ?_
          refine r_if_eq G 212 dL_law_205 (by decide) (fun c205 => ?_) (fun c205 => ?_)
          · refine r_iconst G (nI 0) dL_law_212 (by decide) ?_
            refine r_toi (y := bI (decide (xs (i + 4) ≠ 0))) (bI_f (fun h => h c205)) ?_
            refine lmcall_l G Km hH rfl (M_way E.l E.D a2 d2 (v := v) hmi) q253 q254 q255 q256 rfl ⟨by omega, by omega⟩ hl.1 (rest := [.long ((v.way (xs (i + 1)) (xs (i + 2)) (xs (i + 3)) (decide (xs (i + 4) ≠ 0))).2)]) rfl (Nat.le_of_ble_eq_true rfl) dL_law_213 (fun r τ1 H locs hH hp => ?_)
            obtain ⟨rfl, gm⟩ := hp
            refine l_cmp_eq G 339 dL_law_216 dL_law_217 (by decide) (fun c216 => ?_) (fun c216 => ?_)
            · refine r_iinc G (k := 3) (nI (i + 5)) [(3, .int (nI (i + 5))), (0, .ref b), (1, .ref (a 0)), (2, .ref (a2 0))] dL_law_339 hl rfl (inc5 _) (by decide) rfl (fun ls hl => ?_)
              refine r_goto G 18 dL_law_342 (by decide) ?_
              exact ih _ _ _ _ H locs ls hH gx gm (by omega) (by omega) (lv_sub hl [1, 2, 3, 0] rfl)
            · exact absurd rfl c216
          · refine r_iconst G (nI 1) dL_law_208 (by decide) ?_
            refine r_goto G 213 dL_law_209 (by decide) ?_
            refine r_toi (y := bI (decide (xs (i + 4) ≠ 0))) (bI_t c205) ?_
            refine lmcall_l G Km hH rfl (M_way E.l E.D a2 d2 (v := v) hmi) q253 q254 q255 q256 rfl ⟨by omega, by omega⟩ hl.1 (rest := [.long ((v.way (xs (i + 1)) (xs (i + 2)) (xs (i + 3)) (decide (xs (i + 4) ≠ 0))).2)]) rfl (Nat.le_of_ble_eq_true rfl) dL_law_213 (fun r τ1 H locs hH hp => ?_)
            obtain ⟨rfl, gm⟩ := hp
            refine l_cmp_eq G 339 dL_law_216 dL_law_217 (by decide) (fun c216 => ?_) (fun c216 => ?_)
            · refine r_iinc G (k := 3) (nI (i + 5)) [(3, .int (nI (i + 5))), (0, .ref b), (1, .ref (a 0)), (2, .ref (a2 0))] dL_law_339 hl rfl (inc5 _) (by decide) rfl (fun ls hl => ?_)
              refine r_goto G 18 dL_law_342 (by decide) ?_
              exact ih _ _ _ _ H locs ls hH gx gm (by omega) (by omega) (lv_sub hl [1, 2, 3, 0] rfl)
            · exact absurd rfl c216
        · refine r_iconst G (nI 1) dL_law_176 (by decide) ?_
          refine r_goto G 181 dL_law_177 (by decide) ?_
          refine r_toi (y := bI (decide (xs (i + 4) ≠ 0))) (bI_t c173) ?_
          refine lxcall_l G Kx hH rfl (X_way E.l E.D a d (v := v) hxi) q111 q112 q113 q114 rfl ⟨by omega, by omega⟩ hl.1 (rest := []) rfl (Nat.le_of_ble_eq_true rfl) dL_law_181 (fun r σ1 H locs hH hp => ?_)
          obtain ⟨rfl, gx⟩ := hp
          refine r_aload_n G dL_law_184 rfl (lv_at hl 2 rfl) ?_
          refine r_aload_n G dL_law_185 rfl (lv_at hl 0 rfl) ?_
          refine r_iload_n G dL_law_186 rfl (lv_at hl 3 rfl) ?_
          refine r_iconst G (nI 1) dL_law_187 (by decide) ?_
          refine r_iaddN G dL_law_188 ?_
          refine l_sld G hX hbl hbA hL hH (by omega) dL_law_189 ?_
          refine r_aload_n G dL_law_190 rfl (lv_at hl 0 rfl) ?_
          refine r_iload_n G dL_law_191 rfl (lv_at hl 3 rfl) ?_
          refine r_iconst G (nI 2) dL_law_192 (by decide) ?_
          refine r_iaddN G dL_law_193 ?_
          refine l_sld G hX hbl hbA hL hH (by omega) dL_law_194 ?_
          refine r_aload_n G dL_law_195 rfl (lv_at hl 0 rfl) ?_
          refine r_iload_n G dL_law_196 rfl (lv_at hl 3 rfl) ?_
          refine r_iconst G (nI 3) dL_law_197 (by decide) ?_
          refine r_iaddN G dL_law_198 ?_
          refine l_sld G hX hbl hbA hL hH (by omega) dL_law_199 ?_
          refine r_aload_n G dL_law_200 rfl (lv_at hl 0 rfl) ?_
          refine r_iload_n G dL_law_201 rfl (lv_at hl 3 rfl) ?_
          refine r_iconst G (nI 4) dL_law_202 (by decide) ?_
          refine r_iaddN G dL_law_203 ?_
          refine l_sld G hX hbl hbA hL hH (by omega) dL_law_204 ?_
          refine r_if_eq G 212 dL_law_205 (by decide) (fun c205 => ?_) (fun c205 => ?_)
          · refine r_iconst G (nI 0) dL_law_212 (by decide) ?_
            refine r_toi (y := bI (decide (xs (i + 4) ≠ 0))) (bI_f (fun h => h c205)) ?_
            refine lmcall_l G Km hH rfl (M_way E.l E.D a2 d2 (v := v) hmi) q253 q254 q255 q256 rfl ⟨by omega, by omega⟩ hl.1 (rest := [.long ((v.way (xs (i + 1)) (xs (i + 2)) (xs (i + 3)) (decide (xs (i + 4) ≠ 0))).2)]) rfl (Nat.le_of_ble_eq_true rfl) dL_law_213 (fun r τ1 H locs hH hp => ?_)
            obtain ⟨rfl, gm⟩ := hp
            refine l_cmp_eq G 339 dL_law_216 dL_law_217 (by decide) (fun c216 => ?_) (fun c216 => ?_)
            · refine r_iinc G (k := 3) (nI (i + 5)) [(3, .int (nI (i + 5))), (0, .ref b), (1, .ref (a 0)), (2, .ref (a2 0))] dL_law_339 hl rfl (inc5 _) (by decide) rfl (fun ls hl => ?_)
              refine r_goto G 18 dL_law_342 (by decide) ?_
              exact ih _ _ _ _ H locs ls hH gx gm (by omega) (by omega) (lv_sub hl [1, 2, 3, 0] rfl)
            · exact absurd rfl c216
          · refine r_iconst G (nI 1) dL_law_208 (by decide) ?_
            refine r_goto G 213 dL_law_209 (by decide) ?_
            refine r_toi (y := bI (decide (xs (i + 4) ≠ 0))) (bI_t c205) ?_
            refine lmcall_l G Km hH rfl (M_way E.l E.D a2 d2 (v := v) hmi) q253 q254 q255 q256 rfl ⟨by omega, by omega⟩ hl.1 (rest := [.long ((v.way (xs (i + 1)) (xs (i + 2)) (xs (i + 3)) (decide (xs (i + 4) ≠ 0))).2)]) rfl (Nat.le_of_ble_eq_true rfl) dL_law_213 (fun r τ1 H locs hH hp => ?_)
            obtain ⟨rfl, gm⟩ := hp
            refine l_cmp_eq G 339 dL_law_216 dL_law_217 (by decide) (fun c216 => ?_) (fun c216 => ?_)
            · refine r_iinc G (k := 3) (nI (i + 5)) [(3, .int (nI (i + 5))), (0, .ref b), (1, .ref (a 0)), (2, .ref (a2 0))] dL_law_339 hl rfl (inc5 _) (by decide) rfl (fun ls hl => ?_)
              refine r_goto G 18 dL_law_342 (by decide) ?_
              exact ih _ _ _ _ H locs ls hH gx gm (by omega) (by omega) (lv_sub hl [1, 2, 3, 0] rfl)
            · exact absurd rfl c216
      · refine r_sw G (off := 190) 222 dL_law_32 (by decide) (by decide) (by decide) (by decide) ?_
        refine r_aload_n G dL_law_222 rfl (lv_at hl 1 rfl) ?_
        refine r_aload_n G dL_law_223 rfl (lv_at hl 0 rfl) ?_
        refine r_iload_n G dL_law_224 rfl (lv_at hl 3 rfl) ?_
        refine r_iconst G (nI 1) dL_law_225 (by decide) ?_
        refine r_iaddN G dL_law_226 ?_
        refine l_sld G hX hbl hbA hL hH (by omega) dL_law_227 ?_
        refine r_aload_n G dL_law_228 rfl (lv_at hl 0 rfl) ?_
        refine r_iload_n G dL_law_229 rfl (lv_at hl 3 rfl) ?_
        refine r_iconst G (nI 2) dL_law_230 (by decide) ?_
        refine r_iaddN G dL_law_231 ?_
        refine l_sld G hX hbl hbA hL hH (by omega) dL_law_232 ?_
        refine lxcall_l G Kx hH rfl (X_count E.l E.D a d (v := v) hxi) q123 q124 q125 q126 rfl ⟨by omega, by omega⟩ hl.1 (rest := []) rfl (Nat.le_of_ble_eq_true rfl) dL_law_233 (fun r σ1 H locs hH hp => ?_)
        obtain ⟨rfl, gx⟩ := hp
        refine r_aload_n G dL_law_236 rfl (lv_at hl 2 rfl) ?_
        refine r_aload_n G dL_law_237 rfl (lv_at hl 0 rfl) ?_
        refine r_iload_n G dL_law_238 rfl (lv_at hl 3 rfl) ?_
        refine r_iconst G (nI 1) dL_law_239 (by decide) ?_
        refine r_iaddN G dL_law_240 ?_
        refine l_sld G hX hbl hbA hL hH (by omega) dL_law_241 ?_
        refine r_aload_n G dL_law_242 rfl (lv_at hl 0 rfl) ?_
        refine r_iload_n G dL_law_243 rfl (lv_at hl 3 rfl) ?_
        refine r_iconst G (nI 2) dL_law_244 (by decide) ?_
        refine r_iaddN G dL_law_245 ?_
        refine l_sld G hX hbl hbA hL hH (by omega) dL_law_246 ?_
        refine lmcall_l G Km hH rfl (M_count E.l E.D a2 d2 (v := v) hmi) q267 q268 q269 q270 rfl ⟨by omega, by omega⟩ hl.1 (rest := [.long (aCnt v (xs (i + 1)) (xs (i + 2)))]) rfl (Nat.le_of_ble_eq_true rfl) dL_law_247 (fun r τ1 H locs hH hp => ?_)
        obtain ⟨rfl, gm⟩ := hp
        refine l_cmp_eq G 339 dL_law_250 dL_law_251 (by decide) (fun c250 => ?_) (fun c250 => ?_)
        · refine r_iinc G (k := 3) (nI (i + 5)) [(3, .int (nI (i + 5))), (0, .ref b), (1, .ref (a 0)), (2, .ref (a2 0))] dL_law_339 hl rfl (inc5 _) (by decide) rfl (fun ls hl => ?_)
          refine r_goto G 18 dL_law_342 (by decide) ?_
          exact ih _ _ _ _ H locs ls hH gx gm (by omega) (by omega) (lv_sub hl [1, 2, 3, 0] rfl)
        · exact absurd rfl c250
      · refine r_sw G (off := 224) 256 dL_law_32 (by decide) (by decide) (by decide) (by decide) ?_
        refine r_aload_n G dL_law_256 rfl (lv_at hl 1 rfl) ?_
        refine lxcall_i G Kx hH rfl (X_length E.l E.D a d (v := v) hxi) q127 q128 q129 q130 rfl ⟨by omega, by omega⟩ hl.1 (rest := []) rfl (Nat.le_of_ble_eq_true rfl) dL_law_257 (fun r σ1 H locs hH hp => ?_)
        obtain ⟨rfl, gx⟩ := hp
        refine r_aload_n G dL_law_260 rfl (lv_at hl 2 rfl) ?_
        refine lmcall_i G Km hH rfl (M_length E.l E.D a2 d2 (v := v) hmi) q271 q272 q273 q274 rfl ⟨by omega, by omega⟩ hl.1 (rest := [.int (nI v.nh)]) rfl (Nat.le_of_ble_eq_true rfl) dL_law_261 (fun r τ1 H locs hH hp => ?_)
        obtain ⟨rfl, gm⟩ := hp
        refine n_icmp_eq G (by omega) (by omega) 339 dL_law_264 (by decide) (fun c264 => ?_) (fun c264 => ?_)
        · refine r_iinc G (k := 3) (nI (i + 5)) [(3, .int (nI (i + 5))), (0, .ref b), (1, .ref (a 0)), (2, .ref (a2 0))] dL_law_339 hl rfl (inc5 _) (by decide) rfl (fun ls hl => ?_)
          refine r_goto G 18 dL_law_342 (by decide) ?_
          exact ih _ _ _ _ H locs ls hH gx gm (by omega) (by omega) (lv_sub hl [1, 2, 3, 0] rfl)
        · exact absurd rfl c264
      · refine r_sw G (off := 237) 269 dL_law_32 (by decide) (by decide) (by decide) (by decide) ?_
        refine r_aload_n G dL_law_269 rfl (lv_at hl 1 rfl) ?_
        refine r_aload_n G dL_law_270 rfl (lv_at hl 0 rfl) ?_
        refine r_iload_n G dL_law_271 rfl (lv_at hl 3 rfl) ?_
        refine r_iconst G (nI 1) dL_law_272 (by decide) ?_
        refine r_iaddN G dL_law_273 ?_
        refine l_sld G hX hbl hbA hL hH (by omega) dL_law_274 ?_
        refine lxcall_i G Kx hH rfl (X_row E.l E.D a d (v := v) hxi) q167 q168 q169 q170 rfl ⟨by omega, by omega⟩ hl.1 (rest := []) rfl (Nat.le_of_ble_eq_true rfl) dL_law_275 (fun r σ1 H locs hH hp => ?_)
        obtain ⟨rfl, gx⟩ := hp
        refine r_aload_n G dL_law_278 rfl (lv_at hl 2 rfl) ?_
        refine r_aload_n G dL_law_279 rfl (lv_at hl 0 rfl) ?_
        refine r_iload_n G dL_law_280 rfl (lv_at hl 3 rfl) ?_
        refine r_iconst G (nI 1) dL_law_281 (by decide) ?_
        refine r_iaddN G dL_law_282 ?_
        refine l_sld G hX hbl hbA hL hH (by omega) dL_law_283 ?_
        refine lmcall_i G Km hH rfl (M_row E.l E.D a2 d2 (v := v) hmi) q299 q300 q301 q302 rfl ⟨by omega, by omega⟩ hl.1 (rest := [.int (aRow v (xs (i + 1)))]) rfl (Nat.le_of_ble_eq_true rfl) dL_law_284 (fun r τ1 H locs hH hp => ?_)
        obtain ⟨rfl, gm⟩ := hp
        refine r_icmp_eq G 339 dL_law_287 (by decide) (fun c287 => ?_) (fun c287 => ?_)
        · refine r_iinc G (k := 3) (nI (i + 5)) [(3, .int (nI (i + 5))), (0, .ref b), (1, .ref (a 0)), (2, .ref (a2 0))] dL_law_339 hl rfl (inc5 _) (by decide) rfl (fun ls hl => ?_)
          refine r_goto G 18 dL_law_342 (by decide) ?_
          exact ih _ _ _ _ H locs ls hH gx gm (by omega) (by omega) (lv_sub hl [1, 2, 3, 0] rfl)
        · exact absurd rfl c287
      · refine r_sw G (off := 260) 292 dL_law_32 (by decide) (by decide) (by decide) (by decide) ?_
        refine r_aload_n G dL_law_292 rfl (lv_at hl 1 rfl) ?_
        refine r_aload_n G dL_law_293 rfl (lv_at hl 0 rfl) ?_
        refine r_iload_n G dL_law_294 rfl (lv_at hl 3 rfl) ?_
        refine r_iconst G (nI 1) dL_law_295 (by decide) ?_
        refine r_iaddN G dL_law_296 ?_
        refine l_sld G hX hbl hbA hL hH (by omega) dL_law_297 ?_
        refine lxcall_l G Kx hH rfl (X_weight E.l E.D a d (v := v) hxi) q171 q172 q173 q174 rfl ⟨by omega, by omega⟩ hl.1 (rest := []) rfl (Nat.le_of_ble_eq_true rfl) dL_law_298 (fun r σ1 H locs hH hp => ?_)
        obtain ⟨rfl, gx⟩ := hp
        refine r_aload_n G dL_law_301 rfl (lv_at hl 2 rfl) ?_
        refine r_aload_n G dL_law_302 rfl (lv_at hl 0 rfl) ?_
        refine r_iload_n G dL_law_303 rfl (lv_at hl 3 rfl) ?_
        refine r_iconst G (nI 1) dL_law_304 (by decide) ?_
        refine r_iaddN G dL_law_305 ?_
        refine l_sld G hX hbl hbA hL hH (by omega) dL_law_306 ?_
        refine lmcall_l G Km hH rfl (M_weight E.l E.D a2 d2 (v := v) hmi) q303 q304 q305 q306 rfl ⟨by omega, by omega⟩ hl.1 (rest := [.long (aWt v (xs (i + 1)))]) rfl (Nat.le_of_ble_eq_true rfl) dL_law_307 (fun r τ1 H locs hH hp => ?_)
        obtain ⟨rfl, gm⟩ := hp
        refine l_cmp_eq G 339 dL_law_310 dL_law_311 (by decide) (fun c310 => ?_) (fun c310 => ?_)
        · refine r_iinc G (k := 3) (nI (i + 5)) [(3, .int (nI (i + 5))), (0, .ref b), (1, .ref (a 0)), (2, .ref (a2 0))] dL_law_339 hl rfl (inc5 _) (by decide) rfl (fun ls hl => ?_)
          refine r_goto G 18 dL_law_342 (by decide) ?_
          exact ih _ _ _ _ H locs ls hH gx gm (by omega) (by omega) (lv_sub hl [1, 2, 3, 0] rfl)
        · exact absurd rfl c310
      · refine r_sw G (off := 284) 316 dL_law_32 (by decide) (by decide) (by decide) (by decide) ?_
        refine r_aload_n G dL_law_316 rfl (lv_at hl 1 rfl) ?_
        refine r_aload_n G dL_law_317 rfl (lv_at hl 0 rfl) ?_
        refine r_iload_n G dL_law_318 rfl (lv_at hl 3 rfl) ?_
        refine r_iconst G (nI 1) dL_law_319 (by decide) ?_
        refine r_iaddN G dL_law_320 ?_
        refine l_sld G hX hbl hbA hL hH (by omega) dL_law_321 ?_
        refine lxcall_i G Kx hH rfl (X_chain E.l E.D a d (v := v) hxi) q175 q176 q177 q178 rfl ⟨by omega, by omega⟩ hl.1 (rest := []) rfl (Nat.le_of_ble_eq_true rfl) dL_law_322 (fun r σ1 H locs hH hp => ?_)
        obtain ⟨rfl, gx⟩ := hp
        refine r_aload_n G dL_law_325 rfl (lv_at hl 2 rfl) ?_
        refine r_aload_n G dL_law_326 rfl (lv_at hl 0 rfl) ?_
        refine r_iload_n G dL_law_327 rfl (lv_at hl 3 rfl) ?_
        refine r_iconst G (nI 1) dL_law_328 (by decide) ?_
        refine r_iaddN G dL_law_329 ?_
        refine l_sld G hX hbl hbA hL hH (by omega) dL_law_330 ?_
        refine lmcall_i G Km hH rfl (M_chain E.l E.D a2 d2 (v := v) hmi) q307 q308 q309 q310 rfl ⟨by omega, by omega⟩ hl.1 (rest := [.int (aCh v (xs (i + 1)))]) rfl (Nat.le_of_ble_eq_true rfl) dL_law_331 (fun r τ1 H locs hH hp => ?_)
        obtain ⟨rfl, gm⟩ := hp
        refine r_icmp_eq G 339 dL_law_334 (by decide) (fun c334 => ?_) (fun c334 => ?_)
        · refine r_iinc G (k := 3) (nI (i + 5)) [(3, .int (nI (i + 5))), (0, .ref b), (1, .ref (a 0)), (2, .ref (a2 0))] dL_law_339 hl rfl (inc5 _) (by decide) rfl (fun ls hl => ?_)
          refine r_goto G 18 dL_law_342 (by decide) ?_
          exact ih _ _ _ _ H locs ls hH gx gm (by omega) (by omega) (lv_sub hl [1, 2, 3, 0] rfl)
        · exact absurd rfl c334
end
section
set_option maxRecDepth 100000
/-! THE CLAIM OUT OF ONE WALK OF THE LAW'S BODY. Your part is whole_start (and what it stands on); all else here is the same for every law, but numbers. -/
def R_law : String := "BlockRowsLaw"
def lw_P (b : Addr) (xs : List Int32) (args : Array Value) (s : State) : Prop := args = #[.ref b] ∧ s.IntsAt b xs ∧ xs.length ≤ 320 ∧ (Jvm.Cond.and given_1 narrow_1).before args s = true
def lw_Q (_ : Array Value) (s : State) (o : Outcome) (t : State) : Prop := o = .returned (some (.int 1)) ∧ Framed s o t [] 600000 7302250
def lw_Z (below : List Frame) (a : Array Value) (s : State) : State → Prop := fun t => ∃ o, t.status = .running ∧ Ended t below o ∧ lw_Q a s o t
/-- the law's own end, with 1 on the stack, nothing written that was there before, its room as the claim has it -/
theorem lw_ret {p : Program} {l : Launch} {e : Env} {s : State} {m : MethodId} {below : List Frame} {meth : Method} {c : Code} {b : Nat} (hx : p.tables.exec = Jvm.exec) (hb : c.code = code) (hr : meth.sig.returnType = ret) (hlocks : meth.locks = false) {pc : Nat} {H : Heap} {ls : Array Slot} (hdg : decode code pc = .ok (.ireturn, 1)) : W p l e room_1 s m #[Value.ref b] below meth c H [] 600000 7302250 (lw_Z below #[Value.ref b] s) (F0 m pc ls [.int 1]) := by
  intro T hT X
  obtain ⟨fs, hret, hrun, hended, hW, hframe⟩ := X.leave (v := some (.int 1)) (hlocks := hlocks) (fun h => by rw [hr] at h; cases h)
  have hmeth' : T.vm.method? m = some meth := X.method'
  refine ⟨T.setFrames fs, ?_, .returned (some (.int 1)), hrun, hended, rfl, ⟨_, rfl⟩, hW, hframe⟩
  jvm_step X.here [X.here.top, hx, hb, hdg, hmeth', hr, ret, narrow_b1]
  (try refine ⟨rfl, ?_⟩); (try refine ⟨rfl, ?_⟩)
  first | (intro acts; rw [hret _ acts rfl rfl rfl]) | rw [hret _ _ rfl rfl rfl]
  exact Steps.refl _
/-- what holds at the law's entry: the machine, the code, the tables' words (any of lw_tbl by 'hts w (by decide +kernel)'), the script of L ints xs at the cell b, what the Statement gives of the start (any of its parts by flat_of_before) -/
def lw_At (p : Program) (s : State) (m : MethodId) (meth : Method) (c : Code) (b L : Nat) (xs : Nat → Int32) : Prop :=
  p.tables.exec = Jvm.exec ∧ c.code = code ∧ meth.sig.returnType = ret ∧ c.maxLocals = 4 ∧ s.vm.findClass R_law = some m.cls ∧ (∀ w ∈ lw_tbl, w.before #[Value.ref b] s = true) ∧ va_X b L xs s s.heap ∧ b < s.heap.size ∧ meth.locks = false ∧ (Jvm.Cond.and given_1 narrow_1).before #[Value.ref b] s = true
-- ===== YOUR PART BEGINS =====
set_option maxHeartbeats 8000000 in
/-- YOUR PART: from the entry, for every script of at most 320 ints, the law comes to its end with true -/
theorem whole_start {p : Program} {e : Env} {s : State} {m : MethodId} {below : List Frame} {meth : Method} {c : Code} (l : Launch) {b L : Nat} {xs : Nat → Int32} (hL : L ≤ 320) (C0 : lw_At p s m meth c b L xs) : W p l e room_1 s m #[Value.ref b] below meth c s.heap [] 0 0 (lw_Z below #[Value.ref b] s) (entryFrame m ([Value.ref b] : List Value).toArray 4) := by
  obtain ⟨hx, hb, hr, hml, hown, hts0, hX, hbl, hlocks, hgv⟩ := id C0
  have hts : ∀ w ∈ lw_all, w.before #[Value.ref b] s = true := fun w h => hts0 w (lw_all_tbl h)
  have hA : ∀ q : Nat, s.heap.size ≤ q → (fun q : Nat => s.heap.size ≤ q) q := fun _ h => h
  have hbA : ¬ (fun q : Nat => s.heap.size ≤ q) b := Nat.not_le.mpr hbl
  obtain ⟨c0, iS0, hKn0⟩ := u_known (C := RX0) (T := TX0) (N := 21) (n := 21) hts in_X0 (hts _ q23)
  obtain ⟨c1, iS1, hKn1⟩ := u_known (C := RX1) (T := TX1) (N := 18) (n := 18) hts in_X1 (hts _ q180)
  obtain ⟨D, hKc⟩ : ∃ D : va_G, ∀ (k : Nat) (q : vw_C), vwCl[k]? = some q → u_Kn s q.1 q.2.1 q.2.2 (D.1 k) (D.2 k) := by
    refine ⟨(fun k => if k = 0 then c0 else c1, fun k => if k = 0 then iS0 else iS1), ?_⟩
    intro k q hq
    match k, hq with
    | 0, hq => cases hq; exact hKn0
    | 1, hq => cases hq; exact hKn1
    | k + 2, hq => simp [vwCl] at hq
  have hS : va_S (fun q : Nat => s.heap.size ≤ q) s.heap s.heap [] := va_S.rf
  have hK : va_K D vwCl [] s := ⟨hKc, fun k q h => by simp at h⟩
  have hP : va_P D vwCl [] s.heap := fun k q h => by simp at h
  have hD : va_D (fun q : Nat => s.heap.size ≤ q) [] := ⟨fun i j p q h => by simp at h, fun k q h => by simp at h⟩
  have hl := lv_entry ([.ref b]) (n := 4) (Nat.le_of_ble_eq_true rfl)
  rw [lg_entry_eq]
  generalize (lg_sl ([.ref b]) ++ List.replicate (4 - (lg_sl ([.ref b])).length) Slot.unset).toArray = ls at hl ⊢
  have hl : lv_has ls 4 [(0, .ref b)] := hl
  refine va_new (ci := 0) (fs := [.int 0, .null, .null, .null, .null, .null, .null, .int 0, .int 0, .null, .null, .null, .null, .null, .null, .null, .null, .null, .null, .int 0, .null]) (C := RX0) (T := TX0) (N := 21) hx hb hts in_X0 tyX0 tyX0_ok hown (hts _ q22) (hts _ q23) (hts _ q19) hK hP hD hS hA rfl (fun j hj => by rcases (show j = 0 ∨ j = 1 ∨ j = 2 ∨ j = 3 ∨ j = 4 ∨ j = 5 ∨ j = 6 ∨ j = 7 ∨ j = 8 ∨ j = 9 ∨ j = 10 ∨ j = 11 ∨ j = 12 ∨ j = 13 ∨ j = 14 ∨ j = 15 ∨ j = 16 ∨ j = 17 ∨ j = 18 ∨ j = 19 ∨ j = 20 by omega) with rfl | rfl | rfl | rfl | rfl | rfl | rfl | rfl | rfl | rfl | rfl | rfl | rfl | rfl | rfl | rfl | rfl | rfl | rfl | rfl | rfl <;> rfl) (Nat.le_of_ble_eq_true rfl) (Nat.le_of_ble_eq_true rfl) dL_law_0 (fun q0 H hP hD hS => ?_)
  have hP : va_P D vwCl (xw0 q0) H := hP
  have hD : va_D (fun q : Nat => s.heap.size ≤ q) (xw0 q0) := hD
  refine W.widen (k := 1) (n := 21) (Nat.le_of_ble_eq_true rfl) (Nat.le_of_ble_eq_true rfl) ?_
  refine lv_dup hx hb dL_law_3 rfl ?_
  have hPc := hP.sub (ws' := xw0 q0) [0] rfl
  have hDc := hD.sub (ws' := xw0 q0) [0] (by decide) rfl
  have hKc9 := hK.sub (tys' := []) [] rfl
  have hFc := va_free (wc := xw0 q0) hD hS hA [0] rfl
  refine va_callv (va_runI (As := []) (rest := [.ref q0]) ⟨hx, hb, hml, hown, hts⟩ (X_init l D q0 H.size) (cwI 0 hts (lw_meth q26) rfl rfl rfl (hts _ q19) (hts _ q24) (hts _ q25) rfl (by decide +kernel) ⟨Nat.le_of_ble_eq_true rfl, Nat.le_of_ble_eq_true rfl⟩) ⟨fun a U g mk q => by obtain ⟨q0, q1, qP, qK, qD⟩ := q; exact ⟨q0, q1, qP, va_K.moved (u := U) (U := U.calling g mk a) (Vm.Alike.refl U.vm) qK, qD⟩, fun U hU hW => ⟨rfl, by rw [hU], by rw [hU]; exact hPc, va_K.moved hW.alike hKc9, hDc.weaken (fun _ _ _ _ => trivial)⟩⟩ rfl rfl hl.1 rfl (lv_room (Nat.le_of_ble_eq_true rfl)) dL_law_4 ⟨Nat.le_of_ble_eq_true rfl, Nat.le_of_ble_eq_true rfl⟩) hS (fun q _ h => hFc q h) hFc (fun u t H1 locs ht hvm hw hB hz1 hk1 hS => ?_)
  obtain ⟨a, d, σ⟩ := u
  obtain ⟨hP1, hK1, hD1⟩ := hB
  rw [ht] at hP1
  have hKx := va_K.moved hvm.symm hK1
  obtain ⟨ex, hxi⟩ := hw
  obtain ⟨hP, hD⟩ := va_join (wr := []) (w1 := xw a d σ) hP hD [0] [] rfl rfl (by decide) (by decide) hk1 hFc hP1 hD1
  generalize H1 = H at hP hS ⊢
  have hP : va_P D vwCl (xw a d σ) H := hP
  have hD : va_D (fun q : Nat => s.heap.size ≤ q) (xw a d σ) := hD
  refine W.widen (k := 18) (n := 47025) (Nat.le_of_ble_eq_true rfl) (Nat.le_of_ble_eq_true rfl) ?_
  refine lv_astore_n (lv' := [(1, .ref q0), (0, .ref b)]) hx hb dL_law_7 rfl hl (by decide) rfl (fun ls hl => ?_)
  refine va_new (ci := 1) (fs := [.int 0, .null, .int 0, .null, .null, .null, .null, .int 0, .null, .null, .null, .null, .null, .int 0, .int 0, .null, .null, .null]) (C := RX1) (T := TX1) (N := 18) hx hb hts in_X1 tyX1 tyX1_ok hown (hts _ q179) (hts _ q180) (hts _ q20) hK hP hD hS hA rfl (fun j hj => by rcases (show j = 0 ∨ j = 1 ∨ j = 2 ∨ j = 3 ∨ j = 4 ∨ j = 5 ∨ j = 6 ∨ j = 7 ∨ j = 8 ∨ j = 9 ∨ j = 10 ∨ j = 11 ∨ j = 12 ∨ j = 13 ∨ j = 14 ∨ j = 15 ∨ j = 16 ∨ j = 17 by omega) with rfl | rfl | rfl | rfl | rfl | rfl | rfl | rfl | rfl | rfl | rfl | rfl | rfl | rfl | rfl | rfl | rfl | rfl <;> rfl) (Nat.le_of_ble_eq_true rfl) (Nat.le_of_ble_eq_true rfl) dL_law_8 (fun q1 H hP hD hS => ?_)
  have hP : va_P D vwCl (xw a d σ ++ mw0 q1) H := hP
  have hD : va_D (fun q : Nat => s.heap.size ≤ q) (xw a d σ ++ mw0 q1) := hD
  refine W.widen (k := 19) (n := 47043) (Nat.le_of_ble_eq_true rfl) (Nat.le_of_ble_eq_true rfl) ?_
  refine lv_dup hx hb dL_law_11 rfl ?_
  have hPc := hP.sub (ws' := mw0 q1) [18] rfl
  have hDc := hD.sub (ws' := mw0 q1) [18] (by decide) rfl
  have hKc9 := hK.sub (tys' := []) [] rfl
  have hFc := va_free (wc := mw0 q1) hD hS hA [18] rfl
  refine va_callv (va_runI (As := []) (rest := [.ref q1]) ⟨hx, hb, hml, hown, hts⟩ (M_init l D q1 H.size) (cwI 0 hts (lw_meth q183) rfl rfl rfl (hts _ q20) (hts _ q181) (hts _ q182) rfl (by decide +kernel) ⟨Nat.le_of_ble_eq_true rfl, Nat.le_of_ble_eq_true rfl⟩) ⟨fun a U g mk q => by obtain ⟨q0, q1, qP, qK, qD⟩ := q; exact ⟨q0, q1, qP, va_K.moved (u := U) (U := U.calling g mk a) (Vm.Alike.refl U.vm) qK, qD⟩, fun U hU hW => ⟨rfl, by rw [hU], by rw [hU]; exact hPc, va_K.moved hW.alike hKc9, hDc.weaken (fun _ _ _ _ => trivial)⟩⟩ rfl rfl hl.1 rfl (lv_room (Nat.le_of_ble_eq_true rfl)) dL_law_12 ⟨Nat.le_of_ble_eq_true rfl, Nat.le_of_ble_eq_true rfl⟩) hS (fun q _ h => hFc q h) hFc (fun u t H1 locs ht hvm hw hB hz1 hk1 hS => ?_)
  obtain ⟨a2, d2, τ⟩ := u
  obtain ⟨hP1, hK1, hD1⟩ := hB
  rw [ht] at hP1
  have hKm := va_K.moved hvm.symm hK1
  obtain ⟨em, hmi⟩ := hw
  obtain ⟨hP, hD⟩ := va_join (wr := xw a d σ) (w1 := mw a2 d2 τ) hP hD [18] [0, 1, 2, 3, 4, 5, 6, 7, 8, 9, 10, 11, 12, 13, 14, 15, 16, 17] rfl rfl (by decide) (by decide) hk1 hFc hP1 hD1
  generalize H1 = H at hP hS ⊢
  have hP : va_P D vwCl (xw a d σ ++ mw a2 d2 τ) H := hP
  have hD : va_D (fun q : Nat => s.heap.size ≤ q) (xw a d σ ++ mw a2 d2 τ) := hD
  refine W.widen (k := 32) (n := 93443) (Nat.le_of_ble_eq_true rfl) (Nat.le_of_ble_eq_true rfl) ?_
  refine lv_astore_n (lv' := [(2, .ref q1), (1, .ref q0), (0, .ref b)]) hx hb dL_law_15 rfl hl (by decide) rfl (fun ls hl => ?_)
  refine lv_iconst (v := nI 0) hx hb dL_law_16 (by decide) ?_
  refine lv_istore_n (lv' := [(3, .int (nI 0)), (2, .ref q1), (1, .ref q0), (0, .ref b)]) hx hb dL_law_17 rfl hl (by decide) rfl (fun ls hl => ?_)
  refine W.widen (k := 600000) (n := 7302250) (Nat.le_of_ble_eq_true rfl) (Nat.le_of_ble_eq_true rfl) ?_
  obtain ⟨E, hE⟩ : ∃ E : Ev, E = (p, l, e, room_1, s, m, #[Value.ref b], below, meth, c, 600000, 7302250, lw_Z below #[Value.ref b] s, D, fun q : Nat => s.heap.size ≤ q) := ⟨_, rfl⟩
  have ex : a 0 = q0 := ex
  have em : a2 0 = q1 := em
  have hxi : XI σ (Vw.mt 1) := hxi
  have hmi : MI τ (Vw.mt 1) := hmi
  rw [← ex, ← em] at hl
  have G : CX E RLw cL_law 4 := by
    subst hE
    exact ⟨⟨hx, hb, hml, hown, hts⟩, Nat.le_of_ble_eq_true rfl, Nat.le_of_ble_eq_true rfl⟩
  have Kx : KX E (xt d) := by
    subst hE
    exact ⟨hKx, hA⟩
  have Km : KX E (mt d2) := by
    subst hE
    exact ⟨hKm, hA⟩
  have hH : HH E (xw a d σ ++ mw a2 d2 τ) H locs := by
    subst hE
    exact ⟨hP, hD, hS⟩
  have fin : ∀ (pc : Nat) (ls : Array Slot) (H : Heap) (locs : List Loc) (w : va_W), decode cL_law pc = .ok (.ireturn, 1) → HH E w H locs → WE E H locs pc ls [.int (nI 1)] := by
    subst hE
    intro pc ls H locs w dg hH
    exact va_forget (fun q hq => hH.2.2.2.2 q hq) (lw_ret hx hb hr hlocks dg)
  have main := law_loop (a := a) (a2 := a2) (d := d) (d2 := d2) (b := b) (L := L) (xs := xs) G Kx Km (by subst hE; exact hX) (by subst hE; exact hbl) (by subst hE; exact hbA) hL (by subst hE; exact Nat.le_of_ble_eq_true rfl) (by subst hE; exact Nat.le_of_ble_eq_true rfl) fin (L + 1) σ τ (Vw.mt 1) 0 H locs ls hH hxi hmi (Nat.zero_le _) (by omega) (lv_sub hl [3, 2, 1, 0] rfl)
  subst hE
  exact main
end
section
-- ===== YOUR PART ENDS =====
set_option maxHeartbeats 4000000 in
theorem lw_walk (l : Launch) (b : Addr) (xs : List Int32) : MetFree l x (headSpec (Jvm.Cond.code x code maxLocals ret :: tables_1) room_1) (lw_P b xs) (fun _ _ _ _ _ => True) lw_Q := by
  refine MetFree.of_bodyS (code := code) (maxLocals := maxLocals) (ret := ret) (by decide) ?_ ?_
  · intro args s m h hn
    obtain ⟨meth, c, h1, h2, h3, h4, h5, h6, -, -⟩ := Cond.code_spec hn (atoms_spec (ws := Jvm.Cond.code x code maxLocals ret :: tables_1) h _ List.mem_cons_self)
    exact ⟨meth, c, h1, h2, h3, h4, h5, h6⟩
  · intro p e s m args below meth c s₁ B hml0 hP _
    obtain ⟨rfl, hx, hbd, hgv⟩ := hP
    obtain ⟨scr, harrAt, hlist, hof, hsmall⟩ := hx
    obtain ⟨hcb, hkn, -, -⟩ := State.arrayAt?_spec harrAt
    have hown : s.vm.findClass R_law = some m.cls := findClass_of_methodNamed B.named
    have hts0 : ∀ c ∈ (Jvm.Cond.code x code maxLocals ret :: tables_1), c.before #[Value.ref b] s = true := atoms_spec (ws := Jvm.Cond.code x code maxLocals ret :: tables_1) B.pre
    have hts : ∀ w ∈ lw_tbl, w.before #[Value.ref b] s = true := k2_hts_sels lw_privs (fun w hw => hts0 w (List.mem_cons_of_mem _ hw)) lw_privs_ok
    have hml : c.maxLocals = 4 := B.maxLocals_eq (hts0 _ List.mem_cons_self)
    have X₀ : Stand p l e room_1 s m #[Value.ref b] below meth c s₁ [] 0 0 := Stand.of_body B
    have hh0 : s₁.heap = s.heap := by rw [B.state]; rfl
    have hsz : scr.slots.size = xs.length := by rw [← Array.length_toList, hlist, List.length_map]
    have hval : ∀ j : Nat, j < xs.length → scr.slots[j]? = some (.int (xs.getD j 0)) := fun j hj => by
      rw [← Array.getElem?_toList, hlist]
      simp [hj]
    have hbl : b < s.heap.size := (Array.getElem?_eq_some_iff.mp hcb).1
    have hX : va_X b xs.length (fun j => xs.getD j 0) s s.heap := ⟨scr, hcb, hof, hkn, hsz, hval⟩
    have K : W p l e room_1 s m #[Value.ref b] below meth c s₁.heap [] 0 0 (lw_Z below #[Value.ref b] s) (entryFrame m ([Value.ref b] : List Value).toArray 4) := by
      rw [hh0]
      exact whole_start l hbd ⟨B.exec, B.bytes, B.returns, hml, hown, hts, hX, hbl, B.notSynchronized, hgv⟩
    obtain ⟨t, a1, o, b1, b2, b3⟩ := K s₁ rfl X₀
    exact ⟨t, o, a1, b1, b2, b3⟩
theorem lw_pre_spec {args : Array Value} {s : State} (h : (Jvm.Cond.and given_1 narrow_1).before args s = true) (hr : rest_1_c.before args s = true) : ∃ (b : Addr) (xs : List Int32), lw_P b xs args s := by
  have hs := flat_of_before _ h
  have hq := flat_of_before _ hr
  have hc : (Cond.count 1).before args s = true := hs _ (by decide +kernel)
  have harr : (Cond.arrayOf (.arg 0) .int).before args s = true := hs _ (by decide +kernel)
  have hle : (Cond.le (.length (.arg 0)) (.int 320)).before args s = true := hs _ (by decide +kernel)
  have hlen : (Cond.isInt (.length (.arg 0))).before args s = true := hq _ (by decide +kernel)
  have hall : (Cond.all (.arg 0) (.isInt (.elem (.arg 0) (.index 0)))).before args s = true := hq _ (by decide +kernel)
  obtain ⟨b, xs, hb, hx⟩ := State.ints_of_pre rfl harr hlen hall
  have hsm : xs.length < 2 ^ 31 := hx.choose_spec.2.2.2
  have hev : (Term.length (.arg 0)).eval args s none [] s = some (.int xs.length.toInt32) := hx.length_eval hb
  have hv := Cond.le_ints hev (show (Term.int 320).eval args s none [] s = some (.int 320) from rfl)
  have hd : xs.length.toInt32 ≤ 320 := by
    simpa [Cond.before, Cond.holds, hv] using hle
  have hN : xs.length ≤ 320 := (Int32.ofNat_le_ofNat hsm (by decide)).mp (show Int32.ofNat xs.length ≤ Int32.ofNat 320 from hd)
  exact ⟨b, xs, Cond.one_arg hc (show args[0]? = some (.ref b) from hb), hx, hN, h⟩
theorem lw_comes (l : Launch) : Comes l x (Jvm.Cond.code x code maxLocals ret :: tables_1) room_1 (fun tb e args s => Calls_1 tb e args s ∧ rest_1 tb e args s ∧ Pre_1 tb e args s)
    (fun _ _ args s o t => lw_Q args s o t) := by
  intro p e ha hc hk s m args below hf hfit hheap happ hpre
  obtain ⟨b, xs, hP⟩ := lw_pre_spec hpre.2.2 hpre.2.1
  obtain ⟨k, o, h1, h2, h3, hQ⟩ := lw_walk l b xs p e ha hc hk s m args below hf ((Spec.applies_iff_loose hf).mp happ).1 hP trivial
  exact ⟨k, o, h1, h2, h3, hQ⟩
theorem lw_frame {s t : State} {o : Outcome} {args : Array Value} (h : Framed s o t [] 600000 7302250) :
    Framed s o t (fieldLocs frame_1_writes args s ++ arrayLocs frame_1_arrays args s ++ staticLocs frame_1_statics s) 600000 7302250 := h
theorem lw_limb (L : Cond) (hL : ∀ (args : Array Value) (s t : State), L.after args s (.returned (some (.int 1))) t = true) :
    ArmFor flags0 classFile x code maxLocals ret World_1 tables_1 room_1 Calls_1 rest_1 Pre_1
      (fun tb e a s o t => postC L tb e a s o t ∧ Framed s o t (fieldLocs frame_1_writes a s ++ arrayLocs frame_1_arrays a s ++ staticLocs frame_1_statics s) 600000 7302250) := by
  intro l _ _ _ p e ha hc hk s m args below hf hfit hheap happ hpre
  obtain ⟨k, o, h1, h2, h3, rfl, hF⟩ := lw_comes l p e ha hc hk s m args below hf hfit hheap happ hpre
  exact ⟨k, _, h1, h2, h3, hL args s _, lw_frame hF⟩
theorem i_vc : Claimed_1_1 ∧ Claimed_1_2 := ⟨lw_limb limb_1_1 (fun args s t => by simp [limb_1_1, Cond.after, Cond.holds, Cond.value]), lw_limb limb_1_2 (fun args s t => Cond.after_iff.mpr (by
  first | (rw [show limb_1_2 = Cond.eq .result (.int 1) from rfl, Cond.eq_ints (x := 1) (y := 1) rfl rfl]; simp; done) | (simp [limb_1_2, Cond.value, Term.eval]; done)))⟩
end
