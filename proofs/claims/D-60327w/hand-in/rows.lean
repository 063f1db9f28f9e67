section
-- ===== PART A: goes FIRST, ahead of the names: the tables' words, and 'selects' of the private methods out of them =====
/-- a private method of a class that the tables say can be made, by its rows of tables_1 -/
def lw_okq (q : MethodName × Nat) : Prop := (q.1.cls ≠ "java/lang/invoke/MethodHandle" ∧ q.1.cls ≠ "java/lang/invoke/VarHandle") ∧ Cond.instantiable q.1.cls q.2 ∈ tables_1 ∧ Cond.privateMethod q.1 ∈ tables_1 ∧ Cond.instanceMethod q.1 ∈ tables_1
set_option maxRecDepth 100000
theorem lw_p0 : lw_okq (⟨"CoffmanGraham", "closeOrders", "()V"⟩, 6) := ⟨⟨by decide +kernel, by decide +kernel⟩, List.mem_of_getElem? (i := 4) rfl, List.mem_of_getElem? (i := 37) rfl, List.mem_of_getElem? (i := 38) rfl⟩
theorem lw_p1 : lw_okq (⟨"CoffmanGraham", "isTask", "(I)Z"⟩, 6) := ⟨⟨by decide +kernel, by decide +kernel⟩, List.mem_of_getElem? (i := 4) rfl, List.mem_of_getElem? (i := 45) rfl, List.mem_of_getElem? (i := 46) rfl⟩
theorem lw_p2 : lw_okq (⟨"CoffmanGraham", "heightOf", "(I)I"⟩, 6) := ⟨⟨by decide +kernel, by decide +kernel⟩, List.mem_of_getElem? (i := 4) rfl, List.mem_of_getElem? (i := 69) rfl, List.mem_of_getElem? (i := 70) rfl⟩
theorem lw_p3 : lw_okq (⟨"CoffmanGraham", "immediate", "(II)I"⟩, 6) := ⟨⟨by decide +kernel, by decide +kernel⟩, List.mem_of_getElem? (i := 4) rfl, List.mem_of_getElem? (i := 77) rfl, List.mem_of_getElem? (i := 78) rfl⟩
theorem lw_p4 : lw_okq (⟨"CoffmanGraham", "bitsIn", "(I)I"⟩, 6) := ⟨⟨by decide +kernel, by decide +kernel⟩, List.mem_of_getElem? (i := 4) rfl, List.mem_of_getElem? (i := 81) rfl, List.mem_of_getElem? (i := 82) rfl⟩
theorem lw_p5 : lw_okq (⟨"CoffmanGraham", "labelByLists", "()V"⟩, 6) := ⟨⟨by decide +kernel, by decide +kernel⟩, List.mem_of_getElem? (i := 4) rfl, List.mem_of_getElem? (i := 93) rfl, List.mem_of_getElem? (i := 94) rfl⟩
theorem lw_p6 : lw_okq (⟨"CoffmanGraham", "labelList", "(I)I"⟩, 6) := ⟨⟨by decide +kernel, by decide +kernel⟩, List.mem_of_getElem? (i := 4) rfl, List.mem_of_getElem? (i := 97) rfl, List.mem_of_getElem? (i := 98) rfl⟩
theorem lw_p7 : lw_okq (⟨"CoffmanGraham", "labelByHeights", "()V"⟩, 6) := ⟨⟨by decide +kernel, by decide +kernel⟩, List.mem_of_getElem? (i := 4) rfl, List.mem_of_getElem? (i := 102) rfl, List.mem_of_getElem? (i := 103) rfl⟩
theorem lw_p8 : lw_okq (⟨"CoffmanGraham", "lengthOnList", "(I)I"⟩, 6) := ⟨⟨by decide +kernel, by decide +kernel⟩, List.mem_of_getElem? (i := 4) rfl, List.mem_of_getElem? (i := 106) rfl, List.mem_of_getElem? (i := 107) rfl⟩
theorem lw_p9 : lw_okq (⟨"CoffmanGraham", "bestReady", "(II)I"⟩, 6) := ⟨⟨by decide +kernel, by decide +kernel⟩, List.mem_of_getElem? (i := 4) rfl, List.mem_of_getElem? (i := 110) rfl, List.mem_of_getElem? (i := 111) rfl⟩
theorem lw_p10 : lw_okq (⟨"CoffmanGraham", "isReady", "(II)Z"⟩, 6) := ⟨⟨by decide +kernel, by decide +kernel⟩, List.mem_of_getElem? (i := 4) rfl, List.mem_of_getElem? (i := 114) rfl, List.mem_of_getElem? (i := 115) rfl⟩
theorem lw_p11 : lw_okq (⟨"CoffmanGrahamModel", "isTask", "(I)Z"⟩, 4) := ⟨⟨by decide +kernel, by decide +kernel⟩, List.mem_of_getElem? (i := 125) rfl, List.mem_of_getElem? (i := 152) rfl, List.mem_of_getElem? (i := 153) rfl⟩
theorem lw_p12 : lw_okq (⟨"CoffmanGrahamModel", "cut", "(II)I"⟩, 4) := ⟨⟨by decide +kernel, by decide +kernel⟩, List.mem_of_getElem? (i := 125) rfl, List.mem_of_getElem? (i := 156) rfl, List.mem_of_getElem? (i := 157) rfl⟩
theorem lw_p13 : lw_okq (⟨"CoffmanGrahamModel", "findLater", "()V"⟩, 4) := ⟨⟨by decide +kernel, by decide +kernel⟩, List.mem_of_getElem? (i := 125) rfl, List.mem_of_getElem? (i := 164) rfl, List.mem_of_getElem? (i := 165) rfl⟩
theorem lw_p14 : lw_okq (⟨"CoffmanGrahamModel", "in", "(II)Z"⟩, 4) := ⟨⟨by decide +kernel, by decide +kernel⟩, List.mem_of_getElem? (i := 125) rfl, List.mem_of_getElem? (i := 168) rfl, List.mem_of_getElem? (i := 169) rfl⟩
theorem lw_p15 : lw_okq (⟨"CoffmanGrahamModel", "extra", "(II)Z"⟩, 4) := ⟨⟨by decide +kernel, by decide +kernel⟩, List.mem_of_getElem? (i := 125) rfl, List.mem_of_getElem? (i := 192) rfl, List.mem_of_getElem? (i := 193) rfl⟩
def lw_privs_1 : List (MethodName × Nat) := [(⟨"CoffmanGraham", "closeOrders", "()V"⟩, 6), (⟨"CoffmanGraham", "isTask", "(I)Z"⟩, 6), (⟨"CoffmanGraham", "heightOf", "(I)I"⟩, 6), (⟨"CoffmanGraham", "immediate", "(II)I"⟩, 6), (⟨"CoffmanGraham", "bitsIn", "(I)I"⟩, 6), (⟨"CoffmanGraham", "labelByLists", "()V"⟩, 6), (⟨"CoffmanGraham", "labelList", "(I)I"⟩, 6), (⟨"CoffmanGraham", "labelByHeights", "()V"⟩, 6), (⟨"CoffmanGraham", "lengthOnList", "(I)I"⟩, 6), (⟨"CoffmanGraham", "bestReady", "(II)I"⟩, 6), (⟨"CoffmanGraham", "isReady", "(II)Z"⟩, 6), (⟨"CoffmanGrahamModel", "isTask", "(I)Z"⟩, 4), (⟨"CoffmanGrahamModel", "cut", "(II)I"⟩, 4), (⟨"CoffmanGrahamModel", "findLater", "()V"⟩, 4), (⟨"CoffmanGrahamModel", "in", "(II)Z"⟩, 4), (⟨"CoffmanGrahamModel", "extra", "(II)Z"⟩, 4)]
theorem lw_r1 : ∀ q ∈ lw_privs_1, lw_okq q := List.forall_mem_cons.mpr ⟨lw_p0, List.forall_mem_cons.mpr ⟨lw_p1, List.forall_mem_cons.mpr ⟨lw_p2, List.forall_mem_cons.mpr ⟨lw_p3, List.forall_mem_cons.mpr ⟨lw_p4, List.forall_mem_cons.mpr ⟨lw_p5, List.forall_mem_cons.mpr ⟨lw_p6, List.forall_mem_cons.mpr ⟨lw_p7, List.forall_mem_cons.mpr ⟨lw_p8, List.forall_mem_cons.mpr ⟨lw_p9, List.forall_mem_cons.mpr ⟨lw_p10, List.forall_mem_cons.mpr ⟨lw_p11, List.forall_mem_cons.mpr ⟨lw_p12, List.forall_mem_cons.mpr ⟨lw_p13, List.forall_mem_cons.mpr ⟨lw_p14, List.forall_mem_cons.mpr ⟨lw_p15, fun _ h => absurd h List.not_mem_nil⟩⟩⟩⟩⟩⟩⟩⟩⟩⟩⟩⟩⟩⟩⟩⟩
theorem lw_p16 : lw_okq (⟨"CoffmanGrahamModel", "least", "(II)I"⟩, 4) := ⟨⟨by decide +kernel, by decide +kernel⟩, List.mem_of_getElem? (i := 125) rfl, List.mem_of_getElem? (i := 205) rfl, List.mem_of_getElem? (i := 206) rfl⟩
theorem lw_p17 : lw_okq (⟨"CoffmanGrahamModel", "open", "(II)I"⟩, 4) := ⟨⟨by decide +kernel, by decide +kernel⟩, List.mem_of_getElem? (i := 125) rfl, List.mem_of_getElem? (i := 209) rfl, List.mem_of_getElem? (i := 210) rfl⟩
theorem lw_p18 : lw_okq (⟨"CoffmanGrahamModel", "sizeOf", "(I)I"⟩, 4) := ⟨⟨by decide +kernel, by decide +kernel⟩, List.mem_of_getElem? (i := 125) rfl, List.mem_of_getElem? (i := 213) rfl, List.mem_of_getElem? (i := 214) rfl⟩
def lw_privs_2 : List (MethodName × Nat) := [(⟨"CoffmanGrahamModel", "least", "(II)I"⟩, 4), (⟨"CoffmanGrahamModel", "open", "(II)I"⟩, 4), (⟨"CoffmanGrahamModel", "sizeOf", "(I)I"⟩, 4)]
theorem lw_r2 : ∀ q ∈ lw_privs_2, lw_okq q := List.forall_mem_cons.mpr ⟨lw_p16, List.forall_mem_cons.mpr ⟨lw_p17, List.forall_mem_cons.mpr ⟨lw_p18, fun _ h => absurd h List.not_mem_nil⟩⟩⟩
def lw_privs : List (MethodName × Nat) := lw_privs_1 ++ (lw_privs_2)
def lw_tbl : List Cond := k2_sels lw_privs ++ tables_1
theorem lw_privs_ok : ∀ q ∈ lw_privs, lw_okq q := by
  show ∀ q ∈ lw_privs_1 ++ (lw_privs_2), lw_okq q
  exact List.forall_mem_append.mpr ⟨lw_r1, lw_r2⟩
-- ===== ONE list of words for every method: the tables' words that hold all through a run =====
def lw_all : List Cond := lw_tbl.filter goodWord
/-- a word of the tables by its place: claim/WORDS.tsv -/
theorem lw_w {w : Cond} (i : Nat) (h : lw_tbl[i]? = some w) (g : goodWord w = true) : w ∈ lw_all := List.mem_filter.mpr ⟨List.mem_of_getElem? h, g⟩
theorem lw_all_tbl {w : Cond} (h : w ∈ lw_all) : w ∈ lw_tbl := (List.mem_filter.mp h).1
theorem lw_self : GoodIn lw_all lw_all := fun w h => ⟨h, good_of_word (List.mem_filter.mp h).2⟩
/-- a class's field words, by their places -/
theorem lw_in (ws : List Cond) (ps : List Nat) (hp : ws = ps.filterMap (fun i => lw_tbl[i]?)) (hg : ws.all goodWord = true) : ∀ w ∈ ws, w ∈ lw_all := by
  intro w h
  have h1 := List.all_eq_true.mp hg w h
  rw [hp] at h
  obtain ⟨i, -, hi⟩ := List.mem_filterMap.mp h
  exact lw_w i hi h1
/-- the words of a contract for the method y with code b, L locals, answer r -/
abbrev ws_ (y : MethodName) (b : ByteArray) (L : Nat) (r : Option FieldType) : List Cond := Cond.code y b L r :: lw_all
theorem lw_meth {y : MethodName} {b : ByteArray} {L : Nat} {r : Option FieldType} (h : Cond.code y b L r ∈ lw_all) : GoodIn lw_all (ws_ y b L r) := by
  intro w hw
  rcases List.mem_cons.mp hw with e | e
  · rw [e]
    exact lw_self _ h
  · exact lw_self _ e
theorem lw_app {a c : List Cond} (ha : ∀ w ∈ a, w ∈ lw_all) (hc : GoodIn lw_all c) : GoodIn lw_all (a ++ c) := by
  intro w hw
  rcases List.mem_append.mp hw with e | e
  · exact lw_self w (ha w e)
  · exact hc w e
/-- what a call through an object asks: cwV n hts (lw_V ..) -/
theorem lw_V {own : String} {idx : Nat} {C : String} {y : MethodName} {b : ByteArray} {L : Nat} {r : Option FieldType} (h1 : Cond.methodLink own idx y ∈ lw_all) (h2 : Cond.instanceMethod y ∈ lw_all) (h3 : Cond.selects C y y ∈ lw_all) (h4 : Cond.initialized C ∈ lw_all) (h5 : Cond.code y b L r ∈ lw_all) : GoodIn lw_all (wsV own idx C y (ws_ y b L r)) := by
  refine lw_app ?_ (lw_meth h5)
  intro w hw
  simp only [List.mem_cons, List.not_mem_nil, or_false] at hw
  rcases hw with e | e | e | e
  · rw [e]; exact h1
  · rw [e]; exact h2
  · rw [e]; exact h3
  · rw [e]; exact h4
/-- what a static call asks: va_cwS n hts (lw_S ..) -/
theorem lw_S {own : String} {idx : Nat} {y : MethodName} {b : ByteArray} {L : Nat} {r : Option FieldType} (h1 : Cond.methodLink own idx y ∈ lw_all) (h2 : Cond.static y ∈ lw_all) (h3 : Cond.initialized y.cls ∈ lw_all) (h4 : Cond.code y b L r ∈ lw_all) : GoodIn lw_all (va_wsS own idx y (ws_ y b L r)) := by
  refine lw_app ?_ (lw_meth h4)
  intro w hw
  simp only [List.mem_cons, List.not_mem_nil, or_false] at hw
  rcases hw with e | e | e
  · rw [e]; exact h1
  · rw [e]; exact h2
  · rw [e]; exact h3
/-- the words of a contract for a method WITH HANDLERS (hh: its table) -/
abbrev wsW_ (y : MethodName) (b : ByteArray) (L : Nat) (r : Option FieldType) (hh : List (Nat × Nat × Nat × Nat)) : List Cond := Cond.codeWith y b L r hh :: lw_all
theorem lw_methW {y : MethodName} {b : ByteArray} {L : Nat} {r : Option FieldType} {hh : List (Nat × Nat × Nat × Nat)} (h : Cond.codeWith y b L r hh ∈ lw_all) : GoodIn lw_all (wsW_ y b L r hh) := by
  intro w hw
  rcases List.mem_cons.mp hw with e | e
  · rw [e]
    exact lw_self _ h
  · exact lw_self _ e
/-- any list of words by their places (lw_in), good -/
theorem lw_good {ws : List Cond} (h : ∀ w ∈ ws, w ∈ lw_all) : GoodIn lw_all ws := fun w hw => lw_self w (h w hw)
/-- what a call of a method with handlers asks: vx_cwVW n hts (lw_VW ..), vx_cwSW n hts (lw_SW ..) -/
theorem lw_VW {own : String} {idx : Nat} {C : String} {y : MethodName} {b : ByteArray} {L : Nat} {r : Option FieldType} {hh : List (Nat × Nat × Nat × Nat)} (h1 : Cond.methodLink own idx y ∈ lw_all) (h2 : Cond.instanceMethod y ∈ lw_all) (h3 : Cond.selects C y y ∈ lw_all) (h4 : Cond.initialized C ∈ lw_all) (h5 : Cond.codeWith y b L r hh ∈ lw_all) : GoodIn lw_all (wsV own idx C y (wsW_ y b L r hh)) := by
  refine lw_app ?_ (lw_methW h5)
  intro w hw
  simp only [List.mem_cons, List.not_mem_nil, or_false] at hw
  rcases hw with e | e | e | e
  · rw [e]; exact h1
  · rw [e]; exact h2
  · rw [e]; exact h3
  · rw [e]; exact h4
theorem lw_SW {own : String} {idx : Nat} {y : MethodName} {b : ByteArray} {L : Nat} {r : Option FieldType} {hh : List (Nat × Nat × Nat × Nat)} (h1 : Cond.methodLink own idx y ∈ lw_all) (h2 : Cond.static y ∈ lw_all) (h3 : Cond.initialized y.cls ∈ lw_all) (h4 : Cond.codeWith y b L r hh ∈ lw_all) : GoodIn lw_all (va_wsS own idx y (wsW_ y b L r hh)) := by
  refine lw_app ?_ (lw_methW h4)
  intro w hw
  simp only [List.mem_cons, List.not_mem_nil, or_false] at hw
  rcases hw with e | e | e
  · rw [e]; exact h1
  · rw [e]; exact h2
  · rw [e]; exact h3
/-- a word by its place in its run of the tables -/
theorem lw_at {r : List Cond} (hr : ∀ w ∈ r, w ∈ lw_tbl) {w : Cond} (i : Nat) (h : r[i]? = some w) : w ∈ lw_tbl := hr w (List.mem_of_getElem? h)
theorem lw_g {w : Cond} (h : w ∈ lw_tbl) (g : goodWord w = true) : w ∈ lw_all := List.mem_filter.mpr ⟨h, g⟩
theorem lw_ms : ∀ w ∈ k2_sels lw_privs, w ∈ lw_tbl := fun w h => show w ∈ k2_sels lw_privs ++ tables_1 from List.mem_append_left _ h
theorem lw_m0 : ∀ w ∈ tables_1, w ∈ lw_tbl := fun w h => show w ∈ k2_sels lw_privs ++ tables_1 from List.mem_append_right (k2_sels lw_privs) h
theorem qs0 : (Cond.selects "CoffmanGraham" ⟨"CoffmanGraham", "closeOrders", "()V"⟩ ⟨"CoffmanGraham", "closeOrders", "()V"⟩) ∈ lw_all := lw_g (lw_at lw_ms 0 rfl) rfl
theorem qs1 : (Cond.selects "CoffmanGraham" ⟨"CoffmanGraham", "isTask", "(I)Z"⟩ ⟨"CoffmanGraham", "isTask", "(I)Z"⟩) ∈ lw_all := lw_g (lw_at lw_ms 1 rfl) rfl
theorem qs2 : (Cond.selects "CoffmanGraham" ⟨"CoffmanGraham", "heightOf", "(I)I"⟩ ⟨"CoffmanGraham", "heightOf", "(I)I"⟩) ∈ lw_all := lw_g (lw_at lw_ms 2 rfl) rfl
theorem qs3 : (Cond.selects "CoffmanGraham" ⟨"CoffmanGraham", "immediate", "(II)I"⟩ ⟨"CoffmanGraham", "immediate", "(II)I"⟩) ∈ lw_all := lw_g (lw_at lw_ms 3 rfl) rfl
theorem qs4 : (Cond.selects "CoffmanGraham" ⟨"CoffmanGraham", "bitsIn", "(I)I"⟩ ⟨"CoffmanGraham", "bitsIn", "(I)I"⟩) ∈ lw_all := lw_g (lw_at lw_ms 4 rfl) rfl
theorem qs5 : (Cond.selects "CoffmanGraham" ⟨"CoffmanGraham", "labelByLists", "()V"⟩ ⟨"CoffmanGraham", "labelByLists", "()V"⟩) ∈ lw_all := lw_g (lw_at lw_ms 5 rfl) rfl
theorem qs6 : (Cond.selects "CoffmanGraham" ⟨"CoffmanGraham", "labelList", "(I)I"⟩ ⟨"CoffmanGraham", "labelList", "(I)I"⟩) ∈ lw_all := lw_g (lw_at lw_ms 6 rfl) rfl
theorem qs7 : (Cond.selects "CoffmanGraham" ⟨"CoffmanGraham", "labelByHeights", "()V"⟩ ⟨"CoffmanGraham", "labelByHeights", "()V"⟩) ∈ lw_all := lw_g (lw_at lw_ms 7 rfl) rfl
theorem qs8 : (Cond.selects "CoffmanGraham" ⟨"CoffmanGraham", "lengthOnList", "(I)I"⟩ ⟨"CoffmanGraham", "lengthOnList", "(I)I"⟩) ∈ lw_all := lw_g (lw_at lw_ms 8 rfl) rfl
theorem qs9 : (Cond.selects "CoffmanGraham" ⟨"CoffmanGraham", "bestReady", "(II)I"⟩ ⟨"CoffmanGraham", "bestReady", "(II)I"⟩) ∈ lw_all := lw_g (lw_at lw_ms 9 rfl) rfl
theorem qs10 : (Cond.selects "CoffmanGraham" ⟨"CoffmanGraham", "isReady", "(II)Z"⟩ ⟨"CoffmanGraham", "isReady", "(II)Z"⟩) ∈ lw_all := lw_g (lw_at lw_ms 10 rfl) rfl
theorem qs11 : (Cond.selects "CoffmanGrahamModel" ⟨"CoffmanGrahamModel", "isTask", "(I)Z"⟩ ⟨"CoffmanGrahamModel", "isTask", "(I)Z"⟩) ∈ lw_all := lw_g (lw_at lw_ms 11 rfl) rfl
theorem qs12 : (Cond.selects "CoffmanGrahamModel" ⟨"CoffmanGrahamModel", "cut", "(II)I"⟩ ⟨"CoffmanGrahamModel", "cut", "(II)I"⟩) ∈ lw_all := lw_g (lw_at lw_ms 12 rfl) rfl
theorem qs13 : (Cond.selects "CoffmanGrahamModel" ⟨"CoffmanGrahamModel", "findLater", "()V"⟩ ⟨"CoffmanGrahamModel", "findLater", "()V"⟩) ∈ lw_all := lw_g (lw_at lw_ms 13 rfl) rfl
theorem qs14 : (Cond.selects "CoffmanGrahamModel" ⟨"CoffmanGrahamModel", "in", "(II)Z"⟩ ⟨"CoffmanGrahamModel", "in", "(II)Z"⟩) ∈ lw_all := lw_g (lw_at lw_ms 14 rfl) rfl
theorem qs15 : (Cond.selects "CoffmanGrahamModel" ⟨"CoffmanGrahamModel", "extra", "(II)Z"⟩ ⟨"CoffmanGrahamModel", "extra", "(II)Z"⟩) ∈ lw_all := lw_g (lw_at lw_ms 15 rfl) rfl
theorem qs16 : (Cond.selects "CoffmanGrahamModel" ⟨"CoffmanGrahamModel", "least", "(II)I"⟩ ⟨"CoffmanGrahamModel", "least", "(II)I"⟩) ∈ lw_all := lw_g (lw_at lw_ms 16 rfl) rfl
theorem qs17 : (Cond.selects "CoffmanGrahamModel" ⟨"CoffmanGrahamModel", "open", "(II)I"⟩ ⟨"CoffmanGrahamModel", "open", "(II)I"⟩) ∈ lw_all := lw_g (lw_at lw_ms 17 rfl) rfl
theorem qs18 : (Cond.selects "CoffmanGrahamModel" ⟨"CoffmanGrahamModel", "sizeOf", "(I)I"⟩ ⟨"CoffmanGrahamModel", "sizeOf", "(I)I"⟩) ∈ lw_all := lw_g (lw_at lw_ms 18 rfl) rfl
end
section
set_option maxRecDepth 100000
/-! CoffmanGrahamLaw -/
def RX0 : String := "CoffmanGrahamLaw"
abbrev cX0_cell : ByteArray := method_2_code
def yX0_cell : MethodName := ⟨RX0, "cell", "([II)I"⟩
theorem q19 : (Jvm.Cond.initialized "CoffmanGrahamLaw") ∈ lw_all := lw_g (lw_at lw_m0 0 rfl) rfl
theorem q22 : (Jvm.Cond.classLink "CoffmanGrahamLaw" (7 : Nat) "CoffmanGraham") ∈ lw_all := lw_g (lw_at lw_m0 3 rfl) rfl
theorem q24 : (Jvm.Cond.methodLink "CoffmanGrahamLaw" (15 : Nat) ({ cls := "CoffmanGraham", name := "<init>", desc := "(I)V" } : Jvm.MethodName)) ∈ lw_all := lw_g (lw_at lw_m0 5 rfl) rfl
theorem q51 : (Jvm.Cond.methodLink "CoffmanGrahamLaw" (21 : Nat) ({ cls := "CoffmanGraham", name := "addTask", desc := "()I" } : Jvm.MethodName)) ∈ lw_all := lw_g (lw_at lw_m0 32 rfl) rfl
theorem q59 : (Jvm.Cond.methodLink "CoffmanGrahamLaw" (26 : Nat) ({ cls := "CoffmanGraham", name := "removeTask", desc := "(I)I" } : Jvm.MethodName)) ∈ lw_all := lw_g (lw_at lw_m0 40 rfl) rfl
theorem q67 : (Jvm.Cond.methodLink "CoffmanGrahamLaw" (31 : Nat) ({ cls := "CoffmanGraham", name := "addOrder", desc := "(II)I" } : Jvm.MethodName)) ∈ lw_all := lw_g (lw_at lw_m0 48 rfl) rfl
theorem q71 : (Jvm.Cond.methodLink "CoffmanGrahamLaw" (36 : Nat) ({ cls := "CoffmanGraham", name := "removeOrder", desc := "(II)I" } : Jvm.MethodName)) ∈ lw_all := lw_g (lw_at lw_m0 52 rfl) rfl
theorem q75 : (Jvm.Cond.methodLink "CoffmanGrahamLaw" (40 : Nat) ({ cls := "CoffmanGraham", name := "tasks", desc := "()I" } : Jvm.MethodName)) ∈ lw_all := lw_g (lw_at lw_m0 56 rfl) rfl
theorem q79 : (Jvm.Cond.methodLink "CoffmanGrahamLaw" (44 : Nat) ({ cls := "CoffmanGraham", name := "after", desc := "(II)Z" } : Jvm.MethodName)) ∈ lw_all := lw_g (lw_at lw_m0 60 rfl) rfl
theorem q83 : (Jvm.Cond.methodLink "CoffmanGrahamLaw" (49 : Nat) ({ cls := "CoffmanGraham", name := "height", desc := "(I)I" } : Jvm.MethodName)) ∈ lw_all := lw_g (lw_at lw_m0 64 rfl) rfl
theorem q91 : (Jvm.Cond.methodLink "CoffmanGrahamLaw" (53 : Nat) ({ cls := "CoffmanGraham", name := "superfluous", desc := "()I" } : Jvm.MethodName)) ∈ lw_all := lw_g (lw_at lw_m0 72 rfl) rfl
theorem q103 : (Jvm.Cond.methodLink "CoffmanGrahamLaw" (57 : Nat) ({ cls := "CoffmanGraham", name := "inTrees", desc := "()Z" } : Jvm.MethodName)) ∈ lw_all := lw_g (lw_at lw_m0 84 rfl) rfl
theorem q107 : (Jvm.Cond.methodLink "CoffmanGrahamLaw" (62 : Nat) ({ cls := "CoffmanGraham", name := "shortest", desc := "(I)I" } : Jvm.MethodName)) ∈ lw_all := lw_g (lw_at lw_m0 88 rfl) rfl
theorem q136 : (Jvm.Cond.methodLink "CoffmanGrahamLaw" (66 : Nat) ({ cls := "CoffmanGraham", name := "without", desc := "(I)I" } : Jvm.MethodName)) ∈ lw_all := lw_g (lw_at lw_m0 117 rfl) rfl
theorem q140 : (Jvm.Cond.methodLink "CoffmanGrahamLaw" (9 : Nat) ({ cls := "CoffmanGrahamLaw", name := "cell", desc := "([II)I" } : Jvm.MethodName)) ∈ lw_all := lw_g (lw_at lw_m0 121 rfl) rfl
theorem q141 : (Jvm.Cond.static ({ cls := "CoffmanGrahamLaw", name := "cell", desc := "([II)I" } : Jvm.MethodName)) ∈ lw_all := lw_g (lw_at lw_m0 122 rfl) rfl
theorem q142 : (Jvm.Cond.code ({ cls := "CoffmanGrahamLaw", name := "cell", desc := "([II)I" } : Jvm.MethodName) method_2_code (2 : Nat) (Option.some Jvm.ClassFile.FieldType.int)) ∈ lw_all := lw_g (lw_at lw_m0 123 rfl) rfl
theorem q143 : (Jvm.Cond.classLink "CoffmanGrahamLaw" (18 : Nat) "CoffmanGrahamModel") ∈ lw_all := lw_g (lw_at lw_m0 124 rfl) rfl
theorem q145 : (Jvm.Cond.methodLink "CoffmanGrahamLaw" (20 : Nat) ({ cls := "CoffmanGrahamModel", name := "<init>", desc := "(I)V" } : Jvm.MethodName)) ∈ lw_all := lw_g (lw_at lw_m0 126 rfl) rfl
theorem q162 : (Jvm.Cond.methodLink "CoffmanGrahamLaw" (25 : Nat) ({ cls := "CoffmanGrahamModel", name := "addTask", desc := "()I" } : Jvm.MethodName)) ∈ lw_all := lw_g (lw_at lw_m0 143 rfl) rfl
theorem q166 : (Jvm.Cond.methodLink "CoffmanGrahamLaw" (30 : Nat) ({ cls := "CoffmanGrahamModel", name := "removeTask", desc := "(I)I" } : Jvm.MethodName)) ∈ lw_all := lw_g (lw_at lw_m0 147 rfl) rfl
theorem q178 : (Jvm.Cond.methodLink "CoffmanGrahamLaw" (35 : Nat) ({ cls := "CoffmanGrahamModel", name := "addOrder", desc := "(II)I" } : Jvm.MethodName)) ∈ lw_all := lw_g (lw_at lw_m0 159 rfl) rfl
theorem q190 : (Jvm.Cond.methodLink "CoffmanGrahamLaw" (39 : Nat) ({ cls := "CoffmanGrahamModel", name := "removeOrder", desc := "(II)I" } : Jvm.MethodName)) ∈ lw_all := lw_g (lw_at lw_m0 171 rfl) rfl
theorem q194 : (Jvm.Cond.methodLink "CoffmanGrahamLaw" (43 : Nat) ({ cls := "CoffmanGrahamModel", name := "tasks", desc := "()I" } : Jvm.MethodName)) ∈ lw_all := lw_g (lw_at lw_m0 175 rfl) rfl
theorem q198 : (Jvm.Cond.methodLink "CoffmanGrahamLaw" (48 : Nat) ({ cls := "CoffmanGrahamModel", name := "after", desc := "(II)Z" } : Jvm.MethodName)) ∈ lw_all := lw_g (lw_at lw_m0 179 rfl) rfl
theorem q202 : (Jvm.Cond.methodLink "CoffmanGrahamLaw" (52 : Nat) ({ cls := "CoffmanGrahamModel", name := "height", desc := "(I)I" } : Jvm.MethodName)) ∈ lw_all := lw_g (lw_at lw_m0 183 rfl) rfl
theorem q206 : (Jvm.Cond.methodLink "CoffmanGrahamLaw" (56 : Nat) ({ cls := "CoffmanGrahamModel", name := "superfluous", desc := "()I" } : Jvm.MethodName)) ∈ lw_all := lw_g (lw_at lw_m0 187 rfl) rfl
theorem q214 : (Jvm.Cond.methodLink "CoffmanGrahamLaw" (61 : Nat) ({ cls := "CoffmanGrahamModel", name := "inTrees", desc := "()Z" } : Jvm.MethodName)) ∈ lw_all := lw_g (lw_at lw_m0 195 rfl) rfl
theorem q218 : (Jvm.Cond.methodLink "CoffmanGrahamLaw" (65 : Nat) ({ cls := "CoffmanGrahamModel", name := "shortest", desc := "(I)I" } : Jvm.MethodName)) ∈ lw_all := lw_g (lw_at lw_m0 199 rfl) rfl
theorem q235 : (Jvm.Cond.methodLink "CoffmanGrahamLaw" (69 : Nat) ({ cls := "CoffmanGrahamModel", name := "without", desc := "(I)I" } : Jvm.MethodName)) ∈ lw_all := lw_g (lw_at lw_m0 216 rfl) rfl
/-! java/lang/Object -/
def RJ0 : String := "java/lang/Object"
abbrev cJ0_init : ByteArray := object_method_1_code
def yJ0_init : MethodName := ⟨RJ0, "<init>", "()V"⟩
theorem q28 : (Jvm.Cond.instanceMethod ({ cls := "java/lang/Object", name := "<init>", desc := "()V" } : Jvm.MethodName)) ∈ lw_all := lw_g (lw_at lw_m0 9 rfl) rfl
theorem q29 : (Jvm.Cond.code ({ cls := "java/lang/Object", name := "<init>", desc := "()V" } : Jvm.MethodName) object_method_1_code (1 : Nat) (Option.none : Option Jvm.ClassFile.FieldType)) ∈ lw_all := lw_g (lw_at lw_m0 10 rfl) rfl
theorem q49 : (Jvm.Cond.arrayClass Jvm.ClassFile.FieldType.int) ∈ lw_all := lw_g (lw_at lw_m0 30 rfl) rfl
theorem q50 : (Jvm.Cond.arrayClass Jvm.ClassFile.FieldType.byte) ∈ lw_all := lw_g (lw_at lw_m0 31 rfl) rfl
/-! the law's own entry -/
abbrev cL_law : ByteArray := code
/-! CoffmanGraham -/
def RX1 : String := "CoffmanGraham"
def TX1 : u_T := fun k => match k with
  | 0 => ("CoffmanGraham", "taskCount", "I", false)
  | 1 => ("CoffmanGraham", "followers", "[I", true)
  | 2 => ("CoffmanGraham", "later", "[I", true)
  | 3 => ("CoffmanGraham", "part", "I", false)
  | 4 => ("CoffmanGraham", "next", "[I", true)
  | _ => ("CoffmanGraham", "label", "[B", true)
def tyX1 : Nat → FieldType := fun k => match k with
  | 0 => .int
  | 1 => .array .int
  | 2 => .array .int
  | 3 => .int
  | 4 => .array .int
  | _ => .array .byte
abbrev wsX10 : List Cond := u_ws RX1 TX1 6
theorem nmX1 : ∀ a, a < 6 → ∀ b, b < 6 → a ≠ b → (TX1 a).2.1 ≠ (TX1 b).2.1 := by decide +kernel
theorem tyX1_ok : ∀ k, k < 6 → parseFieldDescriptor (TX1 k).2.2.1 = some (tyX1 k) := by decide +kernel
abbrev cX1_init : ByteArray := prog_1_method_1_code
def yX1_init : MethodName := ⟨RX1, "<init>", "(I)V"⟩
abbrev cX1_addTask : ByteArray := prog_1_method_2_code
def yX1_addTask : MethodName := ⟨RX1, "addTask", "()I"⟩
abbrev cX1_closeOrders : ByteArray := prog_1_method_7_code
def yX1_closeOrders : MethodName := ⟨RX1, "closeOrders", "()V"⟩
abbrev cX1_removeTask : ByteArray := prog_1_method_3_code
def yX1_removeTask : MethodName := ⟨RX1, "removeTask", "(I)I"⟩
abbrev cX1_isTask : ByteArray := prog_1_method_6_code
def yX1_isTask : MethodName := ⟨RX1, "isTask", "(I)Z"⟩
abbrev cX1_addOrder : ByteArray := prog_1_method_4_code
def yX1_addOrder : MethodName := ⟨RX1, "addOrder", "(II)I"⟩
abbrev cX1_removeOrder : ByteArray := prog_1_method_5_code
def yX1_removeOrder : MethodName := ⟨RX1, "removeOrder", "(II)I"⟩
abbrev cX1_tasks : ByteArray := prog_1_method_8_code
def yX1_tasks : MethodName := ⟨RX1, "tasks", "()I"⟩
abbrev cX1_after : ByteArray := prog_1_method_9_code
def yX1_after : MethodName := ⟨RX1, "after", "(II)Z"⟩
abbrev cX1_height : ByteArray := prog_1_method_10_code
def yX1_height : MethodName := ⟨RX1, "height", "(I)I"⟩
abbrev cX1_heightOf : ByteArray := prog_1_method_17_code
def yX1_heightOf : MethodName := ⟨RX1, "heightOf", "(I)I"⟩
abbrev cX1_superfluous : ByteArray := prog_1_method_11_code
def yX1_superfluous : MethodName := ⟨RX1, "superfluous", "()I"⟩
abbrev cX1_immediate : ByteArray := prog_1_method_16_code
def yX1_immediate : MethodName := ⟨RX1, "immediate", "(II)I"⟩
abbrev cX1_bitsIn : ByteArray := prog_1_method_15_code
def yX1_bitsIn : MethodName := ⟨RX1, "bitsIn", "(I)I"⟩
abbrev cX1_inTrees : ByteArray := prog_1_method_12_code
def yX1_inTrees : MethodName := ⟨RX1, "inTrees", "()Z"⟩
abbrev cX1_shortest : ByteArray := prog_1_method_13_code
def yX1_shortest : MethodName := ⟨RX1, "shortest", "(I)I"⟩
abbrev cX1_labelByLists : ByteArray := prog_1_method_18_code
def yX1_labelByLists : MethodName := ⟨RX1, "labelByLists", "()V"⟩
abbrev cX1_labelList : ByteArray := prog_1_method_19_code
def yX1_labelList : MethodName := ⟨RX1, "labelList", "(I)I"⟩
abbrev cX1_labelByHeights : ByteArray := prog_1_method_20_code
def yX1_labelByHeights : MethodName := ⟨RX1, "labelByHeights", "()V"⟩
abbrev cX1_lengthOnList : ByteArray := prog_1_method_21_code
def yX1_lengthOnList : MethodName := ⟨RX1, "lengthOnList", "(I)I"⟩
abbrev cX1_bestReady : ByteArray := prog_1_method_22_code
def yX1_bestReady : MethodName := ⟨RX1, "bestReady", "(II)I"⟩
abbrev cX1_isReady : ByteArray := prog_1_method_23_code
def yX1_isReady : MethodName := ⟨RX1, "isReady", "(II)Z"⟩
abbrev cX1_without : ByteArray := prog_1_method_14_code
def yX1_without : MethodName := ⟨RX1, "without", "(I)I"⟩
theorem q20 : (Jvm.Cond.initialized "CoffmanGraham") ∈ lw_all := lw_g (lw_at lw_m0 1 rfl) rfl
theorem q23 : (Jvm.Cond.instantiable "CoffmanGraham" (6 : Nat)) ∈ lw_all := lw_g (lw_at lw_m0 4 rfl) rfl
theorem q25 : (Jvm.Cond.instanceMethod ({ cls := "CoffmanGraham", name := "<init>", desc := "(I)V" } : Jvm.MethodName)) ∈ lw_all := lw_g (lw_at lw_m0 6 rfl) rfl
theorem q26 : (Jvm.Cond.code ({ cls := "CoffmanGraham", name := "<init>", desc := "(I)V" } : Jvm.MethodName) prog_1_method_1_code (2 : Nat) (Option.none : Option Jvm.ClassFile.FieldType)) ∈ lw_all := lw_g (lw_at lw_m0 7 rfl) rfl
theorem q27 : (Jvm.Cond.methodLink "CoffmanGraham" (1 : Nat) ({ cls := "java/lang/Object", name := "<init>", desc := "()V" } : Jvm.MethodName)) ∈ lw_all := lw_g (lw_at lw_m0 8 rfl) rfl
theorem q30 : (Jvm.Cond.fieldLink "CoffmanGraham" (23 : Nat) "CoffmanGraham" "taskCount" "I") ∈ lw_all := lw_g (lw_at lw_m0 11 rfl) rfl
theorem q31 : (Jvm.Cond.fieldLink "CoffmanGraham" (7 : Nat) "CoffmanGraham" "followers" "[I") ∈ lw_all := lw_g (lw_at lw_m0 12 rfl) rfl
theorem q32 : (Jvm.Cond.fieldLink "CoffmanGraham" (13 : Nat) "CoffmanGraham" "later" "[I") ∈ lw_all := lw_g (lw_at lw_m0 13 rfl) rfl
theorem q33 : (Jvm.Cond.fieldLink "CoffmanGraham" (45 : Nat) "CoffmanGraham" "part" "I") ∈ lw_all := lw_g (lw_at lw_m0 14 rfl) rfl
theorem q34 : (Jvm.Cond.fieldLink "CoffmanGraham" (16 : Nat) "CoffmanGraham" "next" "[I") ∈ lw_all := lw_g (lw_at lw_m0 15 rfl) rfl
theorem q35 : (Jvm.Cond.fieldLink "CoffmanGraham" (19 : Nat) "CoffmanGraham" "label" "[B") ∈ lw_all := lw_g (lw_at lw_m0 16 rfl) rfl
theorem q36 : (Jvm.Cond.lays "CoffmanGraham" "CoffmanGraham" "taskCount" "I") ∈ lw_all := lw_g (lw_at lw_m0 17 rfl) rfl
theorem q37 : (Jvm.Cond.soleField "CoffmanGraham" "taskCount") ∈ lw_all := lw_g (lw_at lw_m0 18 rfl) rfl
theorem q38 : (Jvm.Cond.laysFinal "CoffmanGraham" "CoffmanGraham" "followers" "[I") ∈ lw_all := lw_g (lw_at lw_m0 19 rfl) rfl
theorem q39 : (Jvm.Cond.soleField "CoffmanGraham" "followers") ∈ lw_all := lw_g (lw_at lw_m0 20 rfl) rfl
theorem q40 : (Jvm.Cond.laysFinal "CoffmanGraham" "CoffmanGraham" "later" "[I") ∈ lw_all := lw_g (lw_at lw_m0 21 rfl) rfl
theorem q41 : (Jvm.Cond.soleField "CoffmanGraham" "later") ∈ lw_all := lw_g (lw_at lw_m0 22 rfl) rfl
theorem q42 : (Jvm.Cond.lays "CoffmanGraham" "CoffmanGraham" "part" "I") ∈ lw_all := lw_g (lw_at lw_m0 23 rfl) rfl
theorem q43 : (Jvm.Cond.soleField "CoffmanGraham" "part") ∈ lw_all := lw_g (lw_at lw_m0 24 rfl) rfl
theorem q44 : (Jvm.Cond.laysFinal "CoffmanGraham" "CoffmanGraham" "next" "[I") ∈ lw_all := lw_g (lw_at lw_m0 25 rfl) rfl
theorem q45 : (Jvm.Cond.soleField "CoffmanGraham" "next") ∈ lw_all := lw_g (lw_at lw_m0 26 rfl) rfl
theorem q46 : (Jvm.Cond.laysFinal "CoffmanGraham" "CoffmanGraham" "label" "[B") ∈ lw_all := lw_g (lw_at lw_m0 27 rfl) rfl
theorem q47 : (Jvm.Cond.soleField "CoffmanGraham" "label") ∈ lw_all := lw_g (lw_at lw_m0 28 rfl) rfl
theorem q48 : (Jvm.Cond.superclass "CoffmanGraham" "java/lang/Object") ∈ lw_all := lw_g (lw_at lw_m0 29 rfl) rfl
theorem q52 : (Jvm.Cond.instanceMethod ({ cls := "CoffmanGraham", name := "addTask", desc := "()I" } : Jvm.MethodName)) ∈ lw_all := lw_g (lw_at lw_m0 33 rfl) rfl
theorem q53 : (Jvm.Cond.selects "CoffmanGraham" ({ cls := "CoffmanGraham", name := "addTask", desc := "()I" } : Jvm.MethodName) ({ cls := "CoffmanGraham", name := "addTask", desc := "()I" } : Jvm.MethodName)) ∈ lw_all := lw_g (lw_at lw_m0 34 rfl) rfl
theorem q54 : (Jvm.Cond.code ({ cls := "CoffmanGraham", name := "addTask", desc := "()I" } : Jvm.MethodName) prog_1_method_2_code (1 : Nat) (Option.some Jvm.ClassFile.FieldType.int)) ∈ lw_all := lw_g (lw_at lw_m0 35 rfl) rfl
theorem q55 : (Jvm.Cond.methodLink "CoffmanGraham" (27 : Nat) ({ cls := "CoffmanGraham", name := "closeOrders", desc := "()V" } : Jvm.MethodName)) ∈ lw_all := lw_g (lw_at lw_m0 36 rfl) rfl
theorem q56 : (Jvm.Cond.privateMethod ({ cls := "CoffmanGraham", name := "closeOrders", desc := "()V" } : Jvm.MethodName)) ∈ lw_tbl := lw_at lw_m0 37 rfl
theorem q57 : (Jvm.Cond.instanceMethod ({ cls := "CoffmanGraham", name := "closeOrders", desc := "()V" } : Jvm.MethodName)) ∈ lw_all := lw_g (lw_at lw_m0 38 rfl) rfl
theorem q58 : (Jvm.Cond.code ({ cls := "CoffmanGraham", name := "closeOrders", desc := "()V" } : Jvm.MethodName) prog_1_method_7_code (3 : Nat) (Option.none : Option Jvm.ClassFile.FieldType)) ∈ lw_all := lw_g (lw_at lw_m0 39 rfl) rfl
theorem q60 : (Jvm.Cond.instanceMethod ({ cls := "CoffmanGraham", name := "removeTask", desc := "(I)I" } : Jvm.MethodName)) ∈ lw_all := lw_g (lw_at lw_m0 41 rfl) rfl
theorem q61 : (Jvm.Cond.selects "CoffmanGraham" ({ cls := "CoffmanGraham", name := "removeTask", desc := "(I)I" } : Jvm.MethodName) ({ cls := "CoffmanGraham", name := "removeTask", desc := "(I)I" } : Jvm.MethodName)) ∈ lw_all := lw_g (lw_at lw_m0 42 rfl) rfl
theorem q62 : (Jvm.Cond.code ({ cls := "CoffmanGraham", name := "removeTask", desc := "(I)I" } : Jvm.MethodName) prog_1_method_3_code (4 : Nat) (Option.some Jvm.ClassFile.FieldType.int)) ∈ lw_all := lw_g (lw_at lw_m0 43 rfl) rfl
theorem q63 : (Jvm.Cond.methodLink "CoffmanGraham" (30 : Nat) ({ cls := "CoffmanGraham", name := "isTask", desc := "(I)Z" } : Jvm.MethodName)) ∈ lw_all := lw_g (lw_at lw_m0 44 rfl) rfl
theorem q64 : (Jvm.Cond.privateMethod ({ cls := "CoffmanGraham", name := "isTask", desc := "(I)Z" } : Jvm.MethodName)) ∈ lw_tbl := lw_at lw_m0 45 rfl
theorem q65 : (Jvm.Cond.instanceMethod ({ cls := "CoffmanGraham", name := "isTask", desc := "(I)Z" } : Jvm.MethodName)) ∈ lw_all := lw_g (lw_at lw_m0 46 rfl) rfl
theorem q66 : (Jvm.Cond.code ({ cls := "CoffmanGraham", name := "isTask", desc := "(I)Z" } : Jvm.MethodName) prog_1_method_6_code (2 : Nat) (Option.some Jvm.ClassFile.FieldType.boolean)) ∈ lw_all := lw_g (lw_at lw_m0 47 rfl) rfl
theorem q68 : (Jvm.Cond.instanceMethod ({ cls := "CoffmanGraham", name := "addOrder", desc := "(II)I" } : Jvm.MethodName)) ∈ lw_all := lw_g (lw_at lw_m0 49 rfl) rfl
theorem q69 : (Jvm.Cond.selects "CoffmanGraham" ({ cls := "CoffmanGraham", name := "addOrder", desc := "(II)I" } : Jvm.MethodName) ({ cls := "CoffmanGraham", name := "addOrder", desc := "(II)I" } : Jvm.MethodName)) ∈ lw_all := lw_g (lw_at lw_m0 50 rfl) rfl
theorem q70 : (Jvm.Cond.code ({ cls := "CoffmanGraham", name := "addOrder", desc := "(II)I" } : Jvm.MethodName) prog_1_method_4_code (5 : Nat) (Option.some Jvm.ClassFile.FieldType.int)) ∈ lw_all := lw_g (lw_at lw_m0 51 rfl) rfl
theorem q72 : (Jvm.Cond.instanceMethod ({ cls := "CoffmanGraham", name := "removeOrder", desc := "(II)I" } : Jvm.MethodName)) ∈ lw_all := lw_g (lw_at lw_m0 53 rfl) rfl
theorem q73 : (Jvm.Cond.selects "CoffmanGraham" ({ cls := "CoffmanGraham", name := "removeOrder", desc := "(II)I" } : Jvm.MethodName) ({ cls := "CoffmanGraham", name := "removeOrder", desc := "(II)I" } : Jvm.MethodName)) ∈ lw_all := lw_g (lw_at lw_m0 54 rfl) rfl
theorem q74 : (Jvm.Cond.code ({ cls := "CoffmanGraham", name := "removeOrder", desc := "(II)I" } : Jvm.MethodName) prog_1_method_5_code (3 : Nat) (Option.some Jvm.ClassFile.FieldType.int)) ∈ lw_all := lw_g (lw_at lw_m0 55 rfl) rfl
theorem q76 : (Jvm.Cond.instanceMethod ({ cls := "CoffmanGraham", name := "tasks", desc := "()I" } : Jvm.MethodName)) ∈ lw_all := lw_g (lw_at lw_m0 57 rfl) rfl
theorem q77 : (Jvm.Cond.selects "CoffmanGraham" ({ cls := "CoffmanGraham", name := "tasks", desc := "()I" } : Jvm.MethodName) ({ cls := "CoffmanGraham", name := "tasks", desc := "()I" } : Jvm.MethodName)) ∈ lw_all := lw_g (lw_at lw_m0 58 rfl) rfl
theorem q78 : (Jvm.Cond.code ({ cls := "CoffmanGraham", name := "tasks", desc := "()I" } : Jvm.MethodName) prog_1_method_8_code (1 : Nat) (Option.some Jvm.ClassFile.FieldType.int)) ∈ lw_all := lw_g (lw_at lw_m0 59 rfl) rfl
theorem q80 : (Jvm.Cond.instanceMethod ({ cls := "CoffmanGraham", name := "after", desc := "(II)Z" } : Jvm.MethodName)) ∈ lw_all := lw_g (lw_at lw_m0 61 rfl) rfl
theorem q81 : (Jvm.Cond.selects "CoffmanGraham" ({ cls := "CoffmanGraham", name := "after", desc := "(II)Z" } : Jvm.MethodName) ({ cls := "CoffmanGraham", name := "after", desc := "(II)Z" } : Jvm.MethodName)) ∈ lw_all := lw_g (lw_at lw_m0 62 rfl) rfl
theorem q82 : (Jvm.Cond.code ({ cls := "CoffmanGraham", name := "after", desc := "(II)Z" } : Jvm.MethodName) prog_1_method_9_code (3 : Nat) (Option.some Jvm.ClassFile.FieldType.boolean)) ∈ lw_all := lw_g (lw_at lw_m0 63 rfl) rfl
theorem q84 : (Jvm.Cond.instanceMethod ({ cls := "CoffmanGraham", name := "height", desc := "(I)I" } : Jvm.MethodName)) ∈ lw_all := lw_g (lw_at lw_m0 65 rfl) rfl
theorem q85 : (Jvm.Cond.selects "CoffmanGraham" ({ cls := "CoffmanGraham", name := "height", desc := "(I)I" } : Jvm.MethodName) ({ cls := "CoffmanGraham", name := "height", desc := "(I)I" } : Jvm.MethodName)) ∈ lw_all := lw_g (lw_at lw_m0 66 rfl) rfl
theorem q86 : (Jvm.Cond.code ({ cls := "CoffmanGraham", name := "height", desc := "(I)I" } : Jvm.MethodName) prog_1_method_10_code (2 : Nat) (Option.some Jvm.ClassFile.FieldType.int)) ∈ lw_all := lw_g (lw_at lw_m0 67 rfl) rfl
theorem q87 : (Jvm.Cond.methodLink "CoffmanGraham" (34 : Nat) ({ cls := "CoffmanGraham", name := "heightOf", desc := "(I)I" } : Jvm.MethodName)) ∈ lw_all := lw_g (lw_at lw_m0 68 rfl) rfl
theorem q88 : (Jvm.Cond.privateMethod ({ cls := "CoffmanGraham", name := "heightOf", desc := "(I)I" } : Jvm.MethodName)) ∈ lw_tbl := lw_at lw_m0 69 rfl
theorem q89 : (Jvm.Cond.instanceMethod ({ cls := "CoffmanGraham", name := "heightOf", desc := "(I)I" } : Jvm.MethodName)) ∈ lw_all := lw_g (lw_at lw_m0 70 rfl) rfl
theorem q90 : (Jvm.Cond.code ({ cls := "CoffmanGraham", name := "heightOf", desc := "(I)I" } : Jvm.MethodName) prog_1_method_17_code (7 : Nat) (Option.some Jvm.ClassFile.FieldType.int)) ∈ lw_all := lw_g (lw_at lw_m0 71 rfl) rfl
theorem q92 : (Jvm.Cond.instanceMethod ({ cls := "CoffmanGraham", name := "superfluous", desc := "()I" } : Jvm.MethodName)) ∈ lw_all := lw_g (lw_at lw_m0 73 rfl) rfl
theorem q93 : (Jvm.Cond.selects "CoffmanGraham" ({ cls := "CoffmanGraham", name := "superfluous", desc := "()I" } : Jvm.MethodName) ({ cls := "CoffmanGraham", name := "superfluous", desc := "()I" } : Jvm.MethodName)) ∈ lw_all := lw_g (lw_at lw_m0 74 rfl) rfl
theorem q94 : (Jvm.Cond.code ({ cls := "CoffmanGraham", name := "superfluous", desc := "()I" } : Jvm.MethodName) prog_1_method_11_code (4 : Nat) (Option.some Jvm.ClassFile.FieldType.int)) ∈ lw_all := lw_g (lw_at lw_m0 75 rfl) rfl
theorem q95 : (Jvm.Cond.methodLink "CoffmanGraham" (38 : Nat) ({ cls := "CoffmanGraham", name := "immediate", desc := "(II)I" } : Jvm.MethodName)) ∈ lw_all := lw_g (lw_at lw_m0 76 rfl) rfl
theorem q96 : (Jvm.Cond.privateMethod ({ cls := "CoffmanGraham", name := "immediate", desc := "(II)I" } : Jvm.MethodName)) ∈ lw_tbl := lw_at lw_m0 77 rfl
theorem q97 : (Jvm.Cond.instanceMethod ({ cls := "CoffmanGraham", name := "immediate", desc := "(II)I" } : Jvm.MethodName)) ∈ lw_all := lw_g (lw_at lw_m0 78 rfl) rfl
theorem q98 : (Jvm.Cond.code ({ cls := "CoffmanGraham", name := "immediate", desc := "(II)I" } : Jvm.MethodName) prog_1_method_16_code (5 : Nat) (Option.some Jvm.ClassFile.FieldType.int)) ∈ lw_all := lw_g (lw_at lw_m0 79 rfl) rfl
theorem q99 : (Jvm.Cond.methodLink "CoffmanGraham" (42 : Nat) ({ cls := "CoffmanGraham", name := "bitsIn", desc := "(I)I" } : Jvm.MethodName)) ∈ lw_all := lw_g (lw_at lw_m0 80 rfl) rfl
theorem q100 : (Jvm.Cond.privateMethod ({ cls := "CoffmanGraham", name := "bitsIn", desc := "(I)I" } : Jvm.MethodName)) ∈ lw_tbl := lw_at lw_m0 81 rfl
theorem q101 : (Jvm.Cond.instanceMethod ({ cls := "CoffmanGraham", name := "bitsIn", desc := "(I)I" } : Jvm.MethodName)) ∈ lw_all := lw_g (lw_at lw_m0 82 rfl) rfl
theorem q102 : (Jvm.Cond.code ({ cls := "CoffmanGraham", name := "bitsIn", desc := "(I)I" } : Jvm.MethodName) prog_1_method_15_code (4 : Nat) (Option.some Jvm.ClassFile.FieldType.int)) ∈ lw_all := lw_g (lw_at lw_m0 83 rfl) rfl
theorem q104 : (Jvm.Cond.instanceMethod ({ cls := "CoffmanGraham", name := "inTrees", desc := "()Z" } : Jvm.MethodName)) ∈ lw_all := lw_g (lw_at lw_m0 85 rfl) rfl
theorem q105 : (Jvm.Cond.selects "CoffmanGraham" ({ cls := "CoffmanGraham", name := "inTrees", desc := "()Z" } : Jvm.MethodName) ({ cls := "CoffmanGraham", name := "inTrees", desc := "()Z" } : Jvm.MethodName)) ∈ lw_all := lw_g (lw_at lw_m0 86 rfl) rfl
theorem q106 : (Jvm.Cond.code ({ cls := "CoffmanGraham", name := "inTrees", desc := "()Z" } : Jvm.MethodName) prog_1_method_12_code (3 : Nat) (Option.some Jvm.ClassFile.FieldType.boolean)) ∈ lw_all := lw_g (lw_at lw_m0 87 rfl) rfl
theorem q108 : (Jvm.Cond.instanceMethod ({ cls := "CoffmanGraham", name := "shortest", desc := "(I)I" } : Jvm.MethodName)) ∈ lw_all := lw_g (lw_at lw_m0 89 rfl) rfl
theorem q109 : (Jvm.Cond.selects "CoffmanGraham" ({ cls := "CoffmanGraham", name := "shortest", desc := "(I)I" } : Jvm.MethodName) ({ cls := "CoffmanGraham", name := "shortest", desc := "(I)I" } : Jvm.MethodName)) ∈ lw_all := lw_g (lw_at lw_m0 90 rfl) rfl
theorem q110 : (Jvm.Cond.code ({ cls := "CoffmanGraham", name := "shortest", desc := "(I)I" } : Jvm.MethodName) prog_1_method_13_code (2 : Nat) (Option.some Jvm.ClassFile.FieldType.int)) ∈ lw_all := lw_g (lw_at lw_m0 91 rfl) rfl
theorem q111 : (Jvm.Cond.methodLink "CoffmanGraham" (48 : Nat) ({ cls := "CoffmanGraham", name := "labelByLists", desc := "()V" } : Jvm.MethodName)) ∈ lw_all := lw_g (lw_at lw_m0 92 rfl) rfl
theorem q112 : (Jvm.Cond.privateMethod ({ cls := "CoffmanGraham", name := "labelByLists", desc := "()V" } : Jvm.MethodName)) ∈ lw_tbl := lw_at lw_m0 93 rfl
theorem q113 : (Jvm.Cond.instanceMethod ({ cls := "CoffmanGraham", name := "labelByLists", desc := "()V" } : Jvm.MethodName)) ∈ lw_all := lw_g (lw_at lw_m0 94 rfl) rfl
theorem q114 : (Jvm.Cond.code ({ cls := "CoffmanGraham", name := "labelByLists", desc := "()V" } : Jvm.MethodName) prog_1_method_18_code (6 : Nat) (Option.none : Option Jvm.ClassFile.FieldType)) ∈ lw_all := lw_g (lw_at lw_m0 95 rfl) rfl
theorem q115 : (Jvm.Cond.methodLink "CoffmanGraham" (61 : Nat) ({ cls := "CoffmanGraham", name := "labelList", desc := "(I)I" } : Jvm.MethodName)) ∈ lw_all := lw_g (lw_at lw_m0 96 rfl) rfl
theorem q116 : (Jvm.Cond.privateMethod ({ cls := "CoffmanGraham", name := "labelList", desc := "(I)I" } : Jvm.MethodName)) ∈ lw_tbl := lw_at lw_m0 97 rfl
theorem q117 : (Jvm.Cond.instanceMethod ({ cls := "CoffmanGraham", name := "labelList", desc := "(I)I" } : Jvm.MethodName)) ∈ lw_all := lw_g (lw_at lw_m0 98 rfl) rfl
theorem q118 : (Jvm.Cond.code ({ cls := "CoffmanGraham", name := "labelList", desc := "(I)I" } : Jvm.MethodName) prog_1_method_19_code (4 : Nat) (Option.some Jvm.ClassFile.FieldType.int)) ∈ lw_all := lw_g (lw_at lw_m0 99 rfl) rfl
theorem q119 : (Jvm.Cond.methodLink "CoffmanGraham" (51 : Nat) ({ cls := "CoffmanGraham", name := "inTrees", desc := "()Z" } : Jvm.MethodName)) ∈ lw_all := lw_g (lw_at lw_m0 100 rfl) rfl
theorem q120 : (Jvm.Cond.methodLink "CoffmanGraham" (55 : Nat) ({ cls := "CoffmanGraham", name := "labelByHeights", desc := "()V" } : Jvm.MethodName)) ∈ lw_all := lw_g (lw_at lw_m0 101 rfl) rfl
theorem q121 : (Jvm.Cond.privateMethod ({ cls := "CoffmanGraham", name := "labelByHeights", desc := "()V" } : Jvm.MethodName)) ∈ lw_tbl := lw_at lw_m0 102 rfl
theorem q122 : (Jvm.Cond.instanceMethod ({ cls := "CoffmanGraham", name := "labelByHeights", desc := "()V" } : Jvm.MethodName)) ∈ lw_all := lw_g (lw_at lw_m0 103 rfl) rfl
theorem q123 : (Jvm.Cond.code ({ cls := "CoffmanGraham", name := "labelByHeights", desc := "()V" } : Jvm.MethodName) prog_1_method_20_code (2 : Nat) (Option.none : Option Jvm.ClassFile.FieldType)) ∈ lw_all := lw_g (lw_at lw_m0 104 rfl) rfl
theorem q124 : (Jvm.Cond.methodLink "CoffmanGraham" (58 : Nat) ({ cls := "CoffmanGraham", name := "lengthOnList", desc := "(I)I" } : Jvm.MethodName)) ∈ lw_all := lw_g (lw_at lw_m0 105 rfl) rfl
theorem q125 : (Jvm.Cond.privateMethod ({ cls := "CoffmanGraham", name := "lengthOnList", desc := "(I)I" } : Jvm.MethodName)) ∈ lw_tbl := lw_at lw_m0 106 rfl
theorem q126 : (Jvm.Cond.instanceMethod ({ cls := "CoffmanGraham", name := "lengthOnList", desc := "(I)I" } : Jvm.MethodName)) ∈ lw_all := lw_g (lw_at lw_m0 107 rfl) rfl
theorem q127 : (Jvm.Cond.code ({ cls := "CoffmanGraham", name := "lengthOnList", desc := "(I)I" } : Jvm.MethodName) prog_1_method_21_code (7 : Nat) (Option.some Jvm.ClassFile.FieldType.int)) ∈ lw_all := lw_g (lw_at lw_m0 108 rfl) rfl
theorem q128 : (Jvm.Cond.methodLink "CoffmanGraham" (64 : Nat) ({ cls := "CoffmanGraham", name := "bestReady", desc := "(II)I" } : Jvm.MethodName)) ∈ lw_all := lw_g (lw_at lw_m0 109 rfl) rfl
theorem q129 : (Jvm.Cond.privateMethod ({ cls := "CoffmanGraham", name := "bestReady", desc := "(II)I" } : Jvm.MethodName)) ∈ lw_tbl := lw_at lw_m0 110 rfl
theorem q130 : (Jvm.Cond.instanceMethod ({ cls := "CoffmanGraham", name := "bestReady", desc := "(II)I" } : Jvm.MethodName)) ∈ lw_all := lw_g (lw_at lw_m0 111 rfl) rfl
theorem q131 : (Jvm.Cond.code ({ cls := "CoffmanGraham", name := "bestReady", desc := "(II)I" } : Jvm.MethodName) prog_1_method_22_code (6 : Nat) (Option.some Jvm.ClassFile.FieldType.int)) ∈ lw_all := lw_g (lw_at lw_m0 112 rfl) rfl
theorem q132 : (Jvm.Cond.methodLink "CoffmanGraham" (67 : Nat) ({ cls := "CoffmanGraham", name := "isReady", desc := "(II)Z" } : Jvm.MethodName)) ∈ lw_all := lw_g (lw_at lw_m0 113 rfl) rfl
theorem q133 : (Jvm.Cond.privateMethod ({ cls := "CoffmanGraham", name := "isReady", desc := "(II)Z" } : Jvm.MethodName)) ∈ lw_tbl := lw_at lw_m0 114 rfl
theorem q134 : (Jvm.Cond.instanceMethod ({ cls := "CoffmanGraham", name := "isReady", desc := "(II)Z" } : Jvm.MethodName)) ∈ lw_all := lw_g (lw_at lw_m0 115 rfl) rfl
theorem q135 : (Jvm.Cond.code ({ cls := "CoffmanGraham", name := "isReady", desc := "(II)Z" } : Jvm.MethodName) prog_1_method_23_code (4 : Nat) (Option.some Jvm.ClassFile.FieldType.boolean)) ∈ lw_all := lw_g (lw_at lw_m0 116 rfl) rfl
theorem q137 : (Jvm.Cond.instanceMethod ({ cls := "CoffmanGraham", name := "without", desc := "(I)I" } : Jvm.MethodName)) ∈ lw_all := lw_g (lw_at lw_m0 118 rfl) rfl
theorem q138 : (Jvm.Cond.selects "CoffmanGraham" ({ cls := "CoffmanGraham", name := "without", desc := "(I)I" } : Jvm.MethodName) ({ cls := "CoffmanGraham", name := "without", desc := "(I)I" } : Jvm.MethodName)) ∈ lw_all := lw_g (lw_at lw_m0 119 rfl) rfl
theorem q139 : (Jvm.Cond.code ({ cls := "CoffmanGraham", name := "without", desc := "(I)I" } : Jvm.MethodName) prog_1_method_14_code (4 : Nat) (Option.some Jvm.ClassFile.FieldType.int)) ∈ lw_all := lw_g (lw_at lw_m0 120 rfl) rfl
theorem in_X1 : ∀ w ∈ wsX10, w ∈ lw_all := lw_in wsX10 [36, 38, 40, 42, 44, 46] (by decide +kernel) (by decide +kernel)
/-! CoffmanGrahamModel -/
def RX2 : String := "CoffmanGrahamModel"
def TX2 : u_T := fun k => match k with
  | 0 => ("CoffmanGrahamModel", "n", "I", false)
  | 1 => ("CoffmanGrahamModel", "next", "[I", false)
  | 2 => ("CoffmanGrahamModel", "later", "[I", false)
  | _ => ("CoffmanGrahamModel", "slots", "[I", false)
def tyX2 : Nat → FieldType := fun k => match k with
  | 0 => .int
  | 1 => .array .int
  | 2 => .array .int
  | _ => .array .int
abbrev wsX20 : List Cond := u_ws RX2 TX2 4
theorem nmX2 : ∀ a, a < 4 → ∀ b, b < 4 → a ≠ b → (TX2 a).2.1 ≠ (TX2 b).2.1 := by decide +kernel
theorem tyX2_ok : ∀ k, k < 4 → parseFieldDescriptor (TX2 k).2.2.1 = some (tyX2 k) := by decide +kernel
abbrev cX2_init : ByteArray := prog_3_method_1_code
def yX2_init : MethodName := ⟨RX2, "<init>", "(I)V"⟩
abbrev cX2_addTask : ByteArray := prog_3_method_4_code
def yX2_addTask : MethodName := ⟨RX2, "addTask", "()I"⟩
abbrev cX2_removeTask : ByteArray := prog_3_method_6_code
def yX2_removeTask : MethodName := ⟨RX2, "removeTask", "(I)I"⟩
abbrev cX2_isTask : ByteArray := prog_3_method_2_code
def yX2_isTask : MethodName := ⟨RX2, "isTask", "(I)Z"⟩
abbrev cX2_cut : ByteArray := prog_3_method_5_code
def yX2_cut : MethodName := ⟨RX2, "cut", "(II)I"⟩
abbrev cX2_addOrder : ByteArray := prog_3_method_8_code
def yX2_addOrder : MethodName := ⟨RX2, "addOrder", "(II)I"⟩
abbrev cX2_findLater : ByteArray := prog_3_method_7_code
def yX2_findLater : MethodName := ⟨RX2, "findLater", "()V"⟩
abbrev cX2_in : ByteArray := prog_3_method_3_code
def yX2_in : MethodName := ⟨RX2, "in", "(II)Z"⟩
abbrev cX2_removeOrder : ByteArray := prog_3_method_9_code
def yX2_removeOrder : MethodName := ⟨RX2, "removeOrder", "(II)I"⟩
abbrev cX2_tasks : ByteArray := prog_3_method_10_code
def yX2_tasks : MethodName := ⟨RX2, "tasks", "()I"⟩
abbrev cX2_after : ByteArray := prog_3_method_11_code
def yX2_after : MethodName := ⟨RX2, "after", "(II)Z"⟩
abbrev cX2_height : ByteArray := prog_3_method_12_code
def yX2_height : MethodName := ⟨RX2, "height", "(I)I"⟩
abbrev cX2_superfluous : ByteArray := prog_3_method_14_code
def yX2_superfluous : MethodName := ⟨RX2, "superfluous", "()I"⟩
abbrev cX2_extra : ByteArray := prog_3_method_13_code
def yX2_extra : MethodName := ⟨RX2, "extra", "(II)Z"⟩
abbrev cX2_inTrees : ByteArray := prog_3_method_15_code
def yX2_inTrees : MethodName := ⟨RX2, "inTrees", "()Z"⟩
abbrev cX2_shortest : ByteArray := prog_3_method_19_code
def yX2_shortest : MethodName := ⟨RX2, "shortest", "(I)I"⟩
abbrev cX2_least : ByteArray := prog_3_method_18_code
def yX2_least : MethodName := ⟨RX2, "least", "(II)I"⟩
abbrev cX2_open : ByteArray := prog_3_method_17_code
def yX2_open : MethodName := ⟨RX2, "open", "(II)I"⟩
abbrev cX2_sizeOf : ByteArray := prog_3_method_16_code
def yX2_sizeOf : MethodName := ⟨RX2, "sizeOf", "(I)I"⟩
abbrev cX2_without : ByteArray := prog_3_method_20_code
def yX2_without : MethodName := ⟨RX2, "without", "(I)I"⟩
theorem q21 : (Jvm.Cond.initialized "CoffmanGrahamModel") ∈ lw_all := lw_g (lw_at lw_m0 2 rfl) rfl
theorem q144 : (Jvm.Cond.instantiable "CoffmanGrahamModel" (4 : Nat)) ∈ lw_all := lw_g (lw_at lw_m0 125 rfl) rfl
theorem q146 : (Jvm.Cond.instanceMethod ({ cls := "CoffmanGrahamModel", name := "<init>", desc := "(I)V" } : Jvm.MethodName)) ∈ lw_all := lw_g (lw_at lw_m0 127 rfl) rfl
theorem q147 : (Jvm.Cond.code ({ cls := "CoffmanGrahamModel", name := "<init>", desc := "(I)V" } : Jvm.MethodName) prog_3_method_1_code (2 : Nat) (Option.none : Option Jvm.ClassFile.FieldType)) ∈ lw_all := lw_g (lw_at lw_m0 128 rfl) rfl
theorem q148 : (Jvm.Cond.methodLink "CoffmanGrahamModel" (1 : Nat) ({ cls := "java/lang/Object", name := "<init>", desc := "()V" } : Jvm.MethodName)) ∈ lw_all := lw_g (lw_at lw_m0 129 rfl) rfl
theorem q149 : (Jvm.Cond.fieldLink "CoffmanGrahamModel" (19 : Nat) "CoffmanGrahamModel" "n" "I") ∈ lw_all := lw_g (lw_at lw_m0 130 rfl) rfl
theorem q150 : (Jvm.Cond.fieldLink "CoffmanGrahamModel" (7 : Nat) "CoffmanGrahamModel" "next" "[I") ∈ lw_all := lw_g (lw_at lw_m0 131 rfl) rfl
theorem q151 : (Jvm.Cond.fieldLink "CoffmanGrahamModel" (13 : Nat) "CoffmanGrahamModel" "later" "[I") ∈ lw_all := lw_g (lw_at lw_m0 132 rfl) rfl
theorem q152 : (Jvm.Cond.fieldLink "CoffmanGrahamModel" (16 : Nat) "CoffmanGrahamModel" "slots" "[I") ∈ lw_all := lw_g (lw_at lw_m0 133 rfl) rfl
theorem q153 : (Jvm.Cond.lays "CoffmanGrahamModel" "CoffmanGrahamModel" "n" "I") ∈ lw_all := lw_g (lw_at lw_m0 134 rfl) rfl
theorem q154 : (Jvm.Cond.soleField "CoffmanGrahamModel" "n") ∈ lw_all := lw_g (lw_at lw_m0 135 rfl) rfl
theorem q155 : (Jvm.Cond.lays "CoffmanGrahamModel" "CoffmanGrahamModel" "next" "[I") ∈ lw_all := lw_g (lw_at lw_m0 136 rfl) rfl
theorem q156 : (Jvm.Cond.soleField "CoffmanGrahamModel" "next") ∈ lw_all := lw_g (lw_at lw_m0 137 rfl) rfl
theorem q157 : (Jvm.Cond.lays "CoffmanGrahamModel" "CoffmanGrahamModel" "later" "[I") ∈ lw_all := lw_g (lw_at lw_m0 138 rfl) rfl
theorem q158 : (Jvm.Cond.soleField "CoffmanGrahamModel" "later") ∈ lw_all := lw_g (lw_at lw_m0 139 rfl) rfl
theorem q159 : (Jvm.Cond.lays "CoffmanGrahamModel" "CoffmanGrahamModel" "slots" "[I") ∈ lw_all := lw_g (lw_at lw_m0 140 rfl) rfl
theorem q160 : (Jvm.Cond.soleField "CoffmanGrahamModel" "slots") ∈ lw_all := lw_g (lw_at lw_m0 141 rfl) rfl
theorem q161 : (Jvm.Cond.superclass "CoffmanGrahamModel" "java/lang/Object") ∈ lw_all := lw_g (lw_at lw_m0 142 rfl) rfl
theorem q163 : (Jvm.Cond.instanceMethod ({ cls := "CoffmanGrahamModel", name := "addTask", desc := "()I" } : Jvm.MethodName)) ∈ lw_all := lw_g (lw_at lw_m0 144 rfl) rfl
theorem q164 : (Jvm.Cond.selects "CoffmanGrahamModel" ({ cls := "CoffmanGrahamModel", name := "addTask", desc := "()I" } : Jvm.MethodName) ({ cls := "CoffmanGrahamModel", name := "addTask", desc := "()I" } : Jvm.MethodName)) ∈ lw_all := lw_g (lw_at lw_m0 145 rfl) rfl
theorem q165 : (Jvm.Cond.code ({ cls := "CoffmanGrahamModel", name := "addTask", desc := "()I" } : Jvm.MethodName) prog_3_method_4_code (1 : Nat) (Option.some Jvm.ClassFile.FieldType.int)) ∈ lw_all := lw_g (lw_at lw_m0 146 rfl) rfl
theorem q167 : (Jvm.Cond.instanceMethod ({ cls := "CoffmanGrahamModel", name := "removeTask", desc := "(I)I" } : Jvm.MethodName)) ∈ lw_all := lw_g (lw_at lw_m0 148 rfl) rfl
theorem q168 : (Jvm.Cond.selects "CoffmanGrahamModel" ({ cls := "CoffmanGrahamModel", name := "removeTask", desc := "(I)I" } : Jvm.MethodName) ({ cls := "CoffmanGrahamModel", name := "removeTask", desc := "(I)I" } : Jvm.MethodName)) ∈ lw_all := lw_g (lw_at lw_m0 149 rfl) rfl
theorem q169 : (Jvm.Cond.code ({ cls := "CoffmanGrahamModel", name := "removeTask", desc := "(I)I" } : Jvm.MethodName) prog_3_method_6_code (3 : Nat) (Option.some Jvm.ClassFile.FieldType.int)) ∈ lw_all := lw_g (lw_at lw_m0 150 rfl) rfl
theorem q170 : (Jvm.Cond.methodLink "CoffmanGrahamModel" (23 : Nat) ({ cls := "CoffmanGrahamModel", name := "isTask", desc := "(I)Z" } : Jvm.MethodName)) ∈ lw_all := lw_g (lw_at lw_m0 151 rfl) rfl
theorem q171 : (Jvm.Cond.privateMethod ({ cls := "CoffmanGrahamModel", name := "isTask", desc := "(I)Z" } : Jvm.MethodName)) ∈ lw_tbl := lw_at lw_m0 152 rfl
theorem q172 : (Jvm.Cond.instanceMethod ({ cls := "CoffmanGrahamModel", name := "isTask", desc := "(I)Z" } : Jvm.MethodName)) ∈ lw_all := lw_g (lw_at lw_m0 153 rfl) rfl
theorem q173 : (Jvm.Cond.code ({ cls := "CoffmanGrahamModel", name := "isTask", desc := "(I)Z" } : Jvm.MethodName) prog_3_method_2_code (2 : Nat) (Option.some Jvm.ClassFile.FieldType.boolean)) ∈ lw_all := lw_g (lw_at lw_m0 154 rfl) rfl
theorem q174 : (Jvm.Cond.methodLink "CoffmanGrahamModel" (27 : Nat) ({ cls := "CoffmanGrahamModel", name := "cut", desc := "(II)I" } : Jvm.MethodName)) ∈ lw_all := lw_g (lw_at lw_m0 155 rfl) rfl
theorem q175 : (Jvm.Cond.privateMethod ({ cls := "CoffmanGrahamModel", name := "cut", desc := "(II)I" } : Jvm.MethodName)) ∈ lw_tbl := lw_at lw_m0 156 rfl
theorem q176 : (Jvm.Cond.instanceMethod ({ cls := "CoffmanGrahamModel", name := "cut", desc := "(II)I" } : Jvm.MethodName)) ∈ lw_all := lw_g (lw_at lw_m0 157 rfl) rfl
theorem q177 : (Jvm.Cond.code ({ cls := "CoffmanGrahamModel", name := "cut", desc := "(II)I" } : Jvm.MethodName) prog_3_method_5_code (3 : Nat) (Option.some Jvm.ClassFile.FieldType.int)) ∈ lw_all := lw_g (lw_at lw_m0 158 rfl) rfl
theorem q179 : (Jvm.Cond.instanceMethod ({ cls := "CoffmanGrahamModel", name := "addOrder", desc := "(II)I" } : Jvm.MethodName)) ∈ lw_all := lw_g (lw_at lw_m0 160 rfl) rfl
theorem q180 : (Jvm.Cond.selects "CoffmanGrahamModel" ({ cls := "CoffmanGrahamModel", name := "addOrder", desc := "(II)I" } : Jvm.MethodName) ({ cls := "CoffmanGrahamModel", name := "addOrder", desc := "(II)I" } : Jvm.MethodName)) ∈ lw_all := lw_g (lw_at lw_m0 161 rfl) rfl
theorem q181 : (Jvm.Cond.code ({ cls := "CoffmanGrahamModel", name := "addOrder", desc := "(II)I" } : Jvm.MethodName) prog_3_method_8_code (3 : Nat) (Option.some Jvm.ClassFile.FieldType.int)) ∈ lw_all := lw_g (lw_at lw_m0 162 rfl) rfl
theorem q182 : (Jvm.Cond.methodLink "CoffmanGrahamModel" (35 : Nat) ({ cls := "CoffmanGrahamModel", name := "findLater", desc := "()V" } : Jvm.MethodName)) ∈ lw_all := lw_g (lw_at lw_m0 163 rfl) rfl
theorem q183 : (Jvm.Cond.privateMethod ({ cls := "CoffmanGrahamModel", name := "findLater", desc := "()V" } : Jvm.MethodName)) ∈ lw_tbl := lw_at lw_m0 164 rfl
theorem q184 : (Jvm.Cond.instanceMethod ({ cls := "CoffmanGrahamModel", name := "findLater", desc := "()V" } : Jvm.MethodName)) ∈ lw_all := lw_g (lw_at lw_m0 165 rfl) rfl
theorem q185 : (Jvm.Cond.code ({ cls := "CoffmanGrahamModel", name := "findLater", desc := "()V" } : Jvm.MethodName) prog_3_method_7_code (3 : Nat) (Option.none : Option Jvm.ClassFile.FieldType)) ∈ lw_all := lw_g (lw_at lw_m0 166 rfl) rfl
theorem q186 : (Jvm.Cond.methodLink "CoffmanGrahamModel" (31 : Nat) ({ cls := "CoffmanGrahamModel", name := "in", desc := "(II)Z" } : Jvm.MethodName)) ∈ lw_all := lw_g (lw_at lw_m0 167 rfl) rfl
theorem q187 : (Jvm.Cond.privateMethod ({ cls := "CoffmanGrahamModel", name := "in", desc := "(II)Z" } : Jvm.MethodName)) ∈ lw_tbl := lw_at lw_m0 168 rfl
theorem q188 : (Jvm.Cond.instanceMethod ({ cls := "CoffmanGrahamModel", name := "in", desc := "(II)Z" } : Jvm.MethodName)) ∈ lw_all := lw_g (lw_at lw_m0 169 rfl) rfl
theorem q189 : (Jvm.Cond.code ({ cls := "CoffmanGrahamModel", name := "in", desc := "(II)Z" } : Jvm.MethodName) prog_3_method_3_code (3 : Nat) (Option.some Jvm.ClassFile.FieldType.boolean)) ∈ lw_all := lw_g (lw_at lw_m0 170 rfl) rfl
theorem q191 : (Jvm.Cond.instanceMethod ({ cls := "CoffmanGrahamModel", name := "removeOrder", desc := "(II)I" } : Jvm.MethodName)) ∈ lw_all := lw_g (lw_at lw_m0 172 rfl) rfl
theorem q192 : (Jvm.Cond.selects "CoffmanGrahamModel" ({ cls := "CoffmanGrahamModel", name := "removeOrder", desc := "(II)I" } : Jvm.MethodName) ({ cls := "CoffmanGrahamModel", name := "removeOrder", desc := "(II)I" } : Jvm.MethodName)) ∈ lw_all := lw_g (lw_at lw_m0 173 rfl) rfl
theorem q193 : (Jvm.Cond.code ({ cls := "CoffmanGrahamModel", name := "removeOrder", desc := "(II)I" } : Jvm.MethodName) prog_3_method_9_code (3 : Nat) (Option.some Jvm.ClassFile.FieldType.int)) ∈ lw_all := lw_g (lw_at lw_m0 174 rfl) rfl
theorem q195 : (Jvm.Cond.instanceMethod ({ cls := "CoffmanGrahamModel", name := "tasks", desc := "()I" } : Jvm.MethodName)) ∈ lw_all := lw_g (lw_at lw_m0 176 rfl) rfl
theorem q196 : (Jvm.Cond.selects "CoffmanGrahamModel" ({ cls := "CoffmanGrahamModel", name := "tasks", desc := "()I" } : Jvm.MethodName) ({ cls := "CoffmanGrahamModel", name := "tasks", desc := "()I" } : Jvm.MethodName)) ∈ lw_all := lw_g (lw_at lw_m0 177 rfl) rfl
theorem q197 : (Jvm.Cond.code ({ cls := "CoffmanGrahamModel", name := "tasks", desc := "()I" } : Jvm.MethodName) prog_3_method_10_code (1 : Nat) (Option.some Jvm.ClassFile.FieldType.int)) ∈ lw_all := lw_g (lw_at lw_m0 178 rfl) rfl
theorem q199 : (Jvm.Cond.instanceMethod ({ cls := "CoffmanGrahamModel", name := "after", desc := "(II)Z" } : Jvm.MethodName)) ∈ lw_all := lw_g (lw_at lw_m0 180 rfl) rfl
theorem q200 : (Jvm.Cond.selects "CoffmanGrahamModel" ({ cls := "CoffmanGrahamModel", name := "after", desc := "(II)Z" } : Jvm.MethodName) ({ cls := "CoffmanGrahamModel", name := "after", desc := "(II)Z" } : Jvm.MethodName)) ∈ lw_all := lw_g (lw_at lw_m0 181 rfl) rfl
theorem q201 : (Jvm.Cond.code ({ cls := "CoffmanGrahamModel", name := "after", desc := "(II)Z" } : Jvm.MethodName) prog_3_method_11_code (3 : Nat) (Option.some Jvm.ClassFile.FieldType.boolean)) ∈ lw_all := lw_g (lw_at lw_m0 182 rfl) rfl
theorem q203 : (Jvm.Cond.instanceMethod ({ cls := "CoffmanGrahamModel", name := "height", desc := "(I)I" } : Jvm.MethodName)) ∈ lw_all := lw_g (lw_at lw_m0 184 rfl) rfl
theorem q204 : (Jvm.Cond.selects "CoffmanGrahamModel" ({ cls := "CoffmanGrahamModel", name := "height", desc := "(I)I" } : Jvm.MethodName) ({ cls := "CoffmanGrahamModel", name := "height", desc := "(I)I" } : Jvm.MethodName)) ∈ lw_all := lw_g (lw_at lw_m0 185 rfl) rfl
theorem q205 : (Jvm.Cond.code ({ cls := "CoffmanGrahamModel", name := "height", desc := "(I)I" } : Jvm.MethodName) prog_3_method_12_code (6 : Nat) (Option.some Jvm.ClassFile.FieldType.int)) ∈ lw_all := lw_g (lw_at lw_m0 186 rfl) rfl
theorem q207 : (Jvm.Cond.instanceMethod ({ cls := "CoffmanGrahamModel", name := "superfluous", desc := "()I" } : Jvm.MethodName)) ∈ lw_all := lw_g (lw_at lw_m0 188 rfl) rfl
theorem q208 : (Jvm.Cond.selects "CoffmanGrahamModel" ({ cls := "CoffmanGrahamModel", name := "superfluous", desc := "()I" } : Jvm.MethodName) ({ cls := "CoffmanGrahamModel", name := "superfluous", desc := "()I" } : Jvm.MethodName)) ∈ lw_all := lw_g (lw_at lw_m0 189 rfl) rfl
theorem q209 : (Jvm.Cond.code ({ cls := "CoffmanGrahamModel", name := "superfluous", desc := "()I" } : Jvm.MethodName) prog_3_method_14_code (4 : Nat) (Option.some Jvm.ClassFile.FieldType.int)) ∈ lw_all := lw_g (lw_at lw_m0 190 rfl) rfl
theorem q210 : (Jvm.Cond.methodLink "CoffmanGrahamModel" (38 : Nat) ({ cls := "CoffmanGrahamModel", name := "extra", desc := "(II)Z" } : Jvm.MethodName)) ∈ lw_all := lw_g (lw_at lw_m0 191 rfl) rfl
theorem q211 : (Jvm.Cond.privateMethod ({ cls := "CoffmanGrahamModel", name := "extra", desc := "(II)Z" } : Jvm.MethodName)) ∈ lw_tbl := lw_at lw_m0 192 rfl
theorem q212 : (Jvm.Cond.instanceMethod ({ cls := "CoffmanGrahamModel", name := "extra", desc := "(II)Z" } : Jvm.MethodName)) ∈ lw_all := lw_g (lw_at lw_m0 193 rfl) rfl
theorem q213 : (Jvm.Cond.code ({ cls := "CoffmanGrahamModel", name := "extra", desc := "(II)Z" } : Jvm.MethodName) prog_3_method_13_code (4 : Nat) (Option.some Jvm.ClassFile.FieldType.boolean)) ∈ lw_all := lw_g (lw_at lw_m0 194 rfl) rfl
theorem q215 : (Jvm.Cond.instanceMethod ({ cls := "CoffmanGrahamModel", name := "inTrees", desc := "()Z" } : Jvm.MethodName)) ∈ lw_all := lw_g (lw_at lw_m0 196 rfl) rfl
theorem q216 : (Jvm.Cond.selects "CoffmanGrahamModel" ({ cls := "CoffmanGrahamModel", name := "inTrees", desc := "()Z" } : Jvm.MethodName) ({ cls := "CoffmanGrahamModel", name := "inTrees", desc := "()Z" } : Jvm.MethodName)) ∈ lw_all := lw_g (lw_at lw_m0 197 rfl) rfl
theorem q217 : (Jvm.Cond.code ({ cls := "CoffmanGrahamModel", name := "inTrees", desc := "()Z" } : Jvm.MethodName) prog_3_method_15_code (4 : Nat) (Option.some Jvm.ClassFile.FieldType.boolean)) ∈ lw_all := lw_g (lw_at lw_m0 198 rfl) rfl
theorem q219 : (Jvm.Cond.instanceMethod ({ cls := "CoffmanGrahamModel", name := "shortest", desc := "(I)I" } : Jvm.MethodName)) ∈ lw_all := lw_g (lw_at lw_m0 200 rfl) rfl
theorem q220 : (Jvm.Cond.selects "CoffmanGrahamModel" ({ cls := "CoffmanGrahamModel", name := "shortest", desc := "(I)I" } : Jvm.MethodName) ({ cls := "CoffmanGrahamModel", name := "shortest", desc := "(I)I" } : Jvm.MethodName)) ∈ lw_all := lw_g (lw_at lw_m0 201 rfl) rfl
theorem q221 : (Jvm.Cond.code ({ cls := "CoffmanGrahamModel", name := "shortest", desc := "(I)I" } : Jvm.MethodName) prog_3_method_19_code (2 : Nat) (Option.some Jvm.ClassFile.FieldType.int)) ∈ lw_all := lw_g (lw_at lw_m0 202 rfl) rfl
theorem q222 : (Jvm.Cond.methodLink "CoffmanGrahamModel" (48 : Nat) ({ cls := "CoffmanGrahamModel", name := "inTrees", desc := "()Z" } : Jvm.MethodName)) ∈ lw_all := lw_g (lw_at lw_m0 203 rfl) rfl
theorem q223 : (Jvm.Cond.methodLink "CoffmanGrahamModel" (52 : Nat) ({ cls := "CoffmanGrahamModel", name := "least", desc := "(II)I" } : Jvm.MethodName)) ∈ lw_all := lw_g (lw_at lw_m0 204 rfl) rfl
theorem q224 : (Jvm.Cond.privateMethod ({ cls := "CoffmanGrahamModel", name := "least", desc := "(II)I" } : Jvm.MethodName)) ∈ lw_tbl := lw_at lw_m0 205 rfl
theorem q225 : (Jvm.Cond.instanceMethod ({ cls := "CoffmanGrahamModel", name := "least", desc := "(II)I" } : Jvm.MethodName)) ∈ lw_all := lw_g (lw_at lw_m0 206 rfl) rfl
theorem q226 : (Jvm.Cond.code ({ cls := "CoffmanGrahamModel", name := "least", desc := "(II)I" } : Jvm.MethodName) prog_3_method_18_code (6 : Nat) (Option.some Jvm.ClassFile.FieldType.int)) ∈ lw_all := lw_g (lw_at lw_m0 207 rfl) rfl
theorem q227 : (Jvm.Cond.methodLink "CoffmanGrahamModel" (41 : Nat) ({ cls := "CoffmanGrahamModel", name := "open", desc := "(II)I" } : Jvm.MethodName)) ∈ lw_all := lw_g (lw_at lw_m0 208 rfl) rfl
theorem q228 : (Jvm.Cond.privateMethod ({ cls := "CoffmanGrahamModel", name := "open", desc := "(II)I" } : Jvm.MethodName)) ∈ lw_tbl := lw_at lw_m0 209 rfl
theorem q229 : (Jvm.Cond.instanceMethod ({ cls := "CoffmanGrahamModel", name := "open", desc := "(II)I" } : Jvm.MethodName)) ∈ lw_all := lw_g (lw_at lw_m0 210 rfl) rfl
theorem q230 : (Jvm.Cond.code ({ cls := "CoffmanGrahamModel", name := "open", desc := "(II)I" } : Jvm.MethodName) prog_3_method_17_code (5 : Nat) (Option.some Jvm.ClassFile.FieldType.int)) ∈ lw_all := lw_g (lw_at lw_m0 211 rfl) rfl
theorem q231 : (Jvm.Cond.methodLink "CoffmanGrahamModel" (44 : Nat) ({ cls := "CoffmanGrahamModel", name := "sizeOf", desc := "(I)I" } : Jvm.MethodName)) ∈ lw_all := lw_g (lw_at lw_m0 212 rfl) rfl
theorem q232 : (Jvm.Cond.privateMethod ({ cls := "CoffmanGrahamModel", name := "sizeOf", desc := "(I)I" } : Jvm.MethodName)) ∈ lw_tbl := lw_at lw_m0 213 rfl
theorem q233 : (Jvm.Cond.instanceMethod ({ cls := "CoffmanGrahamModel", name := "sizeOf", desc := "(I)I" } : Jvm.MethodName)) ∈ lw_all := lw_g (lw_at lw_m0 214 rfl) rfl
theorem q234 : (Jvm.Cond.code ({ cls := "CoffmanGrahamModel", name := "sizeOf", desc := "(I)I" } : Jvm.MethodName) prog_3_method_16_code (4 : Nat) (Option.some Jvm.ClassFile.FieldType.int)) ∈ lw_all := lw_g (lw_at lw_m0 215 rfl) rfl
theorem q236 : (Jvm.Cond.instanceMethod ({ cls := "CoffmanGrahamModel", name := "without", desc := "(I)I" } : Jvm.MethodName)) ∈ lw_all := lw_g (lw_at lw_m0 217 rfl) rfl
theorem q237 : (Jvm.Cond.selects "CoffmanGrahamModel" ({ cls := "CoffmanGrahamModel", name := "without", desc := "(I)I" } : Jvm.MethodName) ({ cls := "CoffmanGrahamModel", name := "without", desc := "(I)I" } : Jvm.MethodName)) ∈ lw_all := lw_g (lw_at lw_m0 218 rfl) rfl
theorem q238 : (Jvm.Cond.code ({ cls := "CoffmanGrahamModel", name := "without", desc := "(I)I" } : Jvm.MethodName) prog_3_method_20_code (2 : Nat) (Option.some Jvm.ClassFile.FieldType.int)) ∈ lw_all := lw_g (lw_at lw_m0 219 rfl) rfl
theorem in_X2 : ∀ w ∈ wsX20, w ∈ lw_all := lw_in wsX20 [153, 155, 157, 159] (by decide +kernel) (by decide +kernel)
end
section
set_option maxRecDepth 100000
theorem dX0_cell_0 : decode cX0_cell 0 = .ok (.iload_n 1, 1) := by decide +kernel
theorem dX0_cell_1 : decode cX0_cell 1 = .ok (.aload_n 0, 1) := by decide +kernel
theorem dX0_cell_2 : decode cX0_cell 2 = .ok (.arraylength, 1) := by decide +kernel
theorem dX0_cell_3 : decode cX0_cell 3 = .ok (.if_icmp .ge 9, 3) := by decide +kernel
theorem dX0_cell_6 : decode cX0_cell 6 = .ok (.aload_n 0, 1) := by decide +kernel
theorem dX0_cell_7 : decode cX0_cell 7 = .ok (.iload_n 1, 1) := by decide +kernel
theorem dX0_cell_8 : decode cX0_cell 8 = .ok (.iaload, 1) := by decide +kernel
theorem dX0_cell_9 : decode cX0_cell 9 = .ok (.goto 4, 3) := by decide +kernel
theorem dX0_cell_12 : decode cX0_cell 12 = .ok (.iconst 0, 1) := by decide +kernel
theorem dX0_cell_13 : decode cX0_cell 13 = .ok (.ireturn, 1) := by decide +kernel
theorem dJ0_init_0 : decode cJ0_init 0 = .ok (.return_, 1) := by decide +kernel
theorem dX1_init_0 : decode cX1_init 0 = .ok (.aload_n 0, 1) := by decide +kernel
theorem dX1_init_1 : decode cX1_init 1 = .ok (.invokespecial 1, 3) := by decide +kernel
theorem dX1_init_4 : decode cX1_init 4 = .ok (.aload_n 0, 1) := by decide +kernel
theorem dX1_init_5 : decode cX1_init 5 = .ok (.bipush 9, 2) := by decide +kernel
theorem dX1_init_7 : decode cX1_init 7 = .ok (.newarray .int, 2) := by decide +kernel
theorem dX1_init_9 : decode cX1_init 9 = .ok (.putfield 7, 3) := by decide +kernel
theorem dX1_init_12 : decode cX1_init 12 = .ok (.aload_n 0, 1) := by decide +kernel
theorem dX1_init_13 : decode cX1_init 13 = .ok (.bipush 9, 2) := by decide +kernel
theorem dX1_init_15 : decode cX1_init 15 = .ok (.newarray .int, 2) := by decide +kernel
theorem dX1_init_17 : decode cX1_init 17 = .ok (.putfield 13, 3) := by decide +kernel
theorem dX1_init_20 : decode cX1_init 20 = .ok (.aload_n 0, 1) := by decide +kernel
theorem dX1_init_21 : decode cX1_init 21 = .ok (.bipush 9, 2) := by decide +kernel
theorem dX1_init_23 : decode cX1_init 23 = .ok (.newarray .int, 2) := by decide +kernel
theorem dX1_init_25 : decode cX1_init 25 = .ok (.putfield 16, 3) := by decide +kernel
theorem dX1_init_28 : decode cX1_init 28 = .ok (.aload_n 0, 1) := by decide +kernel
theorem dX1_init_29 : decode cX1_init 29 = .ok (.bipush 9, 2) := by decide +kernel
theorem dX1_init_31 : decode cX1_init 31 = .ok (.newarray .byte, 2) := by decide +kernel
theorem dX1_init_33 : decode cX1_init 33 = .ok (.putfield 19, 3) := by decide +kernel
theorem dX1_init_36 : decode cX1_init 36 = .ok (.aload_n 0, 1) := by decide +kernel
theorem dX1_init_37 : decode cX1_init 37 = .ok (.iload_n 1, 1) := by decide +kernel
theorem dX1_init_38 : decode cX1_init 38 = .ok (.ifCond .ge 7, 3) := by decide +kernel
theorem dX1_init_41 : decode cX1_init 41 = .ok (.iconst 0, 1) := by decide +kernel
theorem dX1_init_42 : decode cX1_init 42 = .ok (.goto 15, 3) := by decide +kernel
theorem dX1_init_45 : decode cX1_init 45 = .ok (.iload_n 1, 1) := by decide +kernel
theorem dX1_init_46 : decode cX1_init 46 = .ok (.bipush 9, 2) := by decide +kernel
theorem dX1_init_48 : decode cX1_init 48 = .ok (.if_icmp .le 8, 3) := by decide +kernel
theorem dX1_init_51 : decode cX1_init 51 = .ok (.bipush 9, 2) := by decide +kernel
theorem dX1_init_53 : decode cX1_init 53 = .ok (.goto 4, 3) := by decide +kernel
theorem dX1_init_56 : decode cX1_init 56 = .ok (.iload_n 1, 1) := by decide +kernel
theorem dX1_init_57 : decode cX1_init 57 = .ok (.putfield 23, 3) := by decide +kernel
theorem dX1_init_60 : decode cX1_init 60 = .ok (.return_, 1) := by decide +kernel
theorem dX1_addTask_0 : decode cX1_addTask 0 = .ok (.aload_n 0, 1) := by decide +kernel
theorem dX1_addTask_1 : decode cX1_addTask 1 = .ok (.getfield 23, 3) := by decide +kernel
theorem dX1_addTask_4 : decode cX1_addTask 4 = .ok (.bipush 9, 2) := by decide +kernel
theorem dX1_addTask_6 : decode cX1_addTask 6 = .ok (.if_icmp .lt 6, 3) := by decide +kernel
theorem dX1_addTask_9 : decode cX1_addTask 9 = .ok (.bipush (-3), 2) := by decide +kernel
theorem dX1_addTask_11 : decode cX1_addTask 11 = .ok (.ireturn, 1) := by decide +kernel
theorem dX1_addTask_12 : decode cX1_addTask 12 = .ok (.aload_n 0, 1) := by decide +kernel
theorem dX1_addTask_13 : decode cX1_addTask 13 = .ok (.getfield 7, 3) := by decide +kernel
theorem dX1_addTask_16 : decode cX1_addTask 16 = .ok (.aload_n 0, 1) := by decide +kernel
theorem dX1_addTask_17 : decode cX1_addTask 17 = .ok (.getfield 23, 3) := by decide +kernel
theorem dX1_addTask_20 : decode cX1_addTask 20 = .ok (.iconst 0, 1) := by decide +kernel
theorem dX1_addTask_21 : decode cX1_addTask 21 = .ok (.iastore, 1) := by decide +kernel
theorem dX1_addTask_22 : decode cX1_addTask 22 = .ok (.aload_n 0, 1) := by decide +kernel
theorem dX1_addTask_23 : decode cX1_addTask 23 = .ok (.dup, 1) := by decide +kernel
theorem dX1_addTask_24 : decode cX1_addTask 24 = .ok (.getfield 23, 3) := by decide +kernel
theorem dX1_addTask_27 : decode cX1_addTask 27 = .ok (.iconst 1, 1) := by decide +kernel
theorem dX1_addTask_28 : decode cX1_addTask 28 = .ok (.iadd, 1) := by decide +kernel
theorem dX1_addTask_29 : decode cX1_addTask 29 = .ok (.putfield 23, 3) := by decide +kernel
theorem dX1_addTask_32 : decode cX1_addTask 32 = .ok (.aload_n 0, 1) := by decide +kernel
theorem dX1_addTask_33 : decode cX1_addTask 33 = .ok (.invokevirtual 27, 3) := by decide +kernel
theorem dX1_addTask_36 : decode cX1_addTask 36 = .ok (.aload_n 0, 1) := by decide +kernel
theorem dX1_addTask_37 : decode cX1_addTask 37 = .ok (.getfield 23, 3) := by decide +kernel
theorem dX1_addTask_40 : decode cX1_addTask 40 = .ok (.iconst 1, 1) := by decide +kernel
theorem dX1_addTask_41 : decode cX1_addTask 41 = .ok (.isub, 1) := by decide +kernel
theorem dX1_addTask_42 : decode cX1_addTask 42 = .ok (.ireturn, 1) := by decide +kernel
theorem dX1_closeOrders_0 : decode cX1_closeOrders 0 = .ok (.iconst 0, 1) := by decide +kernel
theorem dX1_closeOrders_1 : decode cX1_closeOrders 1 = .ok (.istore_n 1, 1) := by decide +kernel
theorem dX1_closeOrders_2 : decode cX1_closeOrders 2 = .ok (.iload_n 1, 1) := by decide +kernel
theorem dX1_closeOrders_3 : decode cX1_closeOrders 3 = .ok (.aload_n 0, 1) := by decide +kernel
theorem dX1_closeOrders_4 : decode cX1_closeOrders 4 = .ok (.getfield 23, 3) := by decide +kernel
theorem dX1_closeOrders_7 : decode cX1_closeOrders 7 = .ok (.if_icmp .ge 21, 3) := by decide +kernel
theorem dX1_closeOrders_10 : decode cX1_closeOrders 10 = .ok (.aload_n 0, 1) := by decide +kernel
theorem dX1_closeOrders_11 : decode cX1_closeOrders 11 = .ok (.getfield 13, 3) := by decide +kernel
theorem dX1_closeOrders_14 : decode cX1_closeOrders 14 = .ok (.iload_n 1, 1) := by decide +kernel
theorem dX1_closeOrders_15 : decode cX1_closeOrders 15 = .ok (.aload_n 0, 1) := by decide +kernel
theorem dX1_closeOrders_16 : decode cX1_closeOrders 16 = .ok (.getfield 7, 3) := by decide +kernel
theorem dX1_closeOrders_19 : decode cX1_closeOrders 19 = .ok (.iload_n 1, 1) := by decide +kernel
theorem dX1_closeOrders_20 : decode cX1_closeOrders 20 = .ok (.iaload, 1) := by decide +kernel
theorem dX1_closeOrders_21 : decode cX1_closeOrders 21 = .ok (.iastore, 1) := by decide +kernel
theorem dX1_closeOrders_22 : decode cX1_closeOrders 22 = .ok (.iinc 1 1, 3) := by decide +kernel
theorem dX1_closeOrders_25 : decode cX1_closeOrders 25 = .ok (.goto (-23), 3) := by decide +kernel
theorem dX1_closeOrders_28 : decode cX1_closeOrders 28 = .ok (.iconst 0, 1) := by decide +kernel
theorem dX1_closeOrders_29 : decode cX1_closeOrders 29 = .ok (.istore_n 1, 1) := by decide +kernel
theorem dX1_closeOrders_30 : decode cX1_closeOrders 30 = .ok (.iload_n 1, 1) := by decide +kernel
theorem dX1_closeOrders_31 : decode cX1_closeOrders 31 = .ok (.aload_n 0, 1) := by decide +kernel
theorem dX1_closeOrders_32 : decode cX1_closeOrders 32 = .ok (.getfield 23, 3) := by decide +kernel
theorem dX1_closeOrders_35 : decode cX1_closeOrders 35 = .ok (.if_icmp .ge 53, 3) := by decide +kernel
theorem dX1_closeOrders_38 : decode cX1_closeOrders 38 = .ok (.iconst 0, 1) := by decide +kernel
theorem dX1_closeOrders_39 : decode cX1_closeOrders 39 = .ok (.istore_n 2, 1) := by decide +kernel
theorem dX1_closeOrders_40 : decode cX1_closeOrders 40 = .ok (.iload_n 2, 1) := by decide +kernel
theorem dX1_closeOrders_41 : decode cX1_closeOrders 41 = .ok (.aload_n 0, 1) := by decide +kernel
theorem dX1_closeOrders_42 : decode cX1_closeOrders 42 = .ok (.getfield 23, 3) := by decide +kernel
theorem dX1_closeOrders_45 : decode cX1_closeOrders 45 = .ok (.if_icmp .ge 37, 3) := by decide +kernel
theorem dX1_closeOrders_48 : decode cX1_closeOrders 48 = .ok (.aload_n 0, 1) := by decide +kernel
theorem dX1_closeOrders_49 : decode cX1_closeOrders 49 = .ok (.getfield 13, 3) := by decide +kernel
theorem dX1_closeOrders_52 : decode cX1_closeOrders 52 = .ok (.iload_n 2, 1) := by decide +kernel
theorem dX1_closeOrders_53 : decode cX1_closeOrders 53 = .ok (.iaload, 1) := by decide +kernel
theorem dX1_closeOrders_54 : decode cX1_closeOrders 54 = .ok (.iload_n 1, 1) := by decide +kernel
theorem dX1_closeOrders_55 : decode cX1_closeOrders 55 = .ok (.ishr, 1) := by decide +kernel
theorem dX1_closeOrders_56 : decode cX1_closeOrders 56 = .ok (.iconst 1, 1) := by decide +kernel
theorem dX1_closeOrders_57 : decode cX1_closeOrders 57 = .ok (.iand, 1) := by decide +kernel
theorem dX1_closeOrders_58 : decode cX1_closeOrders 58 = .ok (.ifCond .eq 18, 3) := by decide +kernel
theorem dX1_closeOrders_61 : decode cX1_closeOrders 61 = .ok (.aload_n 0, 1) := by decide +kernel
theorem dX1_closeOrders_62 : decode cX1_closeOrders 62 = .ok (.getfield 13, 3) := by decide +kernel
theorem dX1_closeOrders_65 : decode cX1_closeOrders 65 = .ok (.iload_n 2, 1) := by decide +kernel
theorem dX1_closeOrders_66 : decode cX1_closeOrders 66 = .ok (.dup2, 1) := by decide +kernel
theorem dX1_closeOrders_67 : decode cX1_closeOrders 67 = .ok (.iaload, 1) := by decide +kernel
theorem dX1_closeOrders_68 : decode cX1_closeOrders 68 = .ok (.aload_n 0, 1) := by decide +kernel
theorem dX1_closeOrders_69 : decode cX1_closeOrders 69 = .ok (.getfield 13, 3) := by decide +kernel
theorem dX1_closeOrders_72 : decode cX1_closeOrders 72 = .ok (.iload_n 1, 1) := by decide +kernel
theorem dX1_closeOrders_73 : decode cX1_closeOrders 73 = .ok (.iaload, 1) := by decide +kernel
theorem dX1_closeOrders_74 : decode cX1_closeOrders 74 = .ok (.ior, 1) := by decide +kernel
theorem dX1_closeOrders_75 : decode cX1_closeOrders 75 = .ok (.iastore, 1) := by decide +kernel
theorem dX1_closeOrders_76 : decode cX1_closeOrders 76 = .ok (.iinc 2 1, 3) := by decide +kernel
theorem dX1_closeOrders_79 : decode cX1_closeOrders 79 = .ok (.goto (-39), 3) := by decide +kernel
theorem dX1_closeOrders_82 : decode cX1_closeOrders 82 = .ok (.iinc 1 1, 3) := by decide +kernel
theorem dX1_closeOrders_85 : decode cX1_closeOrders 85 = .ok (.goto (-55), 3) := by decide +kernel
theorem dX1_closeOrders_88 : decode cX1_closeOrders 88 = .ok (.return_, 1) := by decide +kernel
theorem dX1_removeTask_0 : decode cX1_removeTask 0 = .ok (.aload_n 0, 1) := by decide +kernel
theorem dX1_removeTask_1 : decode cX1_removeTask 1 = .ok (.iload_n 1, 1) := by decide +kernel
theorem dX1_removeTask_2 : decode cX1_removeTask 2 = .ok (.invokevirtual 30, 3) := by decide +kernel
theorem dX1_removeTask_5 : decode cX1_removeTask 5 = .ok (.ifCond .ne 5, 3) := by decide +kernel
theorem dX1_removeTask_8 : decode cX1_removeTask 8 = .ok (.iconst (-1), 1) := by decide +kernel
theorem dX1_removeTask_9 : decode cX1_removeTask 9 = .ok (.ireturn, 1) := by decide +kernel
theorem dX1_removeTask_10 : decode cX1_removeTask 10 = .ok (.aload_n 0, 1) := by decide +kernel
theorem dX1_removeTask_11 : decode cX1_removeTask 11 = .ok (.dup, 1) := by decide +kernel
theorem dX1_removeTask_12 : decode cX1_removeTask 12 = .ok (.getfield 23, 3) := by decide +kernel
theorem dX1_removeTask_15 : decode cX1_removeTask 15 = .ok (.iconst 1, 1) := by decide +kernel
theorem dX1_removeTask_16 : decode cX1_removeTask 16 = .ok (.isub, 1) := by decide +kernel
theorem dX1_removeTask_17 : decode cX1_removeTask 17 = .ok (.putfield 23, 3) := by decide +kernel
theorem dX1_removeTask_20 : decode cX1_removeTask 20 = .ok (.iload_n 1, 1) := by decide +kernel
theorem dX1_removeTask_21 : decode cX1_removeTask 21 = .ok (.istore_n 2, 1) := by decide +kernel
theorem dX1_removeTask_22 : decode cX1_removeTask 22 = .ok (.iload_n 2, 1) := by decide +kernel
theorem dX1_removeTask_23 : decode cX1_removeTask 23 = .ok (.aload_n 0, 1) := by decide +kernel
theorem dX1_removeTask_24 : decode cX1_removeTask 24 = .ok (.getfield 23, 3) := by decide +kernel
theorem dX1_removeTask_27 : decode cX1_removeTask 27 = .ok (.if_icmp .ge 23, 3) := by decide +kernel
theorem dX1_removeTask_30 : decode cX1_removeTask 30 = .ok (.aload_n 0, 1) := by decide +kernel
theorem dX1_removeTask_31 : decode cX1_removeTask 31 = .ok (.getfield 7, 3) := by decide +kernel
theorem dX1_removeTask_34 : decode cX1_removeTask 34 = .ok (.iload_n 2, 1) := by decide +kernel
theorem dX1_removeTask_35 : decode cX1_removeTask 35 = .ok (.aload_n 0, 1) := by decide +kernel
theorem dX1_removeTask_36 : decode cX1_removeTask 36 = .ok (.getfield 7, 3) := by decide +kernel
theorem dX1_removeTask_39 : decode cX1_removeTask 39 = .ok (.iload_n 2, 1) := by decide +kernel
theorem dX1_removeTask_40 : decode cX1_removeTask 40 = .ok (.iconst 1, 1) := by decide +kernel
theorem dX1_removeTask_41 : decode cX1_removeTask 41 = .ok (.iadd, 1) := by decide +kernel
theorem dX1_removeTask_42 : decode cX1_removeTask 42 = .ok (.iaload, 1) := by decide +kernel
theorem dX1_removeTask_43 : decode cX1_removeTask 43 = .ok (.iastore, 1) := by decide +kernel
theorem dX1_removeTask_44 : decode cX1_removeTask 44 = .ok (.iinc 2 1, 3) := by decide +kernel
theorem dX1_removeTask_47 : decode cX1_removeTask 47 = .ok (.goto (-25), 3) := by decide +kernel
theorem dX1_removeTask_50 : decode cX1_removeTask 50 = .ok (.iconst 1, 1) := by decide +kernel
theorem dX1_removeTask_51 : decode cX1_removeTask 51 = .ok (.iload_n 1, 1) := by decide +kernel
theorem dX1_removeTask_52 : decode cX1_removeTask 52 = .ok (.ishl, 1) := by decide +kernel
theorem dX1_removeTask_53 : decode cX1_removeTask 53 = .ok (.iconst 1, 1) := by decide +kernel
theorem dX1_removeTask_54 : decode cX1_removeTask 54 = .ok (.isub, 1) := by decide +kernel
theorem dX1_removeTask_55 : decode cX1_removeTask 55 = .ok (.istore_n 2, 1) := by decide +kernel
theorem dX1_removeTask_56 : decode cX1_removeTask 56 = .ok (.iconst 0, 1) := by decide +kernel
theorem dX1_removeTask_57 : decode cX1_removeTask 57 = .ok (.istore_n 3, 1) := by decide +kernel
theorem dX1_removeTask_58 : decode cX1_removeTask 58 = .ok (.iload_n 3, 1) := by decide +kernel
theorem dX1_removeTask_59 : decode cX1_removeTask 59 = .ok (.aload_n 0, 1) := by decide +kernel
theorem dX1_removeTask_60 : decode cX1_removeTask 60 = .ok (.getfield 23, 3) := by decide +kernel
theorem dX1_removeTask_63 : decode cX1_removeTask 63 = .ok (.if_icmp .ge 36, 3) := by decide +kernel
theorem dX1_removeTask_66 : decode cX1_removeTask 66 = .ok (.aload_n 0, 1) := by decide +kernel
theorem dX1_removeTask_67 : decode cX1_removeTask 67 = .ok (.getfield 7, 3) := by decide +kernel
theorem dX1_removeTask_70 : decode cX1_removeTask 70 = .ok (.iload_n 3, 1) := by decide +kernel
theorem dX1_removeTask_71 : decode cX1_removeTask 71 = .ok (.aload_n 0, 1) := by decide +kernel
theorem dX1_removeTask_72 : decode cX1_removeTask 72 = .ok (.getfield 7, 3) := by decide +kernel
theorem dX1_removeTask_75 : decode cX1_removeTask 75 = .ok (.iload_n 3, 1) := by decide +kernel
theorem dX1_removeTask_76 : decode cX1_removeTask 76 = .ok (.iaload, 1) := by decide +kernel
theorem dX1_removeTask_77 : decode cX1_removeTask 77 = .ok (.iload_n 2, 1) := by decide +kernel
theorem dX1_removeTask_78 : decode cX1_removeTask 78 = .ok (.iand, 1) := by decide +kernel
theorem dX1_removeTask_79 : decode cX1_removeTask 79 = .ok (.aload_n 0, 1) := by decide +kernel
theorem dX1_removeTask_80 : decode cX1_removeTask 80 = .ok (.getfield 7, 3) := by decide +kernel
theorem dX1_removeTask_83 : decode cX1_removeTask 83 = .ok (.iload_n 3, 1) := by decide +kernel
theorem dX1_removeTask_84 : decode cX1_removeTask 84 = .ok (.iaload, 1) := by decide +kernel
theorem dX1_removeTask_85 : decode cX1_removeTask 85 = .ok (.iconst 1, 1) := by decide +kernel
theorem dX1_removeTask_86 : decode cX1_removeTask 86 = .ok (.ishr, 1) := by decide +kernel
theorem dX1_removeTask_87 : decode cX1_removeTask 87 = .ok (.iload_n 2, 1) := by decide +kernel
theorem dX1_removeTask_88 : decode cX1_removeTask 88 = .ok (.iconst (-1), 1) := by decide +kernel
theorem dX1_removeTask_89 : decode cX1_removeTask 89 = .ok (.ixor, 1) := by decide +kernel
theorem dX1_removeTask_90 : decode cX1_removeTask 90 = .ok (.iand, 1) := by decide +kernel
theorem dX1_removeTask_91 : decode cX1_removeTask 91 = .ok (.ior, 1) := by decide +kernel
theorem dX1_removeTask_92 : decode cX1_removeTask 92 = .ok (.iastore, 1) := by decide +kernel
theorem dX1_removeTask_93 : decode cX1_removeTask 93 = .ok (.iinc 3 1, 3) := by decide +kernel
theorem dX1_removeTask_96 : decode cX1_removeTask 96 = .ok (.goto (-38), 3) := by decide +kernel
theorem dX1_removeTask_99 : decode cX1_removeTask 99 = .ok (.aload_n 0, 1) := by decide +kernel
theorem dX1_removeTask_100 : decode cX1_removeTask 100 = .ok (.invokevirtual 27, 3) := by decide +kernel
theorem dX1_removeTask_103 : decode cX1_removeTask 103 = .ok (.aload_n 0, 1) := by decide +kernel
theorem dX1_removeTask_104 : decode cX1_removeTask 104 = .ok (.getfield 23, 3) := by decide +kernel
theorem dX1_removeTask_107 : decode cX1_removeTask 107 = .ok (.ireturn, 1) := by decide +kernel
theorem dX1_isTask_0 : decode cX1_isTask 0 = .ok (.iload_n 1, 1) := by decide +kernel
theorem dX1_isTask_1 : decode cX1_isTask 1 = .ok (.ifCond .lt 15, 3) := by decide +kernel
theorem dX1_isTask_4 : decode cX1_isTask 4 = .ok (.iload_n 1, 1) := by decide +kernel
theorem dX1_isTask_5 : decode cX1_isTask 5 = .ok (.aload_n 0, 1) := by decide +kernel
theorem dX1_isTask_6 : decode cX1_isTask 6 = .ok (.getfield 23, 3) := by decide +kernel
theorem dX1_isTask_9 : decode cX1_isTask 9 = .ok (.if_icmp .ge 7, 3) := by decide +kernel
theorem dX1_isTask_12 : decode cX1_isTask 12 = .ok (.iconst 1, 1) := by decide +kernel
theorem dX1_isTask_13 : decode cX1_isTask 13 = .ok (.goto 4, 3) := by decide +kernel
theorem dX1_isTask_16 : decode cX1_isTask 16 = .ok (.iconst 0, 1) := by decide +kernel
theorem dX1_isTask_17 : decode cX1_isTask 17 = .ok (.ireturn, 1) := by decide +kernel
theorem dX1_addOrder_0 : decode cX1_addOrder 0 = .ok (.aload_n 0, 1) := by decide +kernel
theorem dX1_addOrder_1 : decode cX1_addOrder 1 = .ok (.iload_n 1, 1) := by decide +kernel
theorem dX1_addOrder_2 : decode cX1_addOrder 2 = .ok (.invokevirtual 30, 3) := by decide +kernel
theorem dX1_addOrder_5 : decode cX1_addOrder 5 = .ok (.ifCond .eq 11, 3) := by decide +kernel
theorem dX1_addOrder_8 : decode cX1_addOrder 8 = .ok (.aload_n 0, 1) := by decide +kernel
theorem dX1_addOrder_9 : decode cX1_addOrder 9 = .ok (.iload_n 2, 1) := by decide +kernel
theorem dX1_addOrder_10 : decode cX1_addOrder 10 = .ok (.invokevirtual 30, 3) := by decide +kernel
theorem dX1_addOrder_13 : decode cX1_addOrder 13 = .ok (.ifCond .ne 5, 3) := by decide +kernel
theorem dX1_addOrder_16 : decode cX1_addOrder 16 = .ok (.iconst (-1), 1) := by decide +kernel
theorem dX1_addOrder_17 : decode cX1_addOrder 17 = .ok (.ireturn, 1) := by decide +kernel
theorem dX1_addOrder_18 : decode cX1_addOrder 18 = .ok (.iload_n 1, 1) := by decide +kernel
theorem dX1_addOrder_19 : decode cX1_addOrder 19 = .ok (.iload_n 2, 1) := by decide +kernel
theorem dX1_addOrder_20 : decode cX1_addOrder 20 = .ok (.if_icmp .eq 16, 3) := by decide +kernel
theorem dX1_addOrder_23 : decode cX1_addOrder 23 = .ok (.aload_n 0, 1) := by decide +kernel
theorem dX1_addOrder_24 : decode cX1_addOrder 24 = .ok (.getfield 13, 3) := by decide +kernel
theorem dX1_addOrder_27 : decode cX1_addOrder 27 = .ok (.iload_n 2, 1) := by decide +kernel
theorem dX1_addOrder_28 : decode cX1_addOrder 28 = .ok (.iaload, 1) := by decide +kernel
theorem dX1_addOrder_29 : decode cX1_addOrder 29 = .ok (.iload_n 1, 1) := by decide +kernel
theorem dX1_addOrder_30 : decode cX1_addOrder 30 = .ok (.ishr, 1) := by decide +kernel
theorem dX1_addOrder_31 : decode cX1_addOrder 31 = .ok (.iconst 1, 1) := by decide +kernel
theorem dX1_addOrder_32 : decode cX1_addOrder 32 = .ok (.iand, 1) := by decide +kernel
theorem dX1_addOrder_33 : decode cX1_addOrder 33 = .ok (.ifCond .eq 6, 3) := by decide +kernel
theorem dX1_addOrder_36 : decode cX1_addOrder 36 = .ok (.bipush (-4), 2) := by decide +kernel
theorem dX1_addOrder_38 : decode cX1_addOrder 38 = .ok (.ireturn, 1) := by decide +kernel
theorem dX1_addOrder_39 : decode cX1_addOrder 39 = .ok (.aload_n 0, 1) := by decide +kernel
theorem dX1_addOrder_40 : decode cX1_addOrder 40 = .ok (.getfield 7, 3) := by decide +kernel
theorem dX1_addOrder_43 : decode cX1_addOrder 43 = .ok (.iload_n 1, 1) := by decide +kernel
theorem dX1_addOrder_44 : decode cX1_addOrder 44 = .ok (.iaload, 1) := by decide +kernel
theorem dX1_addOrder_45 : decode cX1_addOrder 45 = .ok (.iload_n 2, 1) := by decide +kernel
theorem dX1_addOrder_46 : decode cX1_addOrder 46 = .ok (.ishr, 1) := by decide +kernel
theorem dX1_addOrder_47 : decode cX1_addOrder 47 = .ok (.iconst 1, 1) := by decide +kernel
theorem dX1_addOrder_48 : decode cX1_addOrder 48 = .ok (.iand, 1) := by decide +kernel
theorem dX1_addOrder_49 : decode cX1_addOrder 49 = .ok (.ifCond .eq 5, 3) := by decide +kernel
theorem dX1_addOrder_52 : decode cX1_addOrder 52 = .ok (.iconst 0, 1) := by decide +kernel
theorem dX1_addOrder_53 : decode cX1_addOrder 53 = .ok (.ireturn, 1) := by decide +kernel
theorem dX1_addOrder_54 : decode cX1_addOrder 54 = .ok (.aload_n 0, 1) := by decide +kernel
theorem dX1_addOrder_55 : decode cX1_addOrder 55 = .ok (.getfield 7, 3) := by decide +kernel
theorem dX1_addOrder_58 : decode cX1_addOrder 58 = .ok (.iload_n 1, 1) := by decide +kernel
theorem dX1_addOrder_59 : decode cX1_addOrder 59 = .ok (.dup2, 1) := by decide +kernel
theorem dX1_addOrder_60 : decode cX1_addOrder 60 = .ok (.iaload, 1) := by decide +kernel
theorem dX1_addOrder_61 : decode cX1_addOrder 61 = .ok (.iconst 1, 1) := by decide +kernel
theorem dX1_addOrder_62 : decode cX1_addOrder 62 = .ok (.iload_n 2, 1) := by decide +kernel
theorem dX1_addOrder_63 : decode cX1_addOrder 63 = .ok (.ishl, 1) := by decide +kernel
theorem dX1_addOrder_64 : decode cX1_addOrder 64 = .ok (.ior, 1) := by decide +kernel
theorem dX1_addOrder_65 : decode cX1_addOrder 65 = .ok (.iastore, 1) := by decide +kernel
theorem dX1_addOrder_66 : decode cX1_addOrder 66 = .ok (.aload_n 0, 1) := by decide +kernel
theorem dX1_addOrder_67 : decode cX1_addOrder 67 = .ok (.getfield 13, 3) := by decide +kernel
theorem dX1_addOrder_70 : decode cX1_addOrder 70 = .ok (.iload_n 2, 1) := by decide +kernel
theorem dX1_addOrder_71 : decode cX1_addOrder 71 = .ok (.iaload, 1) := by decide +kernel
theorem dX1_addOrder_72 : decode cX1_addOrder 72 = .ok (.iconst 1, 1) := by decide +kernel
theorem dX1_addOrder_73 : decode cX1_addOrder 73 = .ok (.iload_n 2, 1) := by decide +kernel
theorem dX1_addOrder_74 : decode cX1_addOrder 74 = .ok (.ishl, 1) := by decide +kernel
theorem dX1_addOrder_75 : decode cX1_addOrder 75 = .ok (.ior, 1) := by decide +kernel
theorem dX1_addOrder_76 : decode cX1_addOrder 76 = .ok (.istore_n 3, 1) := by decide +kernel
theorem dX1_addOrder_77 : decode cX1_addOrder 77 = .ok (.iconst 0, 1) := by decide +kernel
theorem dX1_addOrder_78 : decode cX1_addOrder 78 = .ok (.istore 4, 2) := by decide +kernel
theorem dX1_addOrder_80 : decode cX1_addOrder 80 = .ok (.iload 4, 2) := by decide +kernel
theorem dX1_addOrder_82 : decode cX1_addOrder 82 = .ok (.aload_n 0, 1) := by decide +kernel
theorem dX1_addOrder_83 : decode cX1_addOrder 83 = .ok (.getfield 23, 3) := by decide +kernel
theorem dX1_addOrder_86 : decode cX1_addOrder 86 = .ok (.if_icmp .ge 40, 3) := by decide +kernel
theorem dX1_addOrder_89 : decode cX1_addOrder 89 = .ok (.iload 4, 2) := by decide +kernel
theorem dX1_addOrder_91 : decode cX1_addOrder 91 = .ok (.iload_n 1, 1) := by decide +kernel
theorem dX1_addOrder_92 : decode cX1_addOrder 92 = .ok (.if_icmp .eq 17, 3) := by decide +kernel
theorem dX1_addOrder_95 : decode cX1_addOrder 95 = .ok (.aload_n 0, 1) := by decide +kernel
theorem dX1_addOrder_96 : decode cX1_addOrder 96 = .ok (.getfield 13, 3) := by decide +kernel
theorem dX1_addOrder_99 : decode cX1_addOrder 99 = .ok (.iload 4, 2) := by decide +kernel
theorem dX1_addOrder_101 : decode cX1_addOrder 101 = .ok (.iaload, 1) := by decide +kernel
theorem dX1_addOrder_102 : decode cX1_addOrder 102 = .ok (.iload_n 1, 1) := by decide +kernel
theorem dX1_addOrder_103 : decode cX1_addOrder 103 = .ok (.ishr, 1) := by decide +kernel
theorem dX1_addOrder_104 : decode cX1_addOrder 104 = .ok (.iconst 1, 1) := by decide +kernel
theorem dX1_addOrder_105 : decode cX1_addOrder 105 = .ok (.iand, 1) := by decide +kernel
theorem dX1_addOrder_106 : decode cX1_addOrder 106 = .ok (.ifCond .eq 14, 3) := by decide +kernel
theorem dX1_addOrder_109 : decode cX1_addOrder 109 = .ok (.aload_n 0, 1) := by decide +kernel
theorem dX1_addOrder_110 : decode cX1_addOrder 110 = .ok (.getfield 13, 3) := by decide +kernel
theorem dX1_addOrder_113 : decode cX1_addOrder 113 = .ok (.iload 4, 2) := by decide +kernel
theorem dX1_addOrder_115 : decode cX1_addOrder 115 = .ok (.dup2, 1) := by decide +kernel
theorem dX1_addOrder_116 : decode cX1_addOrder 116 = .ok (.iaload, 1) := by decide +kernel
theorem dX1_addOrder_117 : decode cX1_addOrder 117 = .ok (.iload_n 3, 1) := by decide +kernel
theorem dX1_addOrder_118 : decode cX1_addOrder 118 = .ok (.ior, 1) := by decide +kernel
theorem dX1_addOrder_119 : decode cX1_addOrder 119 = .ok (.iastore, 1) := by decide +kernel
theorem dX1_addOrder_120 : decode cX1_addOrder 120 = .ok (.iinc 4 1, 3) := by decide +kernel
theorem dX1_addOrder_123 : decode cX1_addOrder 123 = .ok (.goto (-43), 3) := by decide +kernel
theorem dX1_addOrder_126 : decode cX1_addOrder 126 = .ok (.iconst 1, 1) := by decide +kernel
theorem dX1_addOrder_127 : decode cX1_addOrder 127 = .ok (.ireturn, 1) := by decide +kernel
theorem dX1_removeOrder_0 : decode cX1_removeOrder 0 = .ok (.aload_n 0, 1) := by decide +kernel
theorem dX1_removeOrder_1 : decode cX1_removeOrder 1 = .ok (.iload_n 1, 1) := by decide +kernel
theorem dX1_removeOrder_2 : decode cX1_removeOrder 2 = .ok (.invokevirtual 30, 3) := by decide +kernel
theorem dX1_removeOrder_5 : decode cX1_removeOrder 5 = .ok (.ifCond .eq 11, 3) := by decide +kernel
theorem dX1_removeOrder_8 : decode cX1_removeOrder 8 = .ok (.aload_n 0, 1) := by decide +kernel
theorem dX1_removeOrder_9 : decode cX1_removeOrder 9 = .ok (.iload_n 2, 1) := by decide +kernel
theorem dX1_removeOrder_10 : decode cX1_removeOrder 10 = .ok (.invokevirtual 30, 3) := by decide +kernel
theorem dX1_removeOrder_13 : decode cX1_removeOrder 13 = .ok (.ifCond .ne 5, 3) := by decide +kernel
theorem dX1_removeOrder_16 : decode cX1_removeOrder 16 = .ok (.iconst (-1), 1) := by decide +kernel
theorem dX1_removeOrder_17 : decode cX1_removeOrder 17 = .ok (.ireturn, 1) := by decide +kernel
theorem dX1_removeOrder_18 : decode cX1_removeOrder 18 = .ok (.aload_n 0, 1) := by decide +kernel
theorem dX1_removeOrder_19 : decode cX1_removeOrder 19 = .ok (.getfield 7, 3) := by decide +kernel
theorem dX1_removeOrder_22 : decode cX1_removeOrder 22 = .ok (.iload_n 1, 1) := by decide +kernel
theorem dX1_removeOrder_23 : decode cX1_removeOrder 23 = .ok (.iaload, 1) := by decide +kernel
theorem dX1_removeOrder_24 : decode cX1_removeOrder 24 = .ok (.iload_n 2, 1) := by decide +kernel
theorem dX1_removeOrder_25 : decode cX1_removeOrder 25 = .ok (.ishr, 1) := by decide +kernel
theorem dX1_removeOrder_26 : decode cX1_removeOrder 26 = .ok (.iconst 1, 1) := by decide +kernel
theorem dX1_removeOrder_27 : decode cX1_removeOrder 27 = .ok (.iand, 1) := by decide +kernel
theorem dX1_removeOrder_28 : decode cX1_removeOrder 28 = .ok (.ifCond .ne 5, 3) := by decide +kernel
theorem dX1_removeOrder_31 : decode cX1_removeOrder 31 = .ok (.iconst 0, 1) := by decide +kernel
theorem dX1_removeOrder_32 : decode cX1_removeOrder 32 = .ok (.ireturn, 1) := by decide +kernel
theorem dX1_removeOrder_33 : decode cX1_removeOrder 33 = .ok (.aload_n 0, 1) := by decide +kernel
theorem dX1_removeOrder_34 : decode cX1_removeOrder 34 = .ok (.getfield 7, 3) := by decide +kernel
theorem dX1_removeOrder_37 : decode cX1_removeOrder 37 = .ok (.iload_n 1, 1) := by decide +kernel
theorem dX1_removeOrder_38 : decode cX1_removeOrder 38 = .ok (.dup2, 1) := by decide +kernel
theorem dX1_removeOrder_39 : decode cX1_removeOrder 39 = .ok (.iaload, 1) := by decide +kernel
theorem dX1_removeOrder_40 : decode cX1_removeOrder 40 = .ok (.iconst 1, 1) := by decide +kernel
theorem dX1_removeOrder_41 : decode cX1_removeOrder 41 = .ok (.iload_n 2, 1) := by decide +kernel
theorem dX1_removeOrder_42 : decode cX1_removeOrder 42 = .ok (.ishl, 1) := by decide +kernel
theorem dX1_removeOrder_43 : decode cX1_removeOrder 43 = .ok (.iconst (-1), 1) := by decide +kernel
theorem dX1_removeOrder_44 : decode cX1_removeOrder 44 = .ok (.ixor, 1) := by decide +kernel
theorem dX1_removeOrder_45 : decode cX1_removeOrder 45 = .ok (.iand, 1) := by decide +kernel
theorem dX1_removeOrder_46 : decode cX1_removeOrder 46 = .ok (.iastore, 1) := by decide +kernel
theorem dX1_removeOrder_47 : decode cX1_removeOrder 47 = .ok (.aload_n 0, 1) := by decide +kernel
theorem dX1_removeOrder_48 : decode cX1_removeOrder 48 = .ok (.invokevirtual 27, 3) := by decide +kernel
theorem dX1_removeOrder_51 : decode cX1_removeOrder 51 = .ok (.iconst 1, 1) := by decide +kernel
theorem dX1_removeOrder_52 : decode cX1_removeOrder 52 = .ok (.ireturn, 1) := by decide +kernel
theorem dX1_tasks_0 : decode cX1_tasks 0 = .ok (.aload_n 0, 1) := by decide +kernel
theorem dX1_tasks_1 : decode cX1_tasks 1 = .ok (.getfield 23, 3) := by decide +kernel
theorem dX1_tasks_4 : decode cX1_tasks 4 = .ok (.ireturn, 1) := by decide +kernel
theorem dX1_after_0 : decode cX1_after 0 = .ok (.aload_n 0, 1) := by decide +kernel
theorem dX1_after_1 : decode cX1_after 1 = .ok (.iload_n 1, 1) := by decide +kernel
theorem dX1_after_2 : decode cX1_after 2 = .ok (.invokevirtual 30, 3) := by decide +kernel
theorem dX1_after_5 : decode cX1_after 5 = .ok (.ifCond .eq 28, 3) := by decide +kernel
theorem dX1_after_8 : decode cX1_after 8 = .ok (.aload_n 0, 1) := by decide +kernel
theorem dX1_after_9 : decode cX1_after 9 = .ok (.iload_n 2, 1) := by decide +kernel
theorem dX1_after_10 : decode cX1_after 10 = .ok (.invokevirtual 30, 3) := by decide +kernel
theorem dX1_after_13 : decode cX1_after 13 = .ok (.ifCond .eq 20, 3) := by decide +kernel
theorem dX1_after_16 : decode cX1_after 16 = .ok (.aload_n 0, 1) := by decide +kernel
theorem dX1_after_17 : decode cX1_after 17 = .ok (.getfield 13, 3) := by decide +kernel
theorem dX1_after_20 : decode cX1_after 20 = .ok (.iload_n 1, 1) := by decide +kernel
theorem dX1_after_21 : decode cX1_after 21 = .ok (.iaload, 1) := by decide +kernel
theorem dX1_after_22 : decode cX1_after 22 = .ok (.iload_n 2, 1) := by decide +kernel
theorem dX1_after_23 : decode cX1_after 23 = .ok (.ishr, 1) := by decide +kernel
theorem dX1_after_24 : decode cX1_after 24 = .ok (.iconst 1, 1) := by decide +kernel
theorem dX1_after_25 : decode cX1_after 25 = .ok (.iand, 1) := by decide +kernel
theorem dX1_after_26 : decode cX1_after 26 = .ok (.ifCond .eq 7, 3) := by decide +kernel
theorem dX1_after_29 : decode cX1_after 29 = .ok (.iconst 1, 1) := by decide +kernel
theorem dX1_after_30 : decode cX1_after 30 = .ok (.goto 4, 3) := by decide +kernel
theorem dX1_after_33 : decode cX1_after 33 = .ok (.iconst 0, 1) := by decide +kernel
theorem dX1_after_34 : decode cX1_after 34 = .ok (.ireturn, 1) := by decide +kernel
theorem dX1_height_0 : decode cX1_height 0 = .ok (.aload_n 0, 1) := by decide +kernel
end
section
set_option maxRecDepth 100000
theorem dX1_height_1 : decode cX1_height 1 = .ok (.iload_n 1, 1) := by decide +kernel
theorem dX1_height_2 : decode cX1_height 2 = .ok (.invokevirtual 30, 3) := by decide +kernel
theorem dX1_height_5 : decode cX1_height 5 = .ok (.ifCond .ne 5, 3) := by decide +kernel
theorem dX1_height_8 : decode cX1_height 8 = .ok (.iconst (-1), 1) := by decide +kernel
theorem dX1_height_9 : decode cX1_height 9 = .ok (.ireturn, 1) := by decide +kernel
theorem dX1_height_10 : decode cX1_height 10 = .ok (.aload_n 0, 1) := by decide +kernel
theorem dX1_height_11 : decode cX1_height 11 = .ok (.iload_n 1, 1) := by decide +kernel
theorem dX1_height_12 : decode cX1_height 12 = .ok (.invokevirtual 34, 3) := by decide +kernel
theorem dX1_height_15 : decode cX1_height 15 = .ok (.ireturn, 1) := by decide +kernel
theorem dX1_heightOf_0 : decode cX1_heightOf 0 = .ok (.aload_n 0, 1) := by decide +kernel
theorem dX1_heightOf_1 : decode cX1_heightOf 1 = .ok (.getfield 13, 3) := by decide +kernel
theorem dX1_heightOf_4 : decode cX1_heightOf 4 = .ok (.iload_n 1, 1) := by decide +kernel
theorem dX1_heightOf_5 : decode cX1_heightOf 5 = .ok (.iaload, 1) := by decide +kernel
theorem dX1_heightOf_6 : decode cX1_heightOf 6 = .ok (.istore_n 2, 1) := by decide +kernel
theorem dX1_heightOf_7 : decode cX1_heightOf 7 = .ok (.iconst 1, 1) := by decide +kernel
theorem dX1_heightOf_8 : decode cX1_heightOf 8 = .ok (.istore_n 3, 1) := by decide +kernel
theorem dX1_heightOf_9 : decode cX1_heightOf 9 = .ok (.iconst 0, 1) := by decide +kernel
theorem dX1_heightOf_10 : decode cX1_heightOf 10 = .ok (.istore 4, 2) := by decide +kernel
theorem dX1_heightOf_12 : decode cX1_heightOf 12 = .ok (.iload 4, 2) := by decide +kernel
theorem dX1_heightOf_14 : decode cX1_heightOf 14 = .ok (.bipush 9, 2) := by decide +kernel
theorem dX1_heightOf_16 : decode cX1_heightOf 16 = .ok (.if_icmp .ge 70, 3) := by decide +kernel
theorem dX1_heightOf_19 : decode cX1_heightOf 19 = .ok (.iload_n 2, 1) := by decide +kernel
theorem dX1_heightOf_20 : decode cX1_heightOf 20 = .ok (.ifCond .eq 66, 3) := by decide +kernel
theorem dX1_heightOf_23 : decode cX1_heightOf 23 = .ok (.iconst 0, 1) := by decide +kernel
theorem dX1_heightOf_24 : decode cX1_heightOf 24 = .ok (.istore 5, 2) := by decide +kernel
theorem dX1_heightOf_26 : decode cX1_heightOf 26 = .ok (.iconst 0, 1) := by decide +kernel
theorem dX1_heightOf_27 : decode cX1_heightOf 27 = .ok (.istore 6, 2) := by decide +kernel
theorem dX1_heightOf_29 : decode cX1_heightOf 29 = .ok (.iload 6, 2) := by decide +kernel
theorem dX1_heightOf_31 : decode cX1_heightOf 31 = .ok (.aload_n 0, 1) := by decide +kernel
theorem dX1_heightOf_32 : decode cX1_heightOf 32 = .ok (.getfield 23, 3) := by decide +kernel
theorem dX1_heightOf_35 : decode cX1_heightOf 35 = .ok (.if_icmp .ge 39, 3) := by decide +kernel
theorem dX1_heightOf_38 : decode cX1_heightOf 38 = .ok (.iload_n 2, 1) := by decide +kernel
theorem dX1_heightOf_39 : decode cX1_heightOf 39 = .ok (.iload 6, 2) := by decide +kernel
theorem dX1_heightOf_41 : decode cX1_heightOf 41 = .ok (.ishr, 1) := by decide +kernel
theorem dX1_heightOf_42 : decode cX1_heightOf 42 = .ok (.iconst 1, 1) := by decide +kernel
theorem dX1_heightOf_43 : decode cX1_heightOf 43 = .ok (.iand, 1) := by decide +kernel
theorem dX1_heightOf_44 : decode cX1_heightOf 44 = .ok (.ifCond .eq 24, 3) := by decide +kernel
theorem dX1_heightOf_47 : decode cX1_heightOf 47 = .ok (.aload_n 0, 1) := by decide +kernel
theorem dX1_heightOf_48 : decode cX1_heightOf 48 = .ok (.getfield 13, 3) := by decide +kernel
theorem dX1_heightOf_51 : decode cX1_heightOf 51 = .ok (.iload 6, 2) := by decide +kernel
theorem dX1_heightOf_53 : decode cX1_heightOf 53 = .ok (.iaload, 1) := by decide +kernel
theorem dX1_heightOf_54 : decode cX1_heightOf 54 = .ok (.iload_n 2, 1) := by decide +kernel
theorem dX1_heightOf_55 : decode cX1_heightOf 55 = .ok (.iand, 1) := by decide +kernel
theorem dX1_heightOf_56 : decode cX1_heightOf 56 = .ok (.ifCond .eq 12, 3) := by decide +kernel
theorem dX1_heightOf_59 : decode cX1_heightOf 59 = .ok (.iload 5, 2) := by decide +kernel
theorem dX1_heightOf_61 : decode cX1_heightOf 61 = .ok (.iconst 1, 1) := by decide +kernel
theorem dX1_heightOf_62 : decode cX1_heightOf 62 = .ok (.iload 6, 2) := by decide +kernel
theorem dX1_heightOf_64 : decode cX1_heightOf 64 = .ok (.ishl, 1) := by decide +kernel
theorem dX1_heightOf_65 : decode cX1_heightOf 65 = .ok (.ior, 1) := by decide +kernel
theorem dX1_heightOf_66 : decode cX1_heightOf 66 = .ok (.istore 5, 2) := by decide +kernel
theorem dX1_heightOf_68 : decode cX1_heightOf 68 = .ok (.iinc 6 1, 3) := by decide +kernel
theorem dX1_heightOf_71 : decode cX1_heightOf 71 = .ok (.goto (-42), 3) := by decide +kernel
theorem dX1_heightOf_74 : decode cX1_heightOf 74 = .ok (.iload 5, 2) := by decide +kernel
theorem dX1_heightOf_76 : decode cX1_heightOf 76 = .ok (.istore_n 2, 1) := by decide +kernel
theorem dX1_heightOf_77 : decode cX1_heightOf 77 = .ok (.iinc 3 1, 3) := by decide +kernel
theorem dX1_heightOf_80 : decode cX1_heightOf 80 = .ok (.iinc 4 1, 3) := by decide +kernel
theorem dX1_heightOf_83 : decode cX1_heightOf 83 = .ok (.goto (-71), 3) := by decide +kernel
theorem dX1_heightOf_86 : decode cX1_heightOf 86 = .ok (.iload_n 3, 1) := by decide +kernel
theorem dX1_heightOf_87 : decode cX1_heightOf 87 = .ok (.ireturn, 1) := by decide +kernel
theorem dX1_superfluous_0 : decode cX1_superfluous 0 = .ok (.iconst 0, 1) := by decide +kernel
theorem dX1_superfluous_1 : decode cX1_superfluous 1 = .ok (.istore_n 1, 1) := by decide +kernel
theorem dX1_superfluous_2 : decode cX1_superfluous 2 = .ok (.iconst 0, 1) := by decide +kernel
theorem dX1_superfluous_3 : decode cX1_superfluous 3 = .ok (.istore_n 2, 1) := by decide +kernel
theorem dX1_superfluous_4 : decode cX1_superfluous 4 = .ok (.iload_n 2, 1) := by decide +kernel
theorem dX1_superfluous_5 : decode cX1_superfluous 5 = .ok (.aload_n 0, 1) := by decide +kernel
theorem dX1_superfluous_6 : decode cX1_superfluous 6 = .ok (.getfield 23, 3) := by decide +kernel
theorem dX1_superfluous_9 : decode cX1_superfluous 9 = .ok (.if_icmp .ge 38, 3) := by decide +kernel
theorem dX1_superfluous_12 : decode cX1_superfluous 12 = .ok (.aload_n 0, 1) := by decide +kernel
theorem dX1_superfluous_13 : decode cX1_superfluous 13 = .ok (.iload_n 2, 1) := by decide +kernel
theorem dX1_superfluous_14 : decode cX1_superfluous 14 = .ok (.aload_n 0, 1) := by decide +kernel
theorem dX1_superfluous_15 : decode cX1_superfluous 15 = .ok (.getfield 13, 3) := by decide +kernel
theorem dX1_superfluous_18 : decode cX1_superfluous 18 = .ok (.iload_n 2, 1) := by decide +kernel
theorem dX1_superfluous_19 : decode cX1_superfluous 19 = .ok (.iaload, 1) := by decide +kernel
theorem dX1_superfluous_20 : decode cX1_superfluous 20 = .ok (.invokevirtual 38, 3) := by decide +kernel
theorem dX1_superfluous_23 : decode cX1_superfluous 23 = .ok (.istore_n 3, 1) := by decide +kernel
theorem dX1_superfluous_24 : decode cX1_superfluous 24 = .ok (.iload_n 1, 1) := by decide +kernel
theorem dX1_superfluous_25 : decode cX1_superfluous 25 = .ok (.aload_n 0, 1) := by decide +kernel
theorem dX1_superfluous_26 : decode cX1_superfluous 26 = .ok (.aload_n 0, 1) := by decide +kernel
theorem dX1_superfluous_27 : decode cX1_superfluous 27 = .ok (.getfield 7, 3) := by decide +kernel
theorem dX1_superfluous_30 : decode cX1_superfluous 30 = .ok (.iload_n 2, 1) := by decide +kernel
theorem dX1_superfluous_31 : decode cX1_superfluous 31 = .ok (.iaload, 1) := by decide +kernel
theorem dX1_superfluous_32 : decode cX1_superfluous 32 = .ok (.iload_n 3, 1) := by decide +kernel
theorem dX1_superfluous_33 : decode cX1_superfluous 33 = .ok (.iconst (-1), 1) := by decide +kernel
theorem dX1_superfluous_34 : decode cX1_superfluous 34 = .ok (.ixor, 1) := by decide +kernel
theorem dX1_superfluous_35 : decode cX1_superfluous 35 = .ok (.iand, 1) := by decide +kernel
theorem dX1_superfluous_36 : decode cX1_superfluous 36 = .ok (.invokevirtual 42, 3) := by decide +kernel
theorem dX1_superfluous_39 : decode cX1_superfluous 39 = .ok (.iadd, 1) := by decide +kernel
theorem dX1_superfluous_40 : decode cX1_superfluous 40 = .ok (.istore_n 1, 1) := by decide +kernel
theorem dX1_superfluous_41 : decode cX1_superfluous 41 = .ok (.iinc 2 1, 3) := by decide +kernel
theorem dX1_superfluous_44 : decode cX1_superfluous 44 = .ok (.goto (-40), 3) := by decide +kernel
theorem dX1_superfluous_47 : decode cX1_superfluous 47 = .ok (.iload_n 1, 1) := by decide +kernel
theorem dX1_superfluous_48 : decode cX1_superfluous 48 = .ok (.ireturn, 1) := by decide +kernel
theorem dX1_immediate_0 : decode cX1_immediate 0 = .ok (.iload_n 2, 1) := by decide +kernel
theorem dX1_immediate_1 : decode cX1_immediate 1 = .ok (.istore_n 3, 1) := by decide +kernel
theorem dX1_immediate_2 : decode cX1_immediate 2 = .ok (.iconst 0, 1) := by decide +kernel
theorem dX1_immediate_3 : decode cX1_immediate 3 = .ok (.istore 4, 2) := by decide +kernel
theorem dX1_immediate_5 : decode cX1_immediate 5 = .ok (.iload 4, 2) := by decide +kernel
theorem dX1_immediate_7 : decode cX1_immediate 7 = .ok (.aload_n 0, 1) := by decide +kernel
theorem dX1_immediate_8 : decode cX1_immediate 8 = .ok (.getfield 23, 3) := by decide +kernel
theorem dX1_immediate_11 : decode cX1_immediate 11 = .ok (.if_icmp .ge 30, 3) := by decide +kernel
theorem dX1_immediate_14 : decode cX1_immediate 14 = .ok (.iload_n 2, 1) := by decide +kernel
theorem dX1_immediate_15 : decode cX1_immediate 15 = .ok (.iload 4, 2) := by decide +kernel
theorem dX1_immediate_17 : decode cX1_immediate 17 = .ok (.ishr, 1) := by decide +kernel
theorem dX1_immediate_18 : decode cX1_immediate 18 = .ok (.iconst 1, 1) := by decide +kernel
theorem dX1_immediate_19 : decode cX1_immediate 19 = .ok (.iand, 1) := by decide +kernel
theorem dX1_immediate_20 : decode cX1_immediate 20 = .ok (.ifCond .eq 15, 3) := by decide +kernel
theorem dX1_immediate_23 : decode cX1_immediate 23 = .ok (.iload_n 3, 1) := by decide +kernel
theorem dX1_immediate_24 : decode cX1_immediate 24 = .ok (.aload_n 0, 1) := by decide +kernel
theorem dX1_immediate_25 : decode cX1_immediate 25 = .ok (.getfield 13, 3) := by decide +kernel
theorem dX1_immediate_28 : decode cX1_immediate 28 = .ok (.iload 4, 2) := by decide +kernel
theorem dX1_immediate_30 : decode cX1_immediate 30 = .ok (.iaload, 1) := by decide +kernel
theorem dX1_immediate_31 : decode cX1_immediate 31 = .ok (.iconst (-1), 1) := by decide +kernel
theorem dX1_immediate_32 : decode cX1_immediate 32 = .ok (.ixor, 1) := by decide +kernel
theorem dX1_immediate_33 : decode cX1_immediate 33 = .ok (.iand, 1) := by decide +kernel
theorem dX1_immediate_34 : decode cX1_immediate 34 = .ok (.istore_n 3, 1) := by decide +kernel
theorem dX1_immediate_35 : decode cX1_immediate 35 = .ok (.iinc 4 1, 3) := by decide +kernel
theorem dX1_immediate_38 : decode cX1_immediate 38 = .ok (.goto (-33), 3) := by decide +kernel
theorem dX1_immediate_41 : decode cX1_immediate 41 = .ok (.iload_n 3, 1) := by decide +kernel
theorem dX1_immediate_42 : decode cX1_immediate 42 = .ok (.ireturn, 1) := by decide +kernel
theorem dX1_bitsIn_0 : decode cX1_bitsIn 0 = .ok (.iconst 0, 1) := by decide +kernel
theorem dX1_bitsIn_1 : decode cX1_bitsIn 1 = .ok (.istore_n 2, 1) := by decide +kernel
theorem dX1_bitsIn_2 : decode cX1_bitsIn 2 = .ok (.iconst 0, 1) := by decide +kernel
theorem dX1_bitsIn_3 : decode cX1_bitsIn 3 = .ok (.istore_n 3, 1) := by decide +kernel
theorem dX1_bitsIn_4 : decode cX1_bitsIn 4 = .ok (.iload_n 3, 1) := by decide +kernel
theorem dX1_bitsIn_5 : decode cX1_bitsIn 5 = .ok (.bipush 9, 2) := by decide +kernel
theorem dX1_bitsIn_7 : decode cX1_bitsIn 7 = .ok (.if_icmp .ge 17, 3) := by decide +kernel
theorem dX1_bitsIn_10 : decode cX1_bitsIn 10 = .ok (.iload_n 2, 1) := by decide +kernel
theorem dX1_bitsIn_11 : decode cX1_bitsIn 11 = .ok (.iload_n 1, 1) := by decide +kernel
theorem dX1_bitsIn_12 : decode cX1_bitsIn 12 = .ok (.iload_n 3, 1) := by decide +kernel
theorem dX1_bitsIn_13 : decode cX1_bitsIn 13 = .ok (.ishr, 1) := by decide +kernel
theorem dX1_bitsIn_14 : decode cX1_bitsIn 14 = .ok (.iconst 1, 1) := by decide +kernel
theorem dX1_bitsIn_15 : decode cX1_bitsIn 15 = .ok (.iand, 1) := by decide +kernel
theorem dX1_bitsIn_16 : decode cX1_bitsIn 16 = .ok (.iadd, 1) := by decide +kernel
theorem dX1_bitsIn_17 : decode cX1_bitsIn 17 = .ok (.istore_n 2, 1) := by decide +kernel
theorem dX1_bitsIn_18 : decode cX1_bitsIn 18 = .ok (.iinc 3 1, 3) := by decide +kernel
theorem dX1_bitsIn_21 : decode cX1_bitsIn 21 = .ok (.goto (-17), 3) := by decide +kernel
theorem dX1_bitsIn_24 : decode cX1_bitsIn 24 = .ok (.iload_n 2, 1) := by decide +kernel
theorem dX1_bitsIn_25 : decode cX1_bitsIn 25 = .ok (.ireturn, 1) := by decide +kernel
theorem dX1_inTrees_0 : decode cX1_inTrees 0 = .ok (.iconst 0, 1) := by decide +kernel
theorem dX1_inTrees_1 : decode cX1_inTrees 1 = .ok (.istore_n 1, 1) := by decide +kernel
theorem dX1_inTrees_2 : decode cX1_inTrees 2 = .ok (.iload_n 1, 1) := by decide +kernel
theorem dX1_inTrees_3 : decode cX1_inTrees 3 = .ok (.aload_n 0, 1) := by decide +kernel
theorem dX1_inTrees_4 : decode cX1_inTrees 4 = .ok (.getfield 23, 3) := by decide +kernel
theorem dX1_inTrees_7 : decode cX1_inTrees 7 = .ok (.if_icmp .ge 31, 3) := by decide +kernel
theorem dX1_inTrees_10 : decode cX1_inTrees 10 = .ok (.aload_n 0, 1) := by decide +kernel
theorem dX1_inTrees_11 : decode cX1_inTrees 11 = .ok (.iload_n 1, 1) := by decide +kernel
theorem dX1_inTrees_12 : decode cX1_inTrees 12 = .ok (.aload_n 0, 1) := by decide +kernel
theorem dX1_inTrees_13 : decode cX1_inTrees 13 = .ok (.getfield 13, 3) := by decide +kernel
theorem dX1_inTrees_16 : decode cX1_inTrees 16 = .ok (.iload_n 1, 1) := by decide +kernel
theorem dX1_inTrees_17 : decode cX1_inTrees 17 = .ok (.iaload, 1) := by decide +kernel
theorem dX1_inTrees_18 : decode cX1_inTrees 18 = .ok (.invokevirtual 38, 3) := by decide +kernel
theorem dX1_inTrees_21 : decode cX1_inTrees 21 = .ok (.istore_n 2, 1) := by decide +kernel
theorem dX1_inTrees_22 : decode cX1_inTrees 22 = .ok (.iload_n 2, 1) := by decide +kernel
theorem dX1_inTrees_23 : decode cX1_inTrees 23 = .ok (.iload_n 2, 1) := by decide +kernel
theorem dX1_inTrees_24 : decode cX1_inTrees 24 = .ok (.iconst 1, 1) := by decide +kernel
theorem dX1_inTrees_25 : decode cX1_inTrees 25 = .ok (.isub, 1) := by decide +kernel
theorem dX1_inTrees_26 : decode cX1_inTrees 26 = .ok (.iand, 1) := by decide +kernel
theorem dX1_inTrees_27 : decode cX1_inTrees 27 = .ok (.ifCond .eq 5, 3) := by decide +kernel
theorem dX1_inTrees_30 : decode cX1_inTrees 30 = .ok (.iconst 0, 1) := by decide +kernel
theorem dX1_inTrees_31 : decode cX1_inTrees 31 = .ok (.ireturn, 1) := by decide +kernel
theorem dX1_inTrees_32 : decode cX1_inTrees 32 = .ok (.iinc 1 1, 3) := by decide +kernel
theorem dX1_inTrees_35 : decode cX1_inTrees 35 = .ok (.goto (-33), 3) := by decide +kernel
theorem dX1_inTrees_38 : decode cX1_inTrees 38 = .ok (.iconst 1, 1) := by decide +kernel
theorem dX1_inTrees_39 : decode cX1_inTrees 39 = .ok (.ireturn, 1) := by decide +kernel
theorem dX1_shortest_0 : decode cX1_shortest 0 = .ok (.iload_n 1, 1) := by decide +kernel
theorem dX1_shortest_1 : decode cX1_shortest 1 = .ok (.iconst 1, 1) := by decide +kernel
theorem dX1_shortest_2 : decode cX1_shortest 2 = .ok (.if_icmp .lt 9, 3) := by decide +kernel
theorem dX1_shortest_5 : decode cX1_shortest 5 = .ok (.iload_n 1, 1) := by decide +kernel
theorem dX1_shortest_6 : decode cX1_shortest 6 = .ok (.bipush 9, 2) := by decide +kernel
theorem dX1_shortest_8 : decode cX1_shortest 8 = .ok (.if_icmp .le 5, 3) := by decide +kernel
theorem dX1_shortest_11 : decode cX1_shortest 11 = .ok (.iconst (-1), 1) := by decide +kernel
theorem dX1_shortest_12 : decode cX1_shortest 12 = .ok (.ireturn, 1) := by decide +kernel
theorem dX1_shortest_13 : decode cX1_shortest 13 = .ok (.aload_n 0, 1) := by decide +kernel
theorem dX1_shortest_14 : decode cX1_shortest 14 = .ok (.iconst 1, 1) := by decide +kernel
theorem dX1_shortest_15 : decode cX1_shortest 15 = .ok (.aload_n 0, 1) := by decide +kernel
theorem dX1_shortest_16 : decode cX1_shortest 16 = .ok (.getfield 23, 3) := by decide +kernel
theorem dX1_shortest_19 : decode cX1_shortest 19 = .ok (.ishl, 1) := by decide +kernel
theorem dX1_shortest_20 : decode cX1_shortest 20 = .ok (.iconst 1, 1) := by decide +kernel
theorem dX1_shortest_21 : decode cX1_shortest 21 = .ok (.isub, 1) := by decide +kernel
theorem dX1_shortest_22 : decode cX1_shortest 22 = .ok (.putfield 45, 3) := by decide +kernel
theorem dX1_shortest_25 : decode cX1_shortest 25 = .ok (.iload_n 1, 1) := by decide +kernel
theorem dX1_shortest_26 : decode cX1_shortest 26 = .ok (.iconst 1, 1) := by decide +kernel
theorem dX1_shortest_27 : decode cX1_shortest 27 = .ok (.if_icmp .ne 8, 3) := by decide +kernel
theorem dX1_shortest_30 : decode cX1_shortest 30 = .ok (.aload_n 0, 1) := by decide +kernel
theorem dX1_shortest_31 : decode cX1_shortest 31 = .ok (.getfield 23, 3) := by decide +kernel
theorem dX1_shortest_34 : decode cX1_shortest 34 = .ok (.ireturn, 1) := by decide +kernel
theorem dX1_shortest_35 : decode cX1_shortest 35 = .ok (.iload_n 1, 1) := by decide +kernel
theorem dX1_shortest_36 : decode cX1_shortest 36 = .ok (.iconst 2, 1) := by decide +kernel
theorem dX1_shortest_37 : decode cX1_shortest 37 = .ok (.if_icmp .ne 10, 3) := by decide +kernel
theorem dX1_shortest_40 : decode cX1_shortest 40 = .ok (.aload_n 0, 1) := by decide +kernel
theorem dX1_shortest_41 : decode cX1_shortest 41 = .ok (.invokevirtual 48, 3) := by decide +kernel
theorem dX1_shortest_44 : decode cX1_shortest 44 = .ok (.goto 17, 3) := by decide +kernel
theorem dX1_shortest_47 : decode cX1_shortest 47 = .ok (.aload_n 0, 1) := by decide +kernel
theorem dX1_shortest_48 : decode cX1_shortest 48 = .ok (.invokevirtual 51, 3) := by decide +kernel
theorem dX1_shortest_51 : decode cX1_shortest 51 = .ok (.ifCond .ne 6, 3) := by decide +kernel
theorem dX1_shortest_54 : decode cX1_shortest 54 = .ok (.bipush (-2), 2) := by decide +kernel
theorem dX1_shortest_56 : decode cX1_shortest 56 = .ok (.ireturn, 1) := by decide +kernel
theorem dX1_shortest_57 : decode cX1_shortest 57 = .ok (.aload_n 0, 1) := by decide +kernel
theorem dX1_shortest_58 : decode cX1_shortest 58 = .ok (.invokevirtual 55, 3) := by decide +kernel
theorem dX1_shortest_61 : decode cX1_shortest 61 = .ok (.aload_n 0, 1) := by decide +kernel
theorem dX1_shortest_62 : decode cX1_shortest 62 = .ok (.iload_n 1, 1) := by decide +kernel
theorem dX1_shortest_63 : decode cX1_shortest 63 = .ok (.invokevirtual 58, 3) := by decide +kernel
theorem dX1_shortest_66 : decode cX1_shortest 66 = .ok (.ireturn, 1) := by decide +kernel
theorem dX1_labelByLists_0 : decode cX1_labelByLists 0 = .ok (.iconst 0, 1) := by decide +kernel
theorem dX1_labelByLists_1 : decode cX1_labelByLists 1 = .ok (.istore_n 1, 1) := by decide +kernel
theorem dX1_labelByLists_2 : decode cX1_labelByLists 2 = .ok (.iload_n 1, 1) := by decide +kernel
theorem dX1_labelByLists_3 : decode cX1_labelByLists 3 = .ok (.aload_n 0, 1) := by decide +kernel
theorem dX1_labelByLists_4 : decode cX1_labelByLists 4 = .ok (.getfield 23, 3) := by decide +kernel
theorem dX1_labelByLists_7 : decode cX1_labelByLists 7 = .ok (.if_icmp .ge 43, 3) := by decide +kernel
theorem dX1_labelByLists_10 : decode cX1_labelByLists 10 = .ok (.aload_n 0, 1) := by decide +kernel
theorem dX1_labelByLists_11 : decode cX1_labelByLists 11 = .ok (.getfield 19, 3) := by decide +kernel
theorem dX1_labelByLists_14 : decode cX1_labelByLists 14 = .ok (.iload_n 1, 1) := by decide +kernel
theorem dX1_labelByLists_15 : decode cX1_labelByLists 15 = .ok (.iconst 0, 1) := by decide +kernel
theorem dX1_labelByLists_16 : decode cX1_labelByLists 16 = .ok (.bastore, 1) := by decide +kernel
theorem dX1_labelByLists_17 : decode cX1_labelByLists 17 = .ok (.aload_n 0, 1) := by decide +kernel
theorem dX1_labelByLists_18 : decode cX1_labelByLists 18 = .ok (.getfield 16, 3) := by decide +kernel
theorem dX1_labelByLists_21 : decode cX1_labelByLists 21 = .ok (.iload_n 1, 1) := by decide +kernel
theorem dX1_labelByLists_22 : decode cX1_labelByLists 22 = .ok (.aload_n 0, 1) := by decide +kernel
theorem dX1_labelByLists_23 : decode cX1_labelByLists 23 = .ok (.iload_n 1, 1) := by decide +kernel
theorem dX1_labelByLists_24 : decode cX1_labelByLists 24 = .ok (.aload_n 0, 1) := by decide +kernel
theorem dX1_labelByLists_25 : decode cX1_labelByLists 25 = .ok (.getfield 13, 3) := by decide +kernel
theorem dX1_labelByLists_28 : decode cX1_labelByLists 28 = .ok (.iload_n 1, 1) := by decide +kernel
theorem dX1_labelByLists_29 : decode cX1_labelByLists 29 = .ok (.iaload, 1) := by decide +kernel
theorem dX1_labelByLists_30 : decode cX1_labelByLists 30 = .ok (.aload_n 0, 1) := by decide +kernel
theorem dX1_labelByLists_31 : decode cX1_labelByLists 31 = .ok (.getfield 45, 3) := by decide +kernel
theorem dX1_labelByLists_34 : decode cX1_labelByLists 34 = .ok (.iand, 1) := by decide +kernel
theorem dX1_labelByLists_35 : decode cX1_labelByLists 35 = .ok (.invokevirtual 38, 3) := by decide +kernel
theorem dX1_labelByLists_38 : decode cX1_labelByLists 38 = .ok (.aload_n 0, 1) := by decide +kernel
theorem dX1_labelByLists_39 : decode cX1_labelByLists 39 = .ok (.getfield 45, 3) := by decide +kernel
theorem dX1_labelByLists_42 : decode cX1_labelByLists 42 = .ok (.iand, 1) := by decide +kernel
theorem dX1_labelByLists_43 : decode cX1_labelByLists 43 = .ok (.iastore, 1) := by decide +kernel
theorem dX1_labelByLists_44 : decode cX1_labelByLists 44 = .ok (.iinc 1 1, 3) := by decide +kernel
theorem dX1_labelByLists_47 : decode cX1_labelByLists 47 = .ok (.goto (-45), 3) := by decide +kernel
theorem dX1_labelByLists_50 : decode cX1_labelByLists 50 = .ok (.iconst 1, 1) := by decide +kernel
theorem dX1_labelByLists_51 : decode cX1_labelByLists 51 = .ok (.istore_n 1, 1) := by decide +kernel
theorem dX1_labelByLists_52 : decode cX1_labelByLists 52 = .ok (.iload_n 1, 1) := by decide +kernel
theorem dX1_labelByLists_53 : decode cX1_labelByLists 53 = .ok (.bipush 9, 2) := by decide +kernel
theorem dX1_labelByLists_55 : decode cX1_labelByLists 55 = .ok (.if_icmp .gt 105, 3) := by decide +kernel
theorem dX1_labelByLists_58 : decode cX1_labelByLists 58 = .ok (.iconst (-1), 1) := by decide +kernel
theorem dX1_labelByLists_59 : decode cX1_labelByLists 59 = .ok (.istore_n 2, 1) := by decide +kernel
theorem dX1_labelByLists_60 : decode cX1_labelByLists 60 = .ok (.iconst 0, 1) := by decide +kernel
theorem dX1_labelByLists_61 : decode cX1_labelByLists 61 = .ok (.istore_n 3, 1) := by decide +kernel
theorem dX1_labelByLists_62 : decode cX1_labelByLists 62 = .ok (.iconst 0, 1) := by decide +kernel
theorem dX1_labelByLists_63 : decode cX1_labelByLists 63 = .ok (.istore 4, 2) := by decide +kernel
theorem dX1_labelByLists_65 : decode cX1_labelByLists 65 = .ok (.iload 4, 2) := by decide +kernel
theorem dX1_labelByLists_67 : decode cX1_labelByLists 67 = .ok (.aload_n 0, 1) := by decide +kernel
theorem dX1_labelByLists_68 : decode cX1_labelByLists 68 = .ok (.getfield 23, 3) := by decide +kernel
theorem dX1_labelByLists_71 : decode cX1_labelByLists 71 = .ok (.if_icmp .ge 71, 3) := by decide +kernel
theorem dX1_labelByLists_74 : decode cX1_labelByLists 74 = .ok (.aload_n 0, 1) := by decide +kernel
theorem dX1_labelByLists_75 : decode cX1_labelByLists 75 = .ok (.getfield 45, 3) := by decide +kernel
theorem dX1_labelByLists_78 : decode cX1_labelByLists 78 = .ok (.iload 4, 2) := by decide +kernel
theorem dX1_labelByLists_80 : decode cX1_labelByLists 80 = .ok (.ishr, 1) := by decide +kernel
theorem dX1_labelByLists_81 : decode cX1_labelByLists 81 = .ok (.iconst 1, 1) := by decide +kernel
theorem dX1_labelByLists_82 : decode cX1_labelByLists 82 = .ok (.iand, 1) := by decide +kernel
theorem dX1_labelByLists_83 : decode cX1_labelByLists 83 = .ok (.ifCond .eq 53, 3) := by decide +kernel
theorem dX1_labelByLists_86 : decode cX1_labelByLists 86 = .ok (.aload_n 0, 1) := by decide +kernel
theorem dX1_labelByLists_87 : decode cX1_labelByLists 87 = .ok (.getfield 19, 3) := by decide +kernel
theorem dX1_labelByLists_90 : decode cX1_labelByLists 90 = .ok (.iload 4, 2) := by decide +kernel
theorem dX1_labelByLists_92 : decode cX1_labelByLists 92 = .ok (.baload, 1) := by decide +kernel
theorem dX1_labelByLists_93 : decode cX1_labelByLists 93 = .ok (.ifCond .eq 6, 3) := by decide +kernel
theorem dX1_labelByLists_96 : decode cX1_labelByLists 96 = .ok (.goto 40, 3) := by decide +kernel
theorem dX1_labelByLists_99 : decode cX1_labelByLists 99 = .ok (.aload_n 0, 1) := by decide +kernel
theorem dX1_labelByLists_100 : decode cX1_labelByLists 100 = .ok (.aload_n 0, 1) := by decide +kernel
theorem dX1_labelByLists_101 : decode cX1_labelByLists 101 = .ok (.getfield 16, 3) := by decide +kernel
theorem dX1_labelByLists_104 : decode cX1_labelByLists 104 = .ok (.iload 4, 2) := by decide +kernel
theorem dX1_labelByLists_106 : decode cX1_labelByLists 106 = .ok (.iaload, 1) := by decide +kernel
theorem dX1_labelByLists_107 : decode cX1_labelByLists 107 = .ok (.invokevirtual 61, 3) := by decide +kernel
theorem dX1_labelByLists_110 : decode cX1_labelByLists 110 = .ok (.istore 5, 2) := by decide +kernel
theorem dX1_labelByLists_112 : decode cX1_labelByLists 112 = .ok (.iload 5, 2) := by decide +kernel
theorem dX1_labelByLists_114 : decode cX1_labelByLists 114 = .ok (.ifCond .lt 22, 3) := by decide +kernel
theorem dX1_labelByLists_117 : decode cX1_labelByLists 117 = .ok (.iload_n 2, 1) := by decide +kernel
theorem dX1_labelByLists_118 : decode cX1_labelByLists 118 = .ok (.ifCond .lt 12, 3) := by decide +kernel
theorem dX1_labelByLists_121 : decode cX1_labelByLists 121 = .ok (.iload 5, 2) := by decide +kernel
theorem dX1_labelByLists_123 : decode cX1_labelByLists 123 = .ok (.iload_n 3, 1) := by decide +kernel
theorem dX1_labelByLists_124 : decode cX1_labelByLists 124 = .ok (.if_icmp .lt 6, 3) := by decide +kernel
theorem dX1_labelByLists_127 : decode cX1_labelByLists 127 = .ok (.goto 9, 3) := by decide +kernel
theorem dX1_labelByLists_130 : decode cX1_labelByLists 130 = .ok (.iload 4, 2) := by decide +kernel
theorem dX1_labelByLists_132 : decode cX1_labelByLists 132 = .ok (.istore_n 2, 1) := by decide +kernel
theorem dX1_labelByLists_133 : decode cX1_labelByLists 133 = .ok (.iload 5, 2) := by decide +kernel
theorem dX1_labelByLists_135 : decode cX1_labelByLists 135 = .ok (.istore_n 3, 1) := by decide +kernel
theorem dX1_labelByLists_136 : decode cX1_labelByLists 136 = .ok (.iinc 4 1, 3) := by decide +kernel
theorem dX1_labelByLists_139 : decode cX1_labelByLists 139 = .ok (.goto (-74), 3) := by decide +kernel
theorem dX1_labelByLists_142 : decode cX1_labelByLists 142 = .ok (.iload_n 2, 1) := by decide +kernel
theorem dX1_labelByLists_143 : decode cX1_labelByLists 143 = .ok (.ifCond .lt 11, 3) := by decide +kernel
theorem dX1_labelByLists_146 : decode cX1_labelByLists 146 = .ok (.aload_n 0, 1) := by decide +kernel
theorem dX1_labelByLists_147 : decode cX1_labelByLists 147 = .ok (.getfield 19, 3) := by decide +kernel
theorem dX1_labelByLists_150 : decode cX1_labelByLists 150 = .ok (.iload_n 2, 1) := by decide +kernel
theorem dX1_labelByLists_151 : decode cX1_labelByLists 151 = .ok (.iload_n 1, 1) := by decide +kernel
theorem dX1_labelByLists_152 : decode cX1_labelByLists 152 = .ok (.i2b, 1) := by decide +kernel
theorem dX1_labelByLists_153 : decode cX1_labelByLists 153 = .ok (.bastore, 1) := by decide +kernel
theorem dX1_labelByLists_154 : decode cX1_labelByLists 154 = .ok (.iinc 1 1, 3) := by decide +kernel
theorem dX1_labelByLists_157 : decode cX1_labelByLists 157 = .ok (.goto (-105), 3) := by decide +kernel
theorem dX1_labelByLists_160 : decode cX1_labelByLists 160 = .ok (.return_, 1) := by decide +kernel
theorem dX1_labelList_0 : decode cX1_labelList 0 = .ok (.iconst 0, 1) := by decide +kernel
theorem dX1_labelList_1 : decode cX1_labelList 1 = .ok (.istore_n 2, 1) := by decide +kernel
theorem dX1_labelList_2 : decode cX1_labelList 2 = .ok (.iconst 0, 1) := by decide +kernel
theorem dX1_labelList_3 : decode cX1_labelList 3 = .ok (.istore_n 3, 1) := by decide +kernel
theorem dX1_labelList_4 : decode cX1_labelList 4 = .ok (.iload_n 3, 1) := by decide +kernel
theorem dX1_labelList_5 : decode cX1_labelList 5 = .ok (.aload_n 0, 1) := by decide +kernel
theorem dX1_labelList_6 : decode cX1_labelList 6 = .ok (.getfield 23, 3) := by decide +kernel
theorem dX1_labelList_9 : decode cX1_labelList 9 = .ok (.if_icmp .ge 42, 3) := by decide +kernel
theorem dX1_labelList_12 : decode cX1_labelList 12 = .ok (.iload_n 1, 1) := by decide +kernel
theorem dX1_labelList_13 : decode cX1_labelList 13 = .ok (.iload_n 3, 1) := by decide +kernel
theorem dX1_labelList_14 : decode cX1_labelList 14 = .ok (.ishr, 1) := by decide +kernel
theorem dX1_labelList_15 : decode cX1_labelList 15 = .ok (.iconst 1, 1) := by decide +kernel
theorem dX1_labelList_16 : decode cX1_labelList 16 = .ok (.iand, 1) := by decide +kernel
theorem dX1_labelList_17 : decode cX1_labelList 17 = .ok (.ifCond .ne 6, 3) := by decide +kernel
theorem dX1_labelList_20 : decode cX1_labelList 20 = .ok (.goto 25, 3) := by decide +kernel
theorem dX1_labelList_23 : decode cX1_labelList 23 = .ok (.aload_n 0, 1) := by decide +kernel
theorem dX1_labelList_24 : decode cX1_labelList 24 = .ok (.getfield 19, 3) := by decide +kernel
theorem dX1_labelList_27 : decode cX1_labelList 27 = .ok (.iload_n 3, 1) := by decide +kernel
theorem dX1_labelList_28 : decode cX1_labelList 28 = .ok (.baload, 1) := by decide +kernel
theorem dX1_labelList_29 : decode cX1_labelList 29 = .ok (.ifCond .ne 5, 3) := by decide +kernel
theorem dX1_labelList_32 : decode cX1_labelList 32 = .ok (.iconst (-1), 1) := by decide +kernel
theorem dX1_labelList_33 : decode cX1_labelList 33 = .ok (.ireturn, 1) := by decide +kernel
theorem dX1_labelList_34 : decode cX1_labelList 34 = .ok (.iload_n 2, 1) := by decide +kernel
theorem dX1_labelList_35 : decode cX1_labelList 35 = .ok (.iconst 1, 1) := by decide +kernel
theorem dX1_labelList_36 : decode cX1_labelList 36 = .ok (.aload_n 0, 1) := by decide +kernel
theorem dX1_labelList_37 : decode cX1_labelList 37 = .ok (.getfield 19, 3) := by decide +kernel
theorem dX1_labelList_40 : decode cX1_labelList 40 = .ok (.iload_n 3, 1) := by decide +kernel
theorem dX1_labelList_41 : decode cX1_labelList 41 = .ok (.baload, 1) := by decide +kernel
theorem dX1_labelList_42 : decode cX1_labelList 42 = .ok (.ishl, 1) := by decide +kernel
theorem dX1_labelList_43 : decode cX1_labelList 43 = .ok (.ior, 1) := by decide +kernel
theorem dX1_labelList_44 : decode cX1_labelList 44 = .ok (.istore_n 2, 1) := by decide +kernel
theorem dX1_labelList_45 : decode cX1_labelList 45 = .ok (.iinc 3 1, 3) := by decide +kernel
theorem dX1_labelList_48 : decode cX1_labelList 48 = .ok (.goto (-44), 3) := by decide +kernel
theorem dX1_labelList_51 : decode cX1_labelList 51 = .ok (.iload_n 2, 1) := by decide +kernel
theorem dX1_labelList_52 : decode cX1_labelList 52 = .ok (.ireturn, 1) := by decide +kernel
theorem dX1_labelByHeights_0 : decode cX1_labelByHeights 0 = .ok (.iconst 0, 1) := by decide +kernel
theorem dX1_labelByHeights_1 : decode cX1_labelByHeights 1 = .ok (.istore_n 1, 1) := by decide +kernel
theorem dX1_labelByHeights_2 : decode cX1_labelByHeights 2 = .ok (.iload_n 1, 1) := by decide +kernel
theorem dX1_labelByHeights_3 : decode cX1_labelByHeights 3 = .ok (.aload_n 0, 1) := by decide +kernel
theorem dX1_labelByHeights_4 : decode cX1_labelByHeights 4 = .ok (.getfield 23, 3) := by decide +kernel
theorem dX1_labelByHeights_7 : decode cX1_labelByHeights 7 = .ok (.if_icmp .ge 21, 3) := by decide +kernel
theorem dX1_labelByHeights_10 : decode cX1_labelByHeights 10 = .ok (.aload_n 0, 1) := by decide +kernel
theorem dX1_labelByHeights_11 : decode cX1_labelByHeights 11 = .ok (.getfield 19, 3) := by decide +kernel
theorem dX1_labelByHeights_14 : decode cX1_labelByHeights 14 = .ok (.iload_n 1, 1) := by decide +kernel
theorem dX1_labelByHeights_15 : decode cX1_labelByHeights 15 = .ok (.aload_n 0, 1) := by decide +kernel
theorem dX1_labelByHeights_16 : decode cX1_labelByHeights 16 = .ok (.iload_n 1, 1) := by decide +kernel
theorem dX1_labelByHeights_17 : decode cX1_labelByHeights 17 = .ok (.invokevirtual 34, 3) := by decide +kernel
theorem dX1_labelByHeights_20 : decode cX1_labelByHeights 20 = .ok (.i2b, 1) := by decide +kernel
theorem dX1_labelByHeights_21 : decode cX1_labelByHeights 21 = .ok (.bastore, 1) := by decide +kernel
theorem dX1_labelByHeights_22 : decode cX1_labelByHeights 22 = .ok (.iinc 1 1, 3) := by decide +kernel
theorem dX1_labelByHeights_25 : decode cX1_labelByHeights 25 = .ok (.goto (-23), 3) := by decide +kernel
theorem dX1_labelByHeights_28 : decode cX1_labelByHeights 28 = .ok (.return_, 1) := by decide +kernel
theorem dX1_lengthOnList_0 : decode cX1_lengthOnList 0 = .ok (.iconst 0, 1) := by decide +kernel
end
section
set_option maxRecDepth 100000
theorem dX1_lengthOnList_1 : decode cX1_lengthOnList 1 = .ok (.istore_n 2, 1) := by decide +kernel
theorem dX1_lengthOnList_2 : decode cX1_lengthOnList 2 = .ok (.iconst 0, 1) := by decide +kernel
theorem dX1_lengthOnList_3 : decode cX1_lengthOnList 3 = .ok (.istore_n 3, 1) := by decide +kernel
theorem dX1_lengthOnList_4 : decode cX1_lengthOnList 4 = .ok (.iload_n 2, 1) := by decide +kernel
theorem dX1_lengthOnList_5 : decode cX1_lengthOnList 5 = .ok (.aload_n 0, 1) := by decide +kernel
theorem dX1_lengthOnList_6 : decode cX1_lengthOnList 6 = .ok (.getfield 45, 3) := by decide +kernel
theorem dX1_lengthOnList_9 : decode cX1_lengthOnList 9 = .ok (.if_icmp .eq 61, 3) := by decide +kernel
theorem dX1_lengthOnList_12 : decode cX1_lengthOnList 12 = .ok (.iload_n 3, 1) := by decide +kernel
theorem dX1_lengthOnList_13 : decode cX1_lengthOnList 13 = .ok (.bipush 9, 2) := by decide +kernel
theorem dX1_lengthOnList_15 : decode cX1_lengthOnList 15 = .ok (.if_icmp .ge 55, 3) := by decide +kernel
theorem dX1_lengthOnList_18 : decode cX1_lengthOnList 18 = .ok (.iconst 0, 1) := by decide +kernel
theorem dX1_lengthOnList_19 : decode cX1_lengthOnList 19 = .ok (.istore 4, 2) := by decide +kernel
theorem dX1_lengthOnList_21 : decode cX1_lengthOnList 21 = .ok (.iconst 0, 1) := by decide +kernel
theorem dX1_lengthOnList_22 : decode cX1_lengthOnList 22 = .ok (.istore 5, 2) := by decide +kernel
theorem dX1_lengthOnList_24 : decode cX1_lengthOnList 24 = .ok (.iload 5, 2) := by decide +kernel
theorem dX1_lengthOnList_26 : decode cX1_lengthOnList 26 = .ok (.iload_n 1, 1) := by decide +kernel
theorem dX1_lengthOnList_27 : decode cX1_lengthOnList 27 = .ok (.if_icmp .ge 32, 3) := by decide +kernel
theorem dX1_lengthOnList_30 : decode cX1_lengthOnList 30 = .ok (.aload_n 0, 1) := by decide +kernel
theorem dX1_lengthOnList_31 : decode cX1_lengthOnList 31 = .ok (.iload_n 2, 1) := by decide +kernel
theorem dX1_lengthOnList_32 : decode cX1_lengthOnList 32 = .ok (.iload 4, 2) := by decide +kernel
theorem dX1_lengthOnList_34 : decode cX1_lengthOnList 34 = .ok (.invokevirtual 64, 3) := by decide +kernel
theorem dX1_lengthOnList_37 : decode cX1_lengthOnList 37 = .ok (.istore 6, 2) := by decide +kernel
theorem dX1_lengthOnList_39 : decode cX1_lengthOnList 39 = .ok (.iload 6, 2) := by decide +kernel
theorem dX1_lengthOnList_41 : decode cX1_lengthOnList 41 = .ok (.ifCond .lt 12, 3) := by decide +kernel
theorem dX1_lengthOnList_44 : decode cX1_lengthOnList 44 = .ok (.iload 4, 2) := by decide +kernel
theorem dX1_lengthOnList_46 : decode cX1_lengthOnList 46 = .ok (.iconst 1, 1) := by decide +kernel
theorem dX1_lengthOnList_47 : decode cX1_lengthOnList 47 = .ok (.iload 6, 2) := by decide +kernel
theorem dX1_lengthOnList_49 : decode cX1_lengthOnList 49 = .ok (.ishl, 1) := by decide +kernel
theorem dX1_lengthOnList_50 : decode cX1_lengthOnList 50 = .ok (.ior, 1) := by decide +kernel
theorem dX1_lengthOnList_51 : decode cX1_lengthOnList 51 = .ok (.istore 4, 2) := by decide +kernel
theorem dX1_lengthOnList_53 : decode cX1_lengthOnList 53 = .ok (.iinc 5 1, 3) := by decide +kernel
theorem dX1_lengthOnList_56 : decode cX1_lengthOnList 56 = .ok (.goto (-32), 3) := by decide +kernel
theorem dX1_lengthOnList_59 : decode cX1_lengthOnList 59 = .ok (.iload_n 2, 1) := by decide +kernel
theorem dX1_lengthOnList_60 : decode cX1_lengthOnList 60 = .ok (.iload 4, 2) := by decide +kernel
theorem dX1_lengthOnList_62 : decode cX1_lengthOnList 62 = .ok (.ior, 1) := by decide +kernel
theorem dX1_lengthOnList_63 : decode cX1_lengthOnList 63 = .ok (.istore_n 2, 1) := by decide +kernel
theorem dX1_lengthOnList_64 : decode cX1_lengthOnList 64 = .ok (.iinc 3 1, 3) := by decide +kernel
theorem dX1_lengthOnList_67 : decode cX1_lengthOnList 67 = .ok (.goto (-63), 3) := by decide +kernel
theorem dX1_lengthOnList_70 : decode cX1_lengthOnList 70 = .ok (.iload_n 3, 1) := by decide +kernel
theorem dX1_lengthOnList_71 : decode cX1_lengthOnList 71 = .ok (.ireturn, 1) := by decide +kernel
theorem dX1_bestReady_0 : decode cX1_bestReady 0 = .ok (.aload_n 0, 1) := by decide +kernel
theorem dX1_bestReady_1 : decode cX1_bestReady 1 = .ok (.getfield 45, 3) := by decide +kernel
theorem dX1_bestReady_4 : decode cX1_bestReady 4 = .ok (.iload_n 1, 1) := by decide +kernel
theorem dX1_bestReady_5 : decode cX1_bestReady 5 = .ok (.iconst (-1), 1) := by decide +kernel
theorem dX1_bestReady_6 : decode cX1_bestReady 6 = .ok (.ixor, 1) := by decide +kernel
theorem dX1_bestReady_7 : decode cX1_bestReady 7 = .ok (.iand, 1) := by decide +kernel
theorem dX1_bestReady_8 : decode cX1_bestReady 8 = .ok (.istore_n 3, 1) := by decide +kernel
theorem dX1_bestReady_9 : decode cX1_bestReady 9 = .ok (.iconst (-1), 1) := by decide +kernel
theorem dX1_bestReady_10 : decode cX1_bestReady 10 = .ok (.istore 4, 2) := by decide +kernel
theorem dX1_bestReady_12 : decode cX1_bestReady 12 = .ok (.iconst 0, 1) := by decide +kernel
theorem dX1_bestReady_13 : decode cX1_bestReady 13 = .ok (.istore 5, 2) := by decide +kernel
theorem dX1_bestReady_15 : decode cX1_bestReady 15 = .ok (.iload 5, 2) := by decide +kernel
theorem dX1_bestReady_17 : decode cX1_bestReady 17 = .ok (.aload_n 0, 1) := by decide +kernel
theorem dX1_bestReady_18 : decode cX1_bestReady 18 = .ok (.getfield 23, 3) := by decide +kernel
theorem dX1_bestReady_21 : decode cX1_bestReady 21 = .ok (.if_icmp .ge 66, 3) := by decide +kernel
theorem dX1_bestReady_24 : decode cX1_bestReady 24 = .ok (.iload_n 3, 1) := by decide +kernel
theorem dX1_bestReady_25 : decode cX1_bestReady 25 = .ok (.iload 5, 2) := by decide +kernel
theorem dX1_bestReady_27 : decode cX1_bestReady 27 = .ok (.ishr, 1) := by decide +kernel
theorem dX1_bestReady_28 : decode cX1_bestReady 28 = .ok (.iconst 1, 1) := by decide +kernel
theorem dX1_bestReady_29 : decode cX1_bestReady 29 = .ok (.iand, 1) := by decide +kernel
theorem dX1_bestReady_30 : decode cX1_bestReady 30 = .ok (.ifCond .eq 51, 3) := by decide +kernel
theorem dX1_bestReady_33 : decode cX1_bestReady 33 = .ok (.iload_n 2, 1) := by decide +kernel
theorem dX1_bestReady_34 : decode cX1_bestReady 34 = .ok (.iload 5, 2) := by decide +kernel
theorem dX1_bestReady_36 : decode cX1_bestReady 36 = .ok (.ishr, 1) := by decide +kernel
theorem dX1_bestReady_37 : decode cX1_bestReady 37 = .ok (.iconst 1, 1) := by decide +kernel
theorem dX1_bestReady_38 : decode cX1_bestReady 38 = .ok (.iand, 1) := by decide +kernel
theorem dX1_bestReady_39 : decode cX1_bestReady 39 = .ok (.ifCond .ne 42, 3) := by decide +kernel
theorem dX1_bestReady_42 : decode cX1_bestReady 42 = .ok (.aload_n 0, 1) := by decide +kernel
theorem dX1_bestReady_43 : decode cX1_bestReady 43 = .ok (.iload 5, 2) := by decide +kernel
theorem dX1_bestReady_45 : decode cX1_bestReady 45 = .ok (.iload_n 3, 1) := by decide +kernel
theorem dX1_bestReady_46 : decode cX1_bestReady 46 = .ok (.invokevirtual 67, 3) := by decide +kernel
theorem dX1_bestReady_49 : decode cX1_bestReady 49 = .ok (.ifCond .ne 6, 3) := by decide +kernel
theorem dX1_bestReady_52 : decode cX1_bestReady 52 = .ok (.goto 29, 3) := by decide +kernel
theorem dX1_bestReady_55 : decode cX1_bestReady 55 = .ok (.iload 4, 2) := by decide +kernel
theorem dX1_bestReady_57 : decode cX1_bestReady 57 = .ok (.ifCond .lt 20, 3) := by decide +kernel
theorem dX1_bestReady_60 : decode cX1_bestReady 60 = .ok (.aload_n 0, 1) := by decide +kernel
theorem dX1_bestReady_61 : decode cX1_bestReady 61 = .ok (.getfield 19, 3) := by decide +kernel
theorem dX1_bestReady_64 : decode cX1_bestReady 64 = .ok (.iload 5, 2) := by decide +kernel
theorem dX1_bestReady_66 : decode cX1_bestReady 66 = .ok (.baload, 1) := by decide +kernel
theorem dX1_bestReady_67 : decode cX1_bestReady 67 = .ok (.aload_n 0, 1) := by decide +kernel
theorem dX1_bestReady_68 : decode cX1_bestReady 68 = .ok (.getfield 19, 3) := by decide +kernel
theorem dX1_bestReady_71 : decode cX1_bestReady 71 = .ok (.iload 4, 2) := by decide +kernel
theorem dX1_bestReady_73 : decode cX1_bestReady 73 = .ok (.baload, 1) := by decide +kernel
theorem dX1_bestReady_74 : decode cX1_bestReady 74 = .ok (.if_icmp .le 7, 3) := by decide +kernel
theorem dX1_bestReady_77 : decode cX1_bestReady 77 = .ok (.iload 5, 2) := by decide +kernel
theorem dX1_bestReady_79 : decode cX1_bestReady 79 = .ok (.istore 4, 2) := by decide +kernel
theorem dX1_bestReady_81 : decode cX1_bestReady 81 = .ok (.iinc 5 1, 3) := by decide +kernel
theorem dX1_bestReady_84 : decode cX1_bestReady 84 = .ok (.goto (-69), 3) := by decide +kernel
theorem dX1_bestReady_87 : decode cX1_bestReady 87 = .ok (.iload 4, 2) := by decide +kernel
theorem dX1_bestReady_89 : decode cX1_bestReady 89 = .ok (.ireturn, 1) := by decide +kernel
theorem dX1_isReady_0 : decode cX1_isReady 0 = .ok (.iconst 0, 1) := by decide +kernel
theorem dX1_isReady_1 : decode cX1_isReady 1 = .ok (.istore_n 3, 1) := by decide +kernel
theorem dX1_isReady_2 : decode cX1_isReady 2 = .ok (.iload_n 3, 1) := by decide +kernel
theorem dX1_isReady_3 : decode cX1_isReady 3 = .ok (.aload_n 0, 1) := by decide +kernel
theorem dX1_isReady_4 : decode cX1_isReady 4 = .ok (.getfield 23, 3) := by decide +kernel
theorem dX1_isReady_7 : decode cX1_isReady 7 = .ok (.if_icmp .ge 32, 3) := by decide +kernel
theorem dX1_isReady_10 : decode cX1_isReady 10 = .ok (.iload_n 2, 1) := by decide +kernel
theorem dX1_isReady_11 : decode cX1_isReady 11 = .ok (.iload_n 3, 1) := by decide +kernel
theorem dX1_isReady_12 : decode cX1_isReady 12 = .ok (.ishr, 1) := by decide +kernel
theorem dX1_isReady_13 : decode cX1_isReady 13 = .ok (.iconst 1, 1) := by decide +kernel
theorem dX1_isReady_14 : decode cX1_isReady 14 = .ok (.iand, 1) := by decide +kernel
theorem dX1_isReady_15 : decode cX1_isReady 15 = .ok (.ifCond .eq 18, 3) := by decide +kernel
theorem dX1_isReady_18 : decode cX1_isReady 18 = .ok (.aload_n 0, 1) := by decide +kernel
theorem dX1_isReady_19 : decode cX1_isReady 19 = .ok (.getfield 13, 3) := by decide +kernel
theorem dX1_isReady_22 : decode cX1_isReady 22 = .ok (.iload_n 3, 1) := by decide +kernel
theorem dX1_isReady_23 : decode cX1_isReady 23 = .ok (.iaload, 1) := by decide +kernel
theorem dX1_isReady_24 : decode cX1_isReady 24 = .ok (.iload_n 1, 1) := by decide +kernel
theorem dX1_isReady_25 : decode cX1_isReady 25 = .ok (.ishr, 1) := by decide +kernel
theorem dX1_isReady_26 : decode cX1_isReady 26 = .ok (.iconst 1, 1) := by decide +kernel
theorem dX1_isReady_27 : decode cX1_isReady 27 = .ok (.iand, 1) := by decide +kernel
theorem dX1_isReady_28 : decode cX1_isReady 28 = .ok (.ifCond .eq 5, 3) := by decide +kernel
theorem dX1_isReady_31 : decode cX1_isReady 31 = .ok (.iconst 0, 1) := by decide +kernel
theorem dX1_isReady_32 : decode cX1_isReady 32 = .ok (.ireturn, 1) := by decide +kernel
theorem dX1_isReady_33 : decode cX1_isReady 33 = .ok (.iinc 3 1, 3) := by decide +kernel
theorem dX1_isReady_36 : decode cX1_isReady 36 = .ok (.goto (-34), 3) := by decide +kernel
theorem dX1_isReady_39 : decode cX1_isReady 39 = .ok (.iconst 1, 1) := by decide +kernel
theorem dX1_isReady_40 : decode cX1_isReady 40 = .ok (.ireturn, 1) := by decide +kernel
theorem dX1_without_0 : decode cX1_without 0 = .ok (.aload_n 0, 1) := by decide +kernel
theorem dX1_without_1 : decode cX1_without 1 = .ok (.iload_n 1, 1) := by decide +kernel
theorem dX1_without_2 : decode cX1_without 2 = .ok (.invokevirtual 30, 3) := by decide +kernel
theorem dX1_without_5 : decode cX1_without 5 = .ok (.ifCond .ne 5, 3) := by decide +kernel
theorem dX1_without_8 : decode cX1_without 8 = .ok (.iconst (-1), 1) := by decide +kernel
theorem dX1_without_9 : decode cX1_without 9 = .ok (.ireturn, 1) := by decide +kernel
theorem dX1_without_10 : decode cX1_without 10 = .ok (.aload_n 0, 1) := by decide +kernel
theorem dX1_without_11 : decode cX1_without 11 = .ok (.getfield 7, 3) := by decide +kernel
theorem dX1_without_14 : decode cX1_without 14 = .ok (.iload_n 1, 1) := by decide +kernel
theorem dX1_without_15 : decode cX1_without 15 = .ok (.iaload, 1) := by decide +kernel
theorem dX1_without_16 : decode cX1_without 16 = .ok (.istore_n 2, 1) := by decide +kernel
theorem dX1_without_17 : decode cX1_without 17 = .ok (.aload_n 0, 1) := by decide +kernel
theorem dX1_without_18 : decode cX1_without 18 = .ok (.iconst 1, 1) := by decide +kernel
theorem dX1_without_19 : decode cX1_without 19 = .ok (.aload_n 0, 1) := by decide +kernel
theorem dX1_without_20 : decode cX1_without 20 = .ok (.getfield 23, 3) := by decide +kernel
theorem dX1_without_23 : decode cX1_without 23 = .ok (.ishl, 1) := by decide +kernel
theorem dX1_without_24 : decode cX1_without 24 = .ok (.iconst 1, 1) := by decide +kernel
theorem dX1_without_25 : decode cX1_without 25 = .ok (.isub, 1) := by decide +kernel
theorem dX1_without_26 : decode cX1_without 26 = .ok (.iconst 1, 1) := by decide +kernel
theorem dX1_without_27 : decode cX1_without 27 = .ok (.iload_n 1, 1) := by decide +kernel
theorem dX1_without_28 : decode cX1_without 28 = .ok (.ishl, 1) := by decide +kernel
theorem dX1_without_29 : decode cX1_without 29 = .ok (.iconst (-1), 1) := by decide +kernel
theorem dX1_without_30 : decode cX1_without 30 = .ok (.ixor, 1) := by decide +kernel
theorem dX1_without_31 : decode cX1_without 31 = .ok (.iand, 1) := by decide +kernel
theorem dX1_without_32 : decode cX1_without 32 = .ok (.putfield 45, 3) := by decide +kernel
theorem dX1_without_35 : decode cX1_without 35 = .ok (.aload_n 0, 1) := by decide +kernel
theorem dX1_without_36 : decode cX1_without 36 = .ok (.getfield 7, 3) := by decide +kernel
theorem dX1_without_39 : decode cX1_without 39 = .ok (.iload_n 1, 1) := by decide +kernel
theorem dX1_without_40 : decode cX1_without 40 = .ok (.iconst 0, 1) := by decide +kernel
theorem dX1_without_41 : decode cX1_without 41 = .ok (.iastore, 1) := by decide +kernel
theorem dX1_without_42 : decode cX1_without 42 = .ok (.aload_n 0, 1) := by decide +kernel
theorem dX1_without_43 : decode cX1_without 43 = .ok (.invokevirtual 27, 3) := by decide +kernel
theorem dX1_without_46 : decode cX1_without 46 = .ok (.aload_n 0, 1) := by decide +kernel
theorem dX1_without_47 : decode cX1_without 47 = .ok (.invokevirtual 48, 3) := by decide +kernel
theorem dX1_without_50 : decode cX1_without 50 = .ok (.aload_n 0, 1) := by decide +kernel
theorem dX1_without_51 : decode cX1_without 51 = .ok (.iconst 2, 1) := by decide +kernel
theorem dX1_without_52 : decode cX1_without 52 = .ok (.invokevirtual 58, 3) := by decide +kernel
theorem dX1_without_55 : decode cX1_without 55 = .ok (.istore_n 3, 1) := by decide +kernel
theorem dX1_without_56 : decode cX1_without 56 = .ok (.aload_n 0, 1) := by decide +kernel
theorem dX1_without_57 : decode cX1_without 57 = .ok (.getfield 7, 3) := by decide +kernel
theorem dX1_without_60 : decode cX1_without 60 = .ok (.iload_n 1, 1) := by decide +kernel
theorem dX1_without_61 : decode cX1_without 61 = .ok (.iload_n 2, 1) := by decide +kernel
theorem dX1_without_62 : decode cX1_without 62 = .ok (.iastore, 1) := by decide +kernel
theorem dX1_without_63 : decode cX1_without 63 = .ok (.aload_n 0, 1) := by decide +kernel
theorem dX1_without_64 : decode cX1_without 64 = .ok (.invokevirtual 27, 3) := by decide +kernel
theorem dX1_without_67 : decode cX1_without 67 = .ok (.iload_n 3, 1) := by decide +kernel
theorem dX1_without_68 : decode cX1_without 68 = .ok (.ireturn, 1) := by decide +kernel
theorem dX2_init_0 : decode cX2_init 0 = .ok (.aload_n 0, 1) := by decide +kernel
theorem dX2_init_1 : decode cX2_init 1 = .ok (.invokespecial 1, 3) := by decide +kernel
theorem dX2_init_4 : decode cX2_init 4 = .ok (.aload_n 0, 1) := by decide +kernel
theorem dX2_init_5 : decode cX2_init 5 = .ok (.bipush 9, 2) := by decide +kernel
theorem dX2_init_7 : decode cX2_init 7 = .ok (.newarray .int, 2) := by decide +kernel
theorem dX2_init_9 : decode cX2_init 9 = .ok (.putfield 7, 3) := by decide +kernel
theorem dX2_init_12 : decode cX2_init 12 = .ok (.aload_n 0, 1) := by decide +kernel
theorem dX2_init_13 : decode cX2_init 13 = .ok (.bipush 9, 2) := by decide +kernel
theorem dX2_init_15 : decode cX2_init 15 = .ok (.newarray .int, 2) := by decide +kernel
theorem dX2_init_17 : decode cX2_init 17 = .ok (.putfield 13, 3) := by decide +kernel
theorem dX2_init_20 : decode cX2_init 20 = .ok (.aload_n 0, 1) := by decide +kernel
theorem dX2_init_21 : decode cX2_init 21 = .ok (.sipush 512, 3) := by decide +kernel
theorem dX2_init_24 : decode cX2_init 24 = .ok (.newarray .int, 2) := by decide +kernel
theorem dX2_init_26 : decode cX2_init 26 = .ok (.putfield 16, 3) := by decide +kernel
theorem dX2_init_29 : decode cX2_init 29 = .ok (.aload_n 0, 1) := by decide +kernel
theorem dX2_init_30 : decode cX2_init 30 = .ok (.iload_n 1, 1) := by decide +kernel
theorem dX2_init_31 : decode cX2_init 31 = .ok (.ifCond .ge 7, 3) := by decide +kernel
theorem dX2_init_34 : decode cX2_init 34 = .ok (.iconst 0, 1) := by decide +kernel
theorem dX2_init_35 : decode cX2_init 35 = .ok (.goto 15, 3) := by decide +kernel
theorem dX2_init_38 : decode cX2_init 38 = .ok (.iload_n 1, 1) := by decide +kernel
theorem dX2_init_39 : decode cX2_init 39 = .ok (.bipush 9, 2) := by decide +kernel
theorem dX2_init_41 : decode cX2_init 41 = .ok (.if_icmp .le 8, 3) := by decide +kernel
theorem dX2_init_44 : decode cX2_init 44 = .ok (.bipush 9, 2) := by decide +kernel
theorem dX2_init_46 : decode cX2_init 46 = .ok (.goto 4, 3) := by decide +kernel
theorem dX2_init_49 : decode cX2_init 49 = .ok (.iload_n 1, 1) := by decide +kernel
theorem dX2_init_50 : decode cX2_init 50 = .ok (.putfield 19, 3) := by decide +kernel
theorem dX2_init_53 : decode cX2_init 53 = .ok (.return_, 1) := by decide +kernel
theorem dX2_addTask_0 : decode cX2_addTask 0 = .ok (.aload_n 0, 1) := by decide +kernel
theorem dX2_addTask_1 : decode cX2_addTask 1 = .ok (.getfield 19, 3) := by decide +kernel
theorem dX2_addTask_4 : decode cX2_addTask 4 = .ok (.bipush 9, 2) := by decide +kernel
theorem dX2_addTask_6 : decode cX2_addTask 6 = .ok (.if_icmp .ne 6, 3) := by decide +kernel
theorem dX2_addTask_9 : decode cX2_addTask 9 = .ok (.bipush (-3), 2) := by decide +kernel
theorem dX2_addTask_11 : decode cX2_addTask 11 = .ok (.ireturn, 1) := by decide +kernel
theorem dX2_addTask_12 : decode cX2_addTask 12 = .ok (.aload_n 0, 1) := by decide +kernel
theorem dX2_addTask_13 : decode cX2_addTask 13 = .ok (.getfield 7, 3) := by decide +kernel
theorem dX2_addTask_16 : decode cX2_addTask 16 = .ok (.aload_n 0, 1) := by decide +kernel
theorem dX2_addTask_17 : decode cX2_addTask 17 = .ok (.getfield 19, 3) := by decide +kernel
theorem dX2_addTask_20 : decode cX2_addTask 20 = .ok (.iconst 0, 1) := by decide +kernel
theorem dX2_addTask_21 : decode cX2_addTask 21 = .ok (.iastore, 1) := by decide +kernel
theorem dX2_addTask_22 : decode cX2_addTask 22 = .ok (.aload_n 0, 1) := by decide +kernel
theorem dX2_addTask_23 : decode cX2_addTask 23 = .ok (.dup, 1) := by decide +kernel
theorem dX2_addTask_24 : decode cX2_addTask 24 = .ok (.getfield 19, 3) := by decide +kernel
theorem dX2_addTask_27 : decode cX2_addTask 27 = .ok (.iconst 1, 1) := by decide +kernel
theorem dX2_addTask_28 : decode cX2_addTask 28 = .ok (.iadd, 1) := by decide +kernel
theorem dX2_addTask_29 : decode cX2_addTask 29 = .ok (.putfield 19, 3) := by decide +kernel
theorem dX2_addTask_32 : decode cX2_addTask 32 = .ok (.aload_n 0, 1) := by decide +kernel
theorem dX2_addTask_33 : decode cX2_addTask 33 = .ok (.getfield 19, 3) := by decide +kernel
theorem dX2_addTask_36 : decode cX2_addTask 36 = .ok (.iconst 1, 1) := by decide +kernel
theorem dX2_addTask_37 : decode cX2_addTask 37 = .ok (.isub, 1) := by decide +kernel
theorem dX2_addTask_38 : decode cX2_addTask 38 = .ok (.ireturn, 1) := by decide +kernel
theorem dX2_removeTask_0 : decode cX2_removeTask 0 = .ok (.aload_n 0, 1) := by decide +kernel
theorem dX2_removeTask_1 : decode cX2_removeTask 1 = .ok (.iload_n 1, 1) := by decide +kernel
theorem dX2_removeTask_2 : decode cX2_removeTask 2 = .ok (.invokevirtual 23, 3) := by decide +kernel
theorem dX2_removeTask_5 : decode cX2_removeTask 5 = .ok (.ifCond .ne 5, 3) := by decide +kernel
theorem dX2_removeTask_8 : decode cX2_removeTask 8 = .ok (.iconst (-1), 1) := by decide +kernel
theorem dX2_removeTask_9 : decode cX2_removeTask 9 = .ok (.ireturn, 1) := by decide +kernel
theorem dX2_removeTask_10 : decode cX2_removeTask 10 = .ok (.iload_n 1, 1) := by decide +kernel
theorem dX2_removeTask_11 : decode cX2_removeTask 11 = .ok (.istore_n 2, 1) := by decide +kernel
theorem dX2_removeTask_12 : decode cX2_removeTask 12 = .ok (.iload_n 2, 1) := by decide +kernel
theorem dX2_removeTask_13 : decode cX2_removeTask 13 = .ok (.aload_n 0, 1) := by decide +kernel
theorem dX2_removeTask_14 : decode cX2_removeTask 14 = .ok (.getfield 19, 3) := by decide +kernel
theorem dX2_removeTask_17 : decode cX2_removeTask 17 = .ok (.iconst 1, 1) := by decide +kernel
theorem dX2_removeTask_18 : decode cX2_removeTask 18 = .ok (.isub, 1) := by decide +kernel
theorem dX2_removeTask_19 : decode cX2_removeTask 19 = .ok (.if_icmp .ge 23, 3) := by decide +kernel
theorem dX2_removeTask_22 : decode cX2_removeTask 22 = .ok (.aload_n 0, 1) := by decide +kernel
theorem dX2_removeTask_23 : decode cX2_removeTask 23 = .ok (.getfield 7, 3) := by decide +kernel
theorem dX2_removeTask_26 : decode cX2_removeTask 26 = .ok (.iload_n 2, 1) := by decide +kernel
theorem dX2_removeTask_27 : decode cX2_removeTask 27 = .ok (.aload_n 0, 1) := by decide +kernel
theorem dX2_removeTask_28 : decode cX2_removeTask 28 = .ok (.getfield 7, 3) := by decide +kernel
theorem dX2_removeTask_31 : decode cX2_removeTask 31 = .ok (.iload_n 2, 1) := by decide +kernel
theorem dX2_removeTask_32 : decode cX2_removeTask 32 = .ok (.iconst 1, 1) := by decide +kernel
theorem dX2_removeTask_33 : decode cX2_removeTask 33 = .ok (.iadd, 1) := by decide +kernel
theorem dX2_removeTask_34 : decode cX2_removeTask 34 = .ok (.iaload, 1) := by decide +kernel
theorem dX2_removeTask_35 : decode cX2_removeTask 35 = .ok (.iastore, 1) := by decide +kernel
theorem dX2_removeTask_36 : decode cX2_removeTask 36 = .ok (.iinc 2 1, 3) := by decide +kernel
theorem dX2_removeTask_39 : decode cX2_removeTask 39 = .ok (.goto (-27), 3) := by decide +kernel
theorem dX2_removeTask_42 : decode cX2_removeTask 42 = .ok (.aload_n 0, 1) := by decide +kernel
theorem dX2_removeTask_43 : decode cX2_removeTask 43 = .ok (.dup, 1) := by decide +kernel
theorem dX2_removeTask_44 : decode cX2_removeTask 44 = .ok (.getfield 19, 3) := by decide +kernel
theorem dX2_removeTask_47 : decode cX2_removeTask 47 = .ok (.iconst 1, 1) := by decide +kernel
theorem dX2_removeTask_48 : decode cX2_removeTask 48 = .ok (.isub, 1) := by decide +kernel
theorem dX2_removeTask_49 : decode cX2_removeTask 49 = .ok (.putfield 19, 3) := by decide +kernel
theorem dX2_removeTask_52 : decode cX2_removeTask 52 = .ok (.aload_n 0, 1) := by decide +kernel
theorem dX2_removeTask_53 : decode cX2_removeTask 53 = .ok (.getfield 7, 3) := by decide +kernel
theorem dX2_removeTask_56 : decode cX2_removeTask 56 = .ok (.aload_n 0, 1) := by decide +kernel
theorem dX2_removeTask_57 : decode cX2_removeTask 57 = .ok (.getfield 19, 3) := by decide +kernel
theorem dX2_removeTask_60 : decode cX2_removeTask 60 = .ok (.iconst 0, 1) := by decide +kernel
theorem dX2_removeTask_61 : decode cX2_removeTask 61 = .ok (.iastore, 1) := by decide +kernel
theorem dX2_removeTask_62 : decode cX2_removeTask 62 = .ok (.iconst 0, 1) := by decide +kernel
theorem dX2_removeTask_63 : decode cX2_removeTask 63 = .ok (.istore_n 2, 1) := by decide +kernel
theorem dX2_removeTask_64 : decode cX2_removeTask 64 = .ok (.iload_n 2, 1) := by decide +kernel
theorem dX2_removeTask_65 : decode cX2_removeTask 65 = .ok (.aload_n 0, 1) := by decide +kernel
theorem dX2_removeTask_66 : decode cX2_removeTask 66 = .ok (.getfield 19, 3) := by decide +kernel
theorem dX2_removeTask_69 : decode cX2_removeTask 69 = .ok (.if_icmp .ge 26, 3) := by decide +kernel
theorem dX2_removeTask_72 : decode cX2_removeTask 72 = .ok (.aload_n 0, 1) := by decide +kernel
theorem dX2_removeTask_73 : decode cX2_removeTask 73 = .ok (.getfield 7, 3) := by decide +kernel
theorem dX2_removeTask_76 : decode cX2_removeTask 76 = .ok (.iload_n 2, 1) := by decide +kernel
theorem dX2_removeTask_77 : decode cX2_removeTask 77 = .ok (.aload_n 0, 1) := by decide +kernel
theorem dX2_removeTask_78 : decode cX2_removeTask 78 = .ok (.aload_n 0, 1) := by decide +kernel
theorem dX2_removeTask_79 : decode cX2_removeTask 79 = .ok (.getfield 7, 3) := by decide +kernel
theorem dX2_removeTask_82 : decode cX2_removeTask 82 = .ok (.iload_n 2, 1) := by decide +kernel
theorem dX2_removeTask_83 : decode cX2_removeTask 83 = .ok (.iaload, 1) := by decide +kernel
theorem dX2_removeTask_84 : decode cX2_removeTask 84 = .ok (.iload_n 1, 1) := by decide +kernel
theorem dX2_removeTask_85 : decode cX2_removeTask 85 = .ok (.invokevirtual 27, 3) := by decide +kernel
theorem dX2_removeTask_88 : decode cX2_removeTask 88 = .ok (.iastore, 1) := by decide +kernel
theorem dX2_removeTask_89 : decode cX2_removeTask 89 = .ok (.iinc 2 1, 3) := by decide +kernel
theorem dX2_removeTask_92 : decode cX2_removeTask 92 = .ok (.goto (-28), 3) := by decide +kernel
theorem dX2_removeTask_95 : decode cX2_removeTask 95 = .ok (.aload_n 0, 1) := by decide +kernel
theorem dX2_removeTask_96 : decode cX2_removeTask 96 = .ok (.getfield 19, 3) := by decide +kernel
theorem dX2_removeTask_99 : decode cX2_removeTask 99 = .ok (.ireturn, 1) := by decide +kernel
theorem dX2_isTask_0 : decode cX2_isTask 0 = .ok (.iload_n 1, 1) := by decide +kernel
theorem dX2_isTask_1 : decode cX2_isTask 1 = .ok (.ifCond .lt 15, 3) := by decide +kernel
theorem dX2_isTask_4 : decode cX2_isTask 4 = .ok (.iload_n 1, 1) := by decide +kernel
theorem dX2_isTask_5 : decode cX2_isTask 5 = .ok (.aload_n 0, 1) := by decide +kernel
theorem dX2_isTask_6 : decode cX2_isTask 6 = .ok (.getfield 19, 3) := by decide +kernel
theorem dX2_isTask_9 : decode cX2_isTask 9 = .ok (.if_icmp .ge 7, 3) := by decide +kernel
theorem dX2_isTask_12 : decode cX2_isTask 12 = .ok (.iconst 1, 1) := by decide +kernel
theorem dX2_isTask_13 : decode cX2_isTask 13 = .ok (.goto 4, 3) := by decide +kernel
theorem dX2_isTask_16 : decode cX2_isTask 16 = .ok (.iconst 0, 1) := by decide +kernel
theorem dX2_isTask_17 : decode cX2_isTask 17 = .ok (.ireturn, 1) := by decide +kernel
theorem dX2_cut_0 : decode cX2_cut 0 = .ok (.iload_n 1, 1) := by decide +kernel
theorem dX2_cut_1 : decode cX2_cut 1 = .ok (.iconst 1, 1) := by decide +kernel
theorem dX2_cut_2 : decode cX2_cut 2 = .ok (.iload_n 2, 1) := by decide +kernel
theorem dX2_cut_3 : decode cX2_cut 3 = .ok (.ishl, 1) := by decide +kernel
theorem dX2_cut_4 : decode cX2_cut 4 = .ok (.iconst 1, 1) := by decide +kernel
theorem dX2_cut_5 : decode cX2_cut 5 = .ok (.isub, 1) := by decide +kernel
theorem dX2_cut_6 : decode cX2_cut 6 = .ok (.iand, 1) := by decide +kernel
theorem dX2_cut_7 : decode cX2_cut 7 = .ok (.iload_n 1, 1) := by decide +kernel
theorem dX2_cut_8 : decode cX2_cut 8 = .ok (.iload_n 2, 1) := by decide +kernel
theorem dX2_cut_9 : decode cX2_cut 9 = .ok (.iconst 1, 1) := by decide +kernel
theorem dX2_cut_10 : decode cX2_cut 10 = .ok (.iadd, 1) := by decide +kernel
theorem dX2_cut_11 : decode cX2_cut 11 = .ok (.ishr, 1) := by decide +kernel
theorem dX2_cut_12 : decode cX2_cut 12 = .ok (.iload_n 2, 1) := by decide +kernel
theorem dX2_cut_13 : decode cX2_cut 13 = .ok (.ishl, 1) := by decide +kernel
theorem dX2_cut_14 : decode cX2_cut 14 = .ok (.ior, 1) := by decide +kernel
theorem dX2_cut_15 : decode cX2_cut 15 = .ok (.ireturn, 1) := by decide +kernel
theorem dX2_addOrder_0 : decode cX2_addOrder 0 = .ok (.aload_n 0, 1) := by decide +kernel
theorem dX2_addOrder_1 : decode cX2_addOrder 1 = .ok (.iload_n 1, 1) := by decide +kernel
theorem dX2_addOrder_2 : decode cX2_addOrder 2 = .ok (.invokevirtual 23, 3) := by decide +kernel
theorem dX2_addOrder_5 : decode cX2_addOrder 5 = .ok (.ifCond .eq 11, 3) := by decide +kernel
theorem dX2_addOrder_8 : decode cX2_addOrder 8 = .ok (.aload_n 0, 1) := by decide +kernel
theorem dX2_addOrder_9 : decode cX2_addOrder 9 = .ok (.iload_n 2, 1) := by decide +kernel
theorem dX2_addOrder_10 : decode cX2_addOrder 10 = .ok (.invokevirtual 23, 3) := by decide +kernel
theorem dX2_addOrder_13 : decode cX2_addOrder 13 = .ok (.ifCond .ne 5, 3) := by decide +kernel
theorem dX2_addOrder_16 : decode cX2_addOrder 16 = .ok (.iconst (-1), 1) := by decide +kernel
theorem dX2_addOrder_17 : decode cX2_addOrder 17 = .ok (.ireturn, 1) := by decide +kernel
theorem dX2_addOrder_18 : decode cX2_addOrder 18 = .ok (.aload_n 0, 1) := by decide +kernel
theorem dX2_addOrder_19 : decode cX2_addOrder 19 = .ok (.invokevirtual 35, 3) := by decide +kernel
theorem dX2_addOrder_22 : decode cX2_addOrder 22 = .ok (.iload_n 1, 1) := by decide +kernel
theorem dX2_addOrder_23 : decode cX2_addOrder 23 = .ok (.iload_n 2, 1) := by decide +kernel
theorem dX2_addOrder_24 : decode cX2_addOrder 24 = .ok (.if_icmp .eq 17, 3) := by decide +kernel
theorem dX2_addOrder_27 : decode cX2_addOrder 27 = .ok (.aload_n 0, 1) := by decide +kernel
theorem dX2_addOrder_28 : decode cX2_addOrder 28 = .ok (.aload_n 0, 1) := by decide +kernel
theorem dX2_addOrder_29 : decode cX2_addOrder 29 = .ok (.getfield 13, 3) := by decide +kernel
theorem dX2_addOrder_32 : decode cX2_addOrder 32 = .ok (.iload_n 2, 1) := by decide +kernel
theorem dX2_addOrder_33 : decode cX2_addOrder 33 = .ok (.iaload, 1) := by decide +kernel
theorem dX2_addOrder_34 : decode cX2_addOrder 34 = .ok (.iload_n 1, 1) := by decide +kernel
theorem dX2_addOrder_35 : decode cX2_addOrder 35 = .ok (.invokevirtual 31, 3) := by decide +kernel
theorem dX2_addOrder_38 : decode cX2_addOrder 38 = .ok (.ifCond .eq 6, 3) := by decide +kernel
theorem dX2_addOrder_41 : decode cX2_addOrder 41 = .ok (.bipush (-4), 2) := by decide +kernel
theorem dX2_addOrder_43 : decode cX2_addOrder 43 = .ok (.ireturn, 1) := by decide +kernel
theorem dX2_addOrder_44 : decode cX2_addOrder 44 = .ok (.aload_n 0, 1) := by decide +kernel
theorem dX2_addOrder_45 : decode cX2_addOrder 45 = .ok (.aload_n 0, 1) := by decide +kernel
theorem dX2_addOrder_46 : decode cX2_addOrder 46 = .ok (.getfield 7, 3) := by decide +kernel
theorem dX2_addOrder_49 : decode cX2_addOrder 49 = .ok (.iload_n 1, 1) := by decide +kernel
theorem dX2_addOrder_50 : decode cX2_addOrder 50 = .ok (.iaload, 1) := by decide +kernel
theorem dX2_addOrder_51 : decode cX2_addOrder 51 = .ok (.iload_n 2, 1) := by decide +kernel
theorem dX2_addOrder_52 : decode cX2_addOrder 52 = .ok (.invokevirtual 31, 3) := by decide +kernel
theorem dX2_addOrder_55 : decode cX2_addOrder 55 = .ok (.ifCond .eq 5, 3) := by decide +kernel
theorem dX2_addOrder_58 : decode cX2_addOrder 58 = .ok (.iconst 0, 1) := by decide +kernel
theorem dX2_addOrder_59 : decode cX2_addOrder 59 = .ok (.ireturn, 1) := by decide +kernel
theorem dX2_addOrder_60 : decode cX2_addOrder 60 = .ok (.aload_n 0, 1) := by decide +kernel
theorem dX2_addOrder_61 : decode cX2_addOrder 61 = .ok (.getfield 7, 3) := by decide +kernel
theorem dX2_addOrder_64 : decode cX2_addOrder 64 = .ok (.iload_n 1, 1) := by decide +kernel
theorem dX2_addOrder_65 : decode cX2_addOrder 65 = .ok (.aload_n 0, 1) := by decide +kernel
theorem dX2_addOrder_66 : decode cX2_addOrder 66 = .ok (.getfield 7, 3) := by decide +kernel
theorem dX2_addOrder_69 : decode cX2_addOrder 69 = .ok (.iload_n 1, 1) := by decide +kernel
theorem dX2_addOrder_70 : decode cX2_addOrder 70 = .ok (.iaload, 1) := by decide +kernel
theorem dX2_addOrder_71 : decode cX2_addOrder 71 = .ok (.iconst 1, 1) := by decide +kernel
theorem dX2_addOrder_72 : decode cX2_addOrder 72 = .ok (.iload_n 2, 1) := by decide +kernel
theorem dX2_addOrder_73 : decode cX2_addOrder 73 = .ok (.ishl, 1) := by decide +kernel
theorem dX2_addOrder_74 : decode cX2_addOrder 74 = .ok (.ior, 1) := by decide +kernel
end
section
set_option maxRecDepth 100000
theorem dX2_addOrder_75 : decode cX2_addOrder 75 = .ok (.iastore, 1) := by decide +kernel
theorem dX2_addOrder_76 : decode cX2_addOrder 76 = .ok (.iconst 1, 1) := by decide +kernel
theorem dX2_addOrder_77 : decode cX2_addOrder 77 = .ok (.ireturn, 1) := by decide +kernel
theorem dX2_findLater_0 : decode cX2_findLater 0 = .ok (.iconst 0, 1) := by decide +kernel
theorem dX2_findLater_1 : decode cX2_findLater 1 = .ok (.istore_n 1, 1) := by decide +kernel
theorem dX2_findLater_2 : decode cX2_findLater 2 = .ok (.iload_n 1, 1) := by decide +kernel
theorem dX2_findLater_3 : decode cX2_findLater 3 = .ok (.aload_n 0, 1) := by decide +kernel
theorem dX2_findLater_4 : decode cX2_findLater 4 = .ok (.getfield 19, 3) := by decide +kernel
theorem dX2_findLater_7 : decode cX2_findLater 7 = .ok (.if_icmp .ge 21, 3) := by decide +kernel
theorem dX2_findLater_10 : decode cX2_findLater 10 = .ok (.aload_n 0, 1) := by decide +kernel
theorem dX2_findLater_11 : decode cX2_findLater 11 = .ok (.getfield 13, 3) := by decide +kernel
theorem dX2_findLater_14 : decode cX2_findLater 14 = .ok (.iload_n 1, 1) := by decide +kernel
theorem dX2_findLater_15 : decode cX2_findLater 15 = .ok (.aload_n 0, 1) := by decide +kernel
theorem dX2_findLater_16 : decode cX2_findLater 16 = .ok (.getfield 7, 3) := by decide +kernel
theorem dX2_findLater_19 : decode cX2_findLater 19 = .ok (.iload_n 1, 1) := by decide +kernel
theorem dX2_findLater_20 : decode cX2_findLater 20 = .ok (.iaload, 1) := by decide +kernel
theorem dX2_findLater_21 : decode cX2_findLater 21 = .ok (.iastore, 1) := by decide +kernel
theorem dX2_findLater_22 : decode cX2_findLater 22 = .ok (.iinc 1 1, 3) := by decide +kernel
theorem dX2_findLater_25 : decode cX2_findLater 25 = .ok (.goto (-23), 3) := by decide +kernel
theorem dX2_findLater_28 : decode cX2_findLater 28 = .ok (.iconst 0, 1) := by decide +kernel
theorem dX2_findLater_29 : decode cX2_findLater 29 = .ok (.istore_n 1, 1) := by decide +kernel
theorem dX2_findLater_30 : decode cX2_findLater 30 = .ok (.iload_n 1, 1) := by decide +kernel
theorem dX2_findLater_31 : decode cX2_findLater 31 = .ok (.bipush 9, 2) := by decide +kernel
theorem dX2_findLater_33 : decode cX2_findLater 33 = .ok (.if_icmp .ge 88, 3) := by decide +kernel
theorem dX2_findLater_36 : decode cX2_findLater 36 = .ok (.iconst 0, 1) := by decide +kernel
theorem dX2_findLater_37 : decode cX2_findLater 37 = .ok (.istore_n 2, 1) := by decide +kernel
theorem dX2_findLater_38 : decode cX2_findLater 38 = .ok (.iload_n 2, 1) := by decide +kernel
theorem dX2_findLater_39 : decode cX2_findLater 39 = .ok (.aload_n 0, 1) := by decide +kernel
theorem dX2_findLater_40 : decode cX2_findLater 40 = .ok (.getfield 19, 3) := by decide +kernel
theorem dX2_findLater_43 : decode cX2_findLater 43 = .ok (.aload_n 0, 1) := by decide +kernel
theorem dX2_findLater_44 : decode cX2_findLater 44 = .ok (.getfield 19, 3) := by decide +kernel
theorem dX2_findLater_47 : decode cX2_findLater 47 = .ok (.imul, 1) := by decide +kernel
theorem dX2_findLater_48 : decode cX2_findLater 48 = .ok (.if_icmp .ge 67, 3) := by decide +kernel
theorem dX2_findLater_51 : decode cX2_findLater 51 = .ok (.aload_n 0, 1) := by decide +kernel
theorem dX2_findLater_52 : decode cX2_findLater 52 = .ok (.aload_n 0, 1) := by decide +kernel
theorem dX2_findLater_53 : decode cX2_findLater 53 = .ok (.getfield 13, 3) := by decide +kernel
theorem dX2_findLater_56 : decode cX2_findLater 56 = .ok (.iload_n 2, 1) := by decide +kernel
theorem dX2_findLater_57 : decode cX2_findLater 57 = .ok (.aload_n 0, 1) := by decide +kernel
theorem dX2_findLater_58 : decode cX2_findLater 58 = .ok (.getfield 19, 3) := by decide +kernel
theorem dX2_findLater_61 : decode cX2_findLater 61 = .ok (.idiv, 1) := by decide +kernel
theorem dX2_findLater_62 : decode cX2_findLater 62 = .ok (.iaload, 1) := by decide +kernel
theorem dX2_findLater_63 : decode cX2_findLater 63 = .ok (.iload_n 2, 1) := by decide +kernel
theorem dX2_findLater_64 : decode cX2_findLater 64 = .ok (.aload_n 0, 1) := by decide +kernel
theorem dX2_findLater_65 : decode cX2_findLater 65 = .ok (.getfield 19, 3) := by decide +kernel
theorem dX2_findLater_68 : decode cX2_findLater 68 = .ok (.irem, 1) := by decide +kernel
theorem dX2_findLater_69 : decode cX2_findLater 69 = .ok (.invokevirtual 31, 3) := by decide +kernel
theorem dX2_findLater_72 : decode cX2_findLater 72 = .ok (.ifCond .eq 37, 3) := by decide +kernel
theorem dX2_findLater_75 : decode cX2_findLater 75 = .ok (.aload_n 0, 1) := by decide +kernel
theorem dX2_findLater_76 : decode cX2_findLater 76 = .ok (.getfield 13, 3) := by decide +kernel
theorem dX2_findLater_79 : decode cX2_findLater 79 = .ok (.iload_n 2, 1) := by decide +kernel
theorem dX2_findLater_80 : decode cX2_findLater 80 = .ok (.aload_n 0, 1) := by decide +kernel
theorem dX2_findLater_81 : decode cX2_findLater 81 = .ok (.getfield 19, 3) := by decide +kernel
theorem dX2_findLater_84 : decode cX2_findLater 84 = .ok (.idiv, 1) := by decide +kernel
theorem dX2_findLater_85 : decode cX2_findLater 85 = .ok (.aload_n 0, 1) := by decide +kernel
theorem dX2_findLater_86 : decode cX2_findLater 86 = .ok (.getfield 13, 3) := by decide +kernel
theorem dX2_findLater_89 : decode cX2_findLater 89 = .ok (.iload_n 2, 1) := by decide +kernel
theorem dX2_findLater_90 : decode cX2_findLater 90 = .ok (.aload_n 0, 1) := by decide +kernel
theorem dX2_findLater_91 : decode cX2_findLater 91 = .ok (.getfield 19, 3) := by decide +kernel
theorem dX2_findLater_94 : decode cX2_findLater 94 = .ok (.idiv, 1) := by decide +kernel
theorem dX2_findLater_95 : decode cX2_findLater 95 = .ok (.iaload, 1) := by decide +kernel
theorem dX2_findLater_96 : decode cX2_findLater 96 = .ok (.aload_n 0, 1) := by decide +kernel
theorem dX2_findLater_97 : decode cX2_findLater 97 = .ok (.getfield 7, 3) := by decide +kernel
theorem dX2_findLater_100 : decode cX2_findLater 100 = .ok (.iload_n 2, 1) := by decide +kernel
theorem dX2_findLater_101 : decode cX2_findLater 101 = .ok (.aload_n 0, 1) := by decide +kernel
theorem dX2_findLater_102 : decode cX2_findLater 102 = .ok (.getfield 19, 3) := by decide +kernel
theorem dX2_findLater_105 : decode cX2_findLater 105 = .ok (.irem, 1) := by decide +kernel
theorem dX2_findLater_106 : decode cX2_findLater 106 = .ok (.iaload, 1) := by decide +kernel
theorem dX2_findLater_107 : decode cX2_findLater 107 = .ok (.ior, 1) := by decide +kernel
theorem dX2_findLater_108 : decode cX2_findLater 108 = .ok (.iastore, 1) := by decide +kernel
theorem dX2_findLater_109 : decode cX2_findLater 109 = .ok (.iinc 2 1, 3) := by decide +kernel
theorem dX2_findLater_112 : decode cX2_findLater 112 = .ok (.goto (-74), 3) := by decide +kernel
theorem dX2_findLater_115 : decode cX2_findLater 115 = .ok (.iinc 1 1, 3) := by decide +kernel
theorem dX2_findLater_118 : decode cX2_findLater 118 = .ok (.goto (-88), 3) := by decide +kernel
theorem dX2_findLater_121 : decode cX2_findLater 121 = .ok (.return_, 1) := by decide +kernel
theorem dX2_in_0 : decode cX2_in 0 = .ok (.iload_n 1, 1) := by decide +kernel
theorem dX2_in_1 : decode cX2_in 1 = .ok (.iload_n 2, 1) := by decide +kernel
theorem dX2_in_2 : decode cX2_in 2 = .ok (.ishr, 1) := by decide +kernel
theorem dX2_in_3 : decode cX2_in 3 = .ok (.iconst 1, 1) := by decide +kernel
theorem dX2_in_4 : decode cX2_in 4 = .ok (.iand, 1) := by decide +kernel
theorem dX2_in_5 : decode cX2_in 5 = .ok (.iconst 1, 1) := by decide +kernel
theorem dX2_in_6 : decode cX2_in 6 = .ok (.if_icmp .ne 7, 3) := by decide +kernel
theorem dX2_in_9 : decode cX2_in 9 = .ok (.iconst 1, 1) := by decide +kernel
theorem dX2_in_10 : decode cX2_in 10 = .ok (.goto 4, 3) := by decide +kernel
theorem dX2_in_13 : decode cX2_in 13 = .ok (.iconst 0, 1) := by decide +kernel
theorem dX2_in_14 : decode cX2_in 14 = .ok (.ireturn, 1) := by decide +kernel
theorem dX2_removeOrder_0 : decode cX2_removeOrder 0 = .ok (.aload_n 0, 1) := by decide +kernel
theorem dX2_removeOrder_1 : decode cX2_removeOrder 1 = .ok (.iload_n 1, 1) := by decide +kernel
theorem dX2_removeOrder_2 : decode cX2_removeOrder 2 = .ok (.invokevirtual 23, 3) := by decide +kernel
theorem dX2_removeOrder_5 : decode cX2_removeOrder 5 = .ok (.ifCond .eq 11, 3) := by decide +kernel
theorem dX2_removeOrder_8 : decode cX2_removeOrder 8 = .ok (.aload_n 0, 1) := by decide +kernel
theorem dX2_removeOrder_9 : decode cX2_removeOrder 9 = .ok (.iload_n 2, 1) := by decide +kernel
theorem dX2_removeOrder_10 : decode cX2_removeOrder 10 = .ok (.invokevirtual 23, 3) := by decide +kernel
theorem dX2_removeOrder_13 : decode cX2_removeOrder 13 = .ok (.ifCond .ne 5, 3) := by decide +kernel
theorem dX2_removeOrder_16 : decode cX2_removeOrder 16 = .ok (.iconst (-1), 1) := by decide +kernel
theorem dX2_removeOrder_17 : decode cX2_removeOrder 17 = .ok (.ireturn, 1) := by decide +kernel
theorem dX2_removeOrder_18 : decode cX2_removeOrder 18 = .ok (.aload_n 0, 1) := by decide +kernel
theorem dX2_removeOrder_19 : decode cX2_removeOrder 19 = .ok (.aload_n 0, 1) := by decide +kernel
theorem dX2_removeOrder_20 : decode cX2_removeOrder 20 = .ok (.getfield 7, 3) := by decide +kernel
theorem dX2_removeOrder_23 : decode cX2_removeOrder 23 = .ok (.iload_n 1, 1) := by decide +kernel
theorem dX2_removeOrder_24 : decode cX2_removeOrder 24 = .ok (.iaload, 1) := by decide +kernel
theorem dX2_removeOrder_25 : decode cX2_removeOrder 25 = .ok (.iload_n 2, 1) := by decide +kernel
theorem dX2_removeOrder_26 : decode cX2_removeOrder 26 = .ok (.invokevirtual 31, 3) := by decide +kernel
theorem dX2_removeOrder_29 : decode cX2_removeOrder 29 = .ok (.ifCond .ne 5, 3) := by decide +kernel
theorem dX2_removeOrder_32 : decode cX2_removeOrder 32 = .ok (.iconst 0, 1) := by decide +kernel
theorem dX2_removeOrder_33 : decode cX2_removeOrder 33 = .ok (.ireturn, 1) := by decide +kernel
theorem dX2_removeOrder_34 : decode cX2_removeOrder 34 = .ok (.aload_n 0, 1) := by decide +kernel
theorem dX2_removeOrder_35 : decode cX2_removeOrder 35 = .ok (.getfield 7, 3) := by decide +kernel
theorem dX2_removeOrder_38 : decode cX2_removeOrder 38 = .ok (.iload_n 1, 1) := by decide +kernel
theorem dX2_removeOrder_39 : decode cX2_removeOrder 39 = .ok (.aload_n 0, 1) := by decide +kernel
theorem dX2_removeOrder_40 : decode cX2_removeOrder 40 = .ok (.getfield 7, 3) := by decide +kernel
theorem dX2_removeOrder_43 : decode cX2_removeOrder 43 = .ok (.iload_n 1, 1) := by decide +kernel
theorem dX2_removeOrder_44 : decode cX2_removeOrder 44 = .ok (.iaload, 1) := by decide +kernel
theorem dX2_removeOrder_45 : decode cX2_removeOrder 45 = .ok (.iconst 1, 1) := by decide +kernel
theorem dX2_removeOrder_46 : decode cX2_removeOrder 46 = .ok (.iload_n 2, 1) := by decide +kernel
theorem dX2_removeOrder_47 : decode cX2_removeOrder 47 = .ok (.ishl, 1) := by decide +kernel
theorem dX2_removeOrder_48 : decode cX2_removeOrder 48 = .ok (.iconst (-1), 1) := by decide +kernel
theorem dX2_removeOrder_49 : decode cX2_removeOrder 49 = .ok (.ixor, 1) := by decide +kernel
theorem dX2_removeOrder_50 : decode cX2_removeOrder 50 = .ok (.iand, 1) := by decide +kernel
theorem dX2_removeOrder_51 : decode cX2_removeOrder 51 = .ok (.iastore, 1) := by decide +kernel
theorem dX2_removeOrder_52 : decode cX2_removeOrder 52 = .ok (.iconst 1, 1) := by decide +kernel
theorem dX2_removeOrder_53 : decode cX2_removeOrder 53 = .ok (.ireturn, 1) := by decide +kernel
theorem dX2_tasks_0 : decode cX2_tasks 0 = .ok (.aload_n 0, 1) := by decide +kernel
theorem dX2_tasks_1 : decode cX2_tasks 1 = .ok (.getfield 19, 3) := by decide +kernel
theorem dX2_tasks_4 : decode cX2_tasks 4 = .ok (.ireturn, 1) := by decide +kernel
theorem dX2_after_0 : decode cX2_after 0 = .ok (.aload_n 0, 1) := by decide +kernel
theorem dX2_after_1 : decode cX2_after 1 = .ok (.iload_n 1, 1) := by decide +kernel
theorem dX2_after_2 : decode cX2_after 2 = .ok (.invokevirtual 23, 3) := by decide +kernel
theorem dX2_after_5 : decode cX2_after 5 = .ok (.ifCond .eq 11, 3) := by decide +kernel
theorem dX2_after_8 : decode cX2_after 8 = .ok (.aload_n 0, 1) := by decide +kernel
theorem dX2_after_9 : decode cX2_after 9 = .ok (.iload_n 2, 1) := by decide +kernel
theorem dX2_after_10 : decode cX2_after 10 = .ok (.invokevirtual 23, 3) := by decide +kernel
theorem dX2_after_13 : decode cX2_after 13 = .ok (.ifCond .ne 5, 3) := by decide +kernel
theorem dX2_after_16 : decode cX2_after 16 = .ok (.iconst 0, 1) := by decide +kernel
theorem dX2_after_17 : decode cX2_after 17 = .ok (.ireturn, 1) := by decide +kernel
theorem dX2_after_18 : decode cX2_after 18 = .ok (.aload_n 0, 1) := by decide +kernel
theorem dX2_after_19 : decode cX2_after 19 = .ok (.invokevirtual 35, 3) := by decide +kernel
theorem dX2_after_22 : decode cX2_after 22 = .ok (.aload_n 0, 1) := by decide +kernel
theorem dX2_after_23 : decode cX2_after 23 = .ok (.aload_n 0, 1) := by decide +kernel
theorem dX2_after_24 : decode cX2_after 24 = .ok (.getfield 13, 3) := by decide +kernel
theorem dX2_after_27 : decode cX2_after 27 = .ok (.iload_n 1, 1) := by decide +kernel
theorem dX2_after_28 : decode cX2_after 28 = .ok (.iaload, 1) := by decide +kernel
theorem dX2_after_29 : decode cX2_after 29 = .ok (.iload_n 2, 1) := by decide +kernel
theorem dX2_after_30 : decode cX2_after 30 = .ok (.invokevirtual 31, 3) := by decide +kernel
theorem dX2_after_33 : decode cX2_after 33 = .ok (.ireturn, 1) := by decide +kernel
theorem dX2_height_0 : decode cX2_height 0 = .ok (.aload_n 0, 1) := by decide +kernel
theorem dX2_height_1 : decode cX2_height 1 = .ok (.iload_n 1, 1) := by decide +kernel
theorem dX2_height_2 : decode cX2_height 2 = .ok (.invokevirtual 23, 3) := by decide +kernel
theorem dX2_height_5 : decode cX2_height 5 = .ok (.ifCond .ne 5, 3) := by decide +kernel
theorem dX2_height_8 : decode cX2_height 8 = .ok (.iconst (-1), 1) := by decide +kernel
theorem dX2_height_9 : decode cX2_height 9 = .ok (.ireturn, 1) := by decide +kernel
theorem dX2_height_10 : decode cX2_height 10 = .ok (.iconst 1, 1) := by decide +kernel
theorem dX2_height_11 : decode cX2_height 11 = .ok (.iload_n 1, 1) := by decide +kernel
theorem dX2_height_12 : decode cX2_height 12 = .ok (.ishl, 1) := by decide +kernel
theorem dX2_height_13 : decode cX2_height 13 = .ok (.istore_n 2, 1) := by decide +kernel
theorem dX2_height_14 : decode cX2_height 14 = .ok (.iconst 1, 1) := by decide +kernel
theorem dX2_height_15 : decode cX2_height 15 = .ok (.istore_n 3, 1) := by decide +kernel
theorem dX2_height_16 : decode cX2_height 16 = .ok (.iload_n 3, 1) := by decide +kernel
theorem dX2_height_17 : decode cX2_height 17 = .ok (.bipush 9, 2) := by decide +kernel
theorem dX2_height_19 : decode cX2_height 19 = .ok (.if_icmp .gt 62, 3) := by decide +kernel
theorem dX2_height_22 : decode cX2_height 22 = .ok (.iconst 0, 1) := by decide +kernel
theorem dX2_height_23 : decode cX2_height 23 = .ok (.istore 4, 2) := by decide +kernel
theorem dX2_height_25 : decode cX2_height 25 = .ok (.iconst 0, 1) := by decide +kernel
theorem dX2_height_26 : decode cX2_height 26 = .ok (.istore 5, 2) := by decide +kernel
theorem dX2_height_28 : decode cX2_height 28 = .ok (.iload 5, 2) := by decide +kernel
theorem dX2_height_30 : decode cX2_height 30 = .ok (.aload_n 0, 1) := by decide +kernel
theorem dX2_height_31 : decode cX2_height 31 = .ok (.getfield 19, 3) := by decide +kernel
theorem dX2_height_34 : decode cX2_height 34 = .ok (.if_icmp .ge 31, 3) := by decide +kernel
theorem dX2_height_37 : decode cX2_height 37 = .ok (.aload_n 0, 1) := by decide +kernel
theorem dX2_height_38 : decode cX2_height 38 = .ok (.iload_n 2, 1) := by decide +kernel
theorem dX2_height_39 : decode cX2_height 39 = .ok (.iload 5, 2) := by decide +kernel
theorem dX2_height_41 : decode cX2_height 41 = .ok (.invokevirtual 31, 3) := by decide +kernel
theorem dX2_height_44 : decode cX2_height 44 = .ok (.ifCond .eq 15, 3) := by decide +kernel
theorem dX2_height_47 : decode cX2_height 47 = .ok (.iload 4, 2) := by decide +kernel
theorem dX2_height_49 : decode cX2_height 49 = .ok (.aload_n 0, 1) := by decide +kernel
theorem dX2_height_50 : decode cX2_height 50 = .ok (.getfield 7, 3) := by decide +kernel
theorem dX2_height_53 : decode cX2_height 53 = .ok (.iload 5, 2) := by decide +kernel
theorem dX2_height_55 : decode cX2_height 55 = .ok (.iaload, 1) := by decide +kernel
theorem dX2_height_56 : decode cX2_height 56 = .ok (.ior, 1) := by decide +kernel
theorem dX2_height_57 : decode cX2_height 57 = .ok (.istore 4, 2) := by decide +kernel
theorem dX2_height_59 : decode cX2_height 59 = .ok (.iinc 5 1, 3) := by decide +kernel
theorem dX2_height_62 : decode cX2_height 62 = .ok (.goto (-34), 3) := by decide +kernel
theorem dX2_height_65 : decode cX2_height 65 = .ok (.iload 4, 2) := by decide +kernel
theorem dX2_height_67 : decode cX2_height 67 = .ok (.ifCond .ne 5, 3) := by decide +kernel
theorem dX2_height_70 : decode cX2_height 70 = .ok (.iload_n 3, 1) := by decide +kernel
theorem dX2_height_71 : decode cX2_height 71 = .ok (.ireturn, 1) := by decide +kernel
theorem dX2_height_72 : decode cX2_height 72 = .ok (.iload 4, 2) := by decide +kernel
theorem dX2_height_74 : decode cX2_height 74 = .ok (.istore_n 2, 1) := by decide +kernel
theorem dX2_height_75 : decode cX2_height 75 = .ok (.iinc 3 1, 3) := by decide +kernel
theorem dX2_height_78 : decode cX2_height 78 = .ok (.goto (-62), 3) := by decide +kernel
theorem dX2_height_81 : decode cX2_height 81 = .ok (.bipush 9, 2) := by decide +kernel
theorem dX2_height_83 : decode cX2_height 83 = .ok (.ireturn, 1) := by decide +kernel
theorem dX2_superfluous_0 : decode cX2_superfluous 0 = .ok (.aload_n 0, 1) := by decide +kernel
theorem dX2_superfluous_1 : decode cX2_superfluous 1 = .ok (.invokevirtual 35, 3) := by decide +kernel
theorem dX2_superfluous_4 : decode cX2_superfluous 4 = .ok (.iconst 0, 1) := by decide +kernel
theorem dX2_superfluous_5 : decode cX2_superfluous 5 = .ok (.istore_n 1, 1) := by decide +kernel
theorem dX2_superfluous_6 : decode cX2_superfluous 6 = .ok (.iconst 0, 1) := by decide +kernel
theorem dX2_superfluous_7 : decode cX2_superfluous 7 = .ok (.istore_n 2, 1) := by decide +kernel
theorem dX2_superfluous_8 : decode cX2_superfluous 8 = .ok (.iload_n 2, 1) := by decide +kernel
theorem dX2_superfluous_9 : decode cX2_superfluous 9 = .ok (.aload_n 0, 1) := by decide +kernel
theorem dX2_superfluous_10 : decode cX2_superfluous 10 = .ok (.getfield 19, 3) := by decide +kernel
theorem dX2_superfluous_13 : decode cX2_superfluous 13 = .ok (.if_icmp .ge 51, 3) := by decide +kernel
theorem dX2_superfluous_16 : decode cX2_superfluous 16 = .ok (.iconst 0, 1) := by decide +kernel
theorem dX2_superfluous_17 : decode cX2_superfluous 17 = .ok (.istore_n 3, 1) := by decide +kernel
theorem dX2_superfluous_18 : decode cX2_superfluous 18 = .ok (.iload_n 3, 1) := by decide +kernel
theorem dX2_superfluous_19 : decode cX2_superfluous 19 = .ok (.aload_n 0, 1) := by decide +kernel
theorem dX2_superfluous_20 : decode cX2_superfluous 20 = .ok (.getfield 19, 3) := by decide +kernel
theorem dX2_superfluous_23 : decode cX2_superfluous 23 = .ok (.if_icmp .ge 35, 3) := by decide +kernel
theorem dX2_superfluous_26 : decode cX2_superfluous 26 = .ok (.aload_n 0, 1) := by decide +kernel
theorem dX2_superfluous_27 : decode cX2_superfluous 27 = .ok (.aload_n 0, 1) := by decide +kernel
theorem dX2_superfluous_28 : decode cX2_superfluous 28 = .ok (.getfield 7, 3) := by decide +kernel
theorem dX2_superfluous_31 : decode cX2_superfluous 31 = .ok (.iload_n 2, 1) := by decide +kernel
theorem dX2_superfluous_32 : decode cX2_superfluous 32 = .ok (.iaload, 1) := by decide +kernel
theorem dX2_superfluous_33 : decode cX2_superfluous 33 = .ok (.iload_n 3, 1) := by decide +kernel
theorem dX2_superfluous_34 : decode cX2_superfluous 34 = .ok (.invokevirtual 31, 3) := by decide +kernel
theorem dX2_superfluous_37 : decode cX2_superfluous 37 = .ok (.ifCond .eq 15, 3) := by decide +kernel
theorem dX2_superfluous_40 : decode cX2_superfluous 40 = .ok (.aload_n 0, 1) := by decide +kernel
theorem dX2_superfluous_41 : decode cX2_superfluous 41 = .ok (.iload_n 2, 1) := by decide +kernel
theorem dX2_superfluous_42 : decode cX2_superfluous 42 = .ok (.iload_n 3, 1) := by decide +kernel
theorem dX2_superfluous_43 : decode cX2_superfluous 43 = .ok (.invokevirtual 38, 3) := by decide +kernel
theorem dX2_superfluous_46 : decode cX2_superfluous 46 = .ok (.ifCond .eq 6, 3) := by decide +kernel
theorem dX2_superfluous_49 : decode cX2_superfluous 49 = .ok (.iinc 1 1, 3) := by decide +kernel
theorem dX2_superfluous_52 : decode cX2_superfluous 52 = .ok (.iinc 3 1, 3) := by decide +kernel
theorem dX2_superfluous_55 : decode cX2_superfluous 55 = .ok (.goto (-37), 3) := by decide +kernel
theorem dX2_superfluous_58 : decode cX2_superfluous 58 = .ok (.iinc 2 1, 3) := by decide +kernel
theorem dX2_superfluous_61 : decode cX2_superfluous 61 = .ok (.goto (-53), 3) := by decide +kernel
theorem dX2_superfluous_64 : decode cX2_superfluous 64 = .ok (.iload_n 1, 1) := by decide +kernel
theorem dX2_superfluous_65 : decode cX2_superfluous 65 = .ok (.ireturn, 1) := by decide +kernel
theorem dX2_extra_0 : decode cX2_extra 0 = .ok (.iconst 0, 1) := by decide +kernel
theorem dX2_extra_1 : decode cX2_extra 1 = .ok (.istore_n 3, 1) := by decide +kernel
theorem dX2_extra_2 : decode cX2_extra 2 = .ok (.iload_n 3, 1) := by decide +kernel
theorem dX2_extra_3 : decode cX2_extra 3 = .ok (.aload_n 0, 1) := by decide +kernel
theorem dX2_extra_4 : decode cX2_extra 4 = .ok (.getfield 19, 3) := by decide +kernel
theorem dX2_extra_7 : decode cX2_extra 7 = .ok (.if_icmp .ge 39, 3) := by decide +kernel
theorem dX2_extra_10 : decode cX2_extra 10 = .ok (.aload_n 0, 1) := by decide +kernel
theorem dX2_extra_11 : decode cX2_extra 11 = .ok (.aload_n 0, 1) := by decide +kernel
theorem dX2_extra_12 : decode cX2_extra 12 = .ok (.getfield 13, 3) := by decide +kernel
theorem dX2_extra_15 : decode cX2_extra 15 = .ok (.iload_n 1, 1) := by decide +kernel
theorem dX2_extra_16 : decode cX2_extra 16 = .ok (.iaload, 1) := by decide +kernel
theorem dX2_extra_17 : decode cX2_extra 17 = .ok (.iload_n 3, 1) := by decide +kernel
theorem dX2_extra_18 : decode cX2_extra 18 = .ok (.invokevirtual 31, 3) := by decide +kernel
theorem dX2_extra_21 : decode cX2_extra 21 = .ok (.ifCond .eq 19, 3) := by decide +kernel
theorem dX2_extra_24 : decode cX2_extra 24 = .ok (.aload_n 0, 1) := by decide +kernel
theorem dX2_extra_25 : decode cX2_extra 25 = .ok (.aload_n 0, 1) := by decide +kernel
theorem dX2_extra_26 : decode cX2_extra 26 = .ok (.getfield 13, 3) := by decide +kernel
theorem dX2_extra_29 : decode cX2_extra 29 = .ok (.iload_n 3, 1) := by decide +kernel
theorem dX2_extra_30 : decode cX2_extra 30 = .ok (.iaload, 1) := by decide +kernel
theorem dX2_extra_31 : decode cX2_extra 31 = .ok (.iload_n 2, 1) := by decide +kernel
theorem dX2_extra_32 : decode cX2_extra 32 = .ok (.invokevirtual 31, 3) := by decide +kernel
theorem dX2_extra_35 : decode cX2_extra 35 = .ok (.ifCond .eq 5, 3) := by decide +kernel
theorem dX2_extra_38 : decode cX2_extra 38 = .ok (.iconst 1, 1) := by decide +kernel
theorem dX2_extra_39 : decode cX2_extra 39 = .ok (.ireturn, 1) := by decide +kernel
theorem dX2_extra_40 : decode cX2_extra 40 = .ok (.iinc 3 1, 3) := by decide +kernel
theorem dX2_extra_43 : decode cX2_extra 43 = .ok (.goto (-41), 3) := by decide +kernel
theorem dX2_extra_46 : decode cX2_extra 46 = .ok (.iconst 0, 1) := by decide +kernel
theorem dX2_extra_47 : decode cX2_extra 47 = .ok (.ireturn, 1) := by decide +kernel
theorem dX2_inTrees_0 : decode cX2_inTrees 0 = .ok (.aload_n 0, 1) := by decide +kernel
theorem dX2_inTrees_1 : decode cX2_inTrees 1 = .ok (.invokevirtual 35, 3) := by decide +kernel
theorem dX2_inTrees_4 : decode cX2_inTrees 4 = .ok (.iconst 0, 1) := by decide +kernel
theorem dX2_inTrees_5 : decode cX2_inTrees 5 = .ok (.istore_n 1, 1) := by decide +kernel
theorem dX2_inTrees_6 : decode cX2_inTrees 6 = .ok (.iload_n 1, 1) := by decide +kernel
theorem dX2_inTrees_7 : decode cX2_inTrees 7 = .ok (.aload_n 0, 1) := by decide +kernel
theorem dX2_inTrees_8 : decode cX2_inTrees 8 = .ok (.getfield 19, 3) := by decide +kernel
theorem dX2_inTrees_11 : decode cX2_inTrees 11 = .ok (.if_icmp .ge 60, 3) := by decide +kernel
theorem dX2_inTrees_14 : decode cX2_inTrees 14 = .ok (.iconst 0, 1) := by decide +kernel
theorem dX2_inTrees_15 : decode cX2_inTrees 15 = .ok (.istore_n 2, 1) := by decide +kernel
theorem dX2_inTrees_16 : decode cX2_inTrees 16 = .ok (.iconst 0, 1) := by decide +kernel
theorem dX2_inTrees_17 : decode cX2_inTrees 17 = .ok (.istore_n 3, 1) := by decide +kernel
theorem dX2_inTrees_18 : decode cX2_inTrees 18 = .ok (.iload_n 3, 1) := by decide +kernel
theorem dX2_inTrees_19 : decode cX2_inTrees 19 = .ok (.aload_n 0, 1) := by decide +kernel
theorem dX2_inTrees_20 : decode cX2_inTrees 20 = .ok (.getfield 19, 3) := by decide +kernel
theorem dX2_inTrees_23 : decode cX2_inTrees 23 = .ok (.if_icmp .ge 35, 3) := by decide +kernel
theorem dX2_inTrees_26 : decode cX2_inTrees 26 = .ok (.aload_n 0, 1) := by decide +kernel
theorem dX2_inTrees_27 : decode cX2_inTrees 27 = .ok (.aload_n 0, 1) := by decide +kernel
theorem dX2_inTrees_28 : decode cX2_inTrees 28 = .ok (.getfield 7, 3) := by decide +kernel
theorem dX2_inTrees_31 : decode cX2_inTrees 31 = .ok (.iload_n 1, 1) := by decide +kernel
theorem dX2_inTrees_32 : decode cX2_inTrees 32 = .ok (.iaload, 1) := by decide +kernel
theorem dX2_inTrees_33 : decode cX2_inTrees 33 = .ok (.iload_n 3, 1) := by decide +kernel
theorem dX2_inTrees_34 : decode cX2_inTrees 34 = .ok (.invokevirtual 31, 3) := by decide +kernel
theorem dX2_inTrees_37 : decode cX2_inTrees 37 = .ok (.ifCond .eq 15, 3) := by decide +kernel
theorem dX2_inTrees_40 : decode cX2_inTrees 40 = .ok (.aload_n 0, 1) := by decide +kernel
theorem dX2_inTrees_41 : decode cX2_inTrees 41 = .ok (.iload_n 1, 1) := by decide +kernel
theorem dX2_inTrees_42 : decode cX2_inTrees 42 = .ok (.iload_n 3, 1) := by decide +kernel
theorem dX2_inTrees_43 : decode cX2_inTrees 43 = .ok (.invokevirtual 38, 3) := by decide +kernel
theorem dX2_inTrees_46 : decode cX2_inTrees 46 = .ok (.ifCond .ne 6, 3) := by decide +kernel
theorem dX2_inTrees_49 : decode cX2_inTrees 49 = .ok (.iinc 2 1, 3) := by decide +kernel
theorem dX2_inTrees_52 : decode cX2_inTrees 52 = .ok (.iinc 3 1, 3) := by decide +kernel
theorem dX2_inTrees_55 : decode cX2_inTrees 55 = .ok (.goto (-37), 3) := by decide +kernel
theorem dX2_inTrees_58 : decode cX2_inTrees 58 = .ok (.iload_n 2, 1) := by decide +kernel
theorem dX2_inTrees_59 : decode cX2_inTrees 59 = .ok (.iconst 1, 1) := by decide +kernel
theorem dX2_inTrees_60 : decode cX2_inTrees 60 = .ok (.if_icmp .le 5, 3) := by decide +kernel
theorem dX2_inTrees_63 : decode cX2_inTrees 63 = .ok (.iconst 0, 1) := by decide +kernel
theorem dX2_inTrees_64 : decode cX2_inTrees 64 = .ok (.ireturn, 1) := by decide +kernel
theorem dX2_inTrees_65 : decode cX2_inTrees 65 = .ok (.iinc 1 1, 3) := by decide +kernel
theorem dX2_inTrees_68 : decode cX2_inTrees 68 = .ok (.goto (-62), 3) := by decide +kernel
theorem dX2_inTrees_71 : decode cX2_inTrees 71 = .ok (.iconst 1, 1) := by decide +kernel
theorem dX2_inTrees_72 : decode cX2_inTrees 72 = .ok (.ireturn, 1) := by decide +kernel
theorem dX2_shortest_0 : decode cX2_shortest 0 = .ok (.iload_n 1, 1) := by decide +kernel
theorem dX2_shortest_1 : decode cX2_shortest 1 = .ok (.iconst 1, 1) := by decide +kernel
theorem dX2_shortest_2 : decode cX2_shortest 2 = .ok (.if_icmp .lt 9, 3) := by decide +kernel
theorem dX2_shortest_5 : decode cX2_shortest 5 = .ok (.iload_n 1, 1) := by decide +kernel
theorem dX2_shortest_6 : decode cX2_shortest 6 = .ok (.bipush 9, 2) := by decide +kernel
theorem dX2_shortest_8 : decode cX2_shortest 8 = .ok (.if_icmp .le 5, 3) := by decide +kernel
theorem dX2_shortest_11 : decode cX2_shortest 11 = .ok (.iconst (-1), 1) := by decide +kernel
theorem dX2_shortest_12 : decode cX2_shortest 12 = .ok (.ireturn, 1) := by decide +kernel
theorem dX2_shortest_13 : decode cX2_shortest 13 = .ok (.iload_n 1, 1) := by decide +kernel
theorem dX2_shortest_14 : decode cX2_shortest 14 = .ok (.iconst 3, 1) := by decide +kernel
theorem dX2_shortest_15 : decode cX2_shortest 15 = .ok (.if_icmp .lt 13, 3) := by decide +kernel
theorem dX2_shortest_18 : decode cX2_shortest 18 = .ok (.aload_n 0, 1) := by decide +kernel
theorem dX2_shortest_19 : decode cX2_shortest 19 = .ok (.invokevirtual 48, 3) := by decide +kernel
theorem dX2_shortest_22 : decode cX2_shortest 22 = .ok (.ifCond .ne 6, 3) := by decide +kernel
theorem dX2_shortest_25 : decode cX2_shortest 25 = .ok (.bipush (-2), 2) := by decide +kernel
theorem dX2_shortest_27 : decode cX2_shortest 27 = .ok (.ireturn, 1) := by decide +kernel
theorem dX2_shortest_28 : decode cX2_shortest 28 = .ok (.aload_n 0, 1) := by decide +kernel
theorem dX2_shortest_29 : decode cX2_shortest 29 = .ok (.iconst 1, 1) := by decide +kernel
theorem dX2_shortest_30 : decode cX2_shortest 30 = .ok (.aload_n 0, 1) := by decide +kernel
theorem dX2_shortest_31 : decode cX2_shortest 31 = .ok (.getfield 19, 3) := by decide +kernel
theorem dX2_shortest_34 : decode cX2_shortest 34 = .ok (.ishl, 1) := by decide +kernel
theorem dX2_shortest_35 : decode cX2_shortest 35 = .ok (.iconst 1, 1) := by decide +kernel
theorem dX2_shortest_36 : decode cX2_shortest 36 = .ok (.isub, 1) := by decide +kernel
theorem dX2_shortest_37 : decode cX2_shortest 37 = .ok (.iload_n 1, 1) := by decide +kernel
theorem dX2_shortest_38 : decode cX2_shortest 38 = .ok (.invokevirtual 52, 3) := by decide +kernel
theorem dX2_shortest_41 : decode cX2_shortest 41 = .ok (.ireturn, 1) := by decide +kernel
theorem dX2_least_0 : decode cX2_least 0 = .ok (.iconst 0, 1) := by decide +kernel
theorem dX2_least_1 : decode cX2_least 1 = .ok (.istore_n 3, 1) := by decide +kernel
theorem dX2_least_2 : decode cX2_least 2 = .ok (.iload_n 3, 1) := by decide +kernel
theorem dX2_least_3 : decode cX2_least 3 = .ok (.sipush 512, 3) := by decide +kernel
theorem dX2_least_6 : decode cX2_least 6 = .ok (.if_icmp .ge 25, 3) := by decide +kernel
theorem dX2_least_9 : decode cX2_least 9 = .ok (.aload_n 0, 1) := by decide +kernel
theorem dX2_least_10 : decode cX2_least 10 = .ok (.getfield 16, 3) := by decide +kernel
theorem dX2_least_13 : decode cX2_least 13 = .ok (.iload_n 3, 1) := by decide +kernel
theorem dX2_least_14 : decode cX2_least 14 = .ok (.iload_n 3, 1) := by decide +kernel
theorem dX2_least_15 : decode cX2_least 15 = .ok (.ifCond .ne 7, 3) := by decide +kernel
theorem dX2_least_18 : decode cX2_least 18 = .ok (.iconst 0, 1) := by decide +kernel
theorem dX2_least_19 : decode cX2_least 19 = .ok (.goto 5, 3) := by decide +kernel
theorem dX2_least_22 : decode cX2_least 22 = .ok (.bipush 100, 2) := by decide +kernel
theorem dX2_least_24 : decode cX2_least 24 = .ok (.iastore, 1) := by decide +kernel
theorem dX2_least_25 : decode cX2_least 25 = .ok (.iinc 3 1, 3) := by decide +kernel
theorem dX2_least_28 : decode cX2_least 28 = .ok (.goto (-26), 3) := by decide +kernel
theorem dX2_least_31 : decode cX2_least 31 = .ok (.iconst 0, 1) := by decide +kernel
theorem dX2_least_32 : decode cX2_least 32 = .ok (.istore_n 3, 1) := by decide +kernel
theorem dX2_least_33 : decode cX2_least 33 = .ok (.iload_n 3, 1) := by decide +kernel
theorem dX2_least_34 : decode cX2_least 34 = .ok (.sipush 512, 3) := by decide +kernel
theorem dX2_least_37 : decode cX2_least 37 = .ok (.if_icmp .ge 100, 3) := by decide +kernel
theorem dX2_least_40 : decode cX2_least 40 = .ok (.aload_n 0, 1) := by decide +kernel
theorem dX2_least_41 : decode cX2_least 41 = .ok (.getfield 16, 3) := by decide +kernel
theorem dX2_least_44 : decode cX2_least 44 = .ok (.iload_n 3, 1) := by decide +kernel
end
section
set_option maxRecDepth 100000
theorem dX2_least_45 : decode cX2_least 45 = .ok (.iaload, 1) := by decide +kernel
theorem dX2_least_46 : decode cX2_least 46 = .ok (.bipush 100, 2) := by decide +kernel
theorem dX2_least_48 : decode cX2_least 48 = .ok (.if_icmp .ne 7, 3) := by decide +kernel
theorem dX2_least_51 : decode cX2_least 51 = .ok (.iconst 0, 1) := by decide +kernel
theorem dX2_least_52 : decode cX2_least 52 = .ok (.goto 9, 3) := by decide +kernel
theorem dX2_least_55 : decode cX2_least 55 = .ok (.aload_n 0, 1) := by decide +kernel
theorem dX2_least_56 : decode cX2_least 56 = .ok (.iload_n 1, 1) := by decide +kernel
theorem dX2_least_57 : decode cX2_least 57 = .ok (.iload_n 3, 1) := by decide +kernel
theorem dX2_least_58 : decode cX2_least 58 = .ok (.invokevirtual 41, 3) := by decide +kernel
theorem dX2_least_61 : decode cX2_least 61 = .ok (.istore 4, 2) := by decide +kernel
theorem dX2_least_63 : decode cX2_least 63 = .ok (.iload 4, 2) := by decide +kernel
theorem dX2_least_65 : decode cX2_least 65 = .ok (.istore 5, 2) := by decide +kernel
theorem dX2_least_67 : decode cX2_least 67 = .ok (.iload 5, 2) := by decide +kernel
theorem dX2_least_69 : decode cX2_least 69 = .ok (.ifCond .le 62, 3) := by decide +kernel
theorem dX2_least_72 : decode cX2_least 72 = .ok (.aload_n 0, 1) := by decide +kernel
theorem dX2_least_73 : decode cX2_least 73 = .ok (.iload 5, 2) := by decide +kernel
theorem dX2_least_75 : decode cX2_least 75 = .ok (.invokevirtual 44, 3) := by decide +kernel
theorem dX2_least_78 : decode cX2_least 78 = .ok (.iload_n 2, 1) := by decide +kernel
theorem dX2_least_79 : decode cX2_least 79 = .ok (.if_icmp .gt 40, 3) := by decide +kernel
theorem dX2_least_82 : decode cX2_least 82 = .ok (.aload_n 0, 1) := by decide +kernel
theorem dX2_least_83 : decode cX2_least 83 = .ok (.getfield 16, 3) := by decide +kernel
theorem dX2_least_86 : decode cX2_least 86 = .ok (.iload_n 3, 1) := by decide +kernel
theorem dX2_least_87 : decode cX2_least 87 = .ok (.iaload, 1) := by decide +kernel
theorem dX2_least_88 : decode cX2_least 88 = .ok (.iconst 1, 1) := by decide +kernel
theorem dX2_least_89 : decode cX2_least 89 = .ok (.iadd, 1) := by decide +kernel
theorem dX2_least_90 : decode cX2_least 90 = .ok (.aload_n 0, 1) := by decide +kernel
theorem dX2_least_91 : decode cX2_least 91 = .ok (.getfield 16, 3) := by decide +kernel
theorem dX2_least_94 : decode cX2_least 94 = .ok (.iload_n 3, 1) := by decide +kernel
theorem dX2_least_95 : decode cX2_least 95 = .ok (.iload 5, 2) := by decide +kernel
theorem dX2_least_97 : decode cX2_least 97 = .ok (.ior, 1) := by decide +kernel
theorem dX2_least_98 : decode cX2_least 98 = .ok (.iaload, 1) := by decide +kernel
theorem dX2_least_99 : decode cX2_least 99 = .ok (.if_icmp .ge 20, 3) := by decide +kernel
theorem dX2_least_102 : decode cX2_least 102 = .ok (.aload_n 0, 1) := by decide +kernel
theorem dX2_least_103 : decode cX2_least 103 = .ok (.getfield 16, 3) := by decide +kernel
theorem dX2_least_106 : decode cX2_least 106 = .ok (.iload_n 3, 1) := by decide +kernel
theorem dX2_least_107 : decode cX2_least 107 = .ok (.iload 5, 2) := by decide +kernel
theorem dX2_least_109 : decode cX2_least 109 = .ok (.ior, 1) := by decide +kernel
theorem dX2_least_110 : decode cX2_least 110 = .ok (.aload_n 0, 1) := by decide +kernel
theorem dX2_least_111 : decode cX2_least 111 = .ok (.getfield 16, 3) := by decide +kernel
theorem dX2_least_114 : decode cX2_least 114 = .ok (.iload_n 3, 1) := by decide +kernel
theorem dX2_least_115 : decode cX2_least 115 = .ok (.iaload, 1) := by decide +kernel
theorem dX2_least_116 : decode cX2_least 116 = .ok (.iconst 1, 1) := by decide +kernel
theorem dX2_least_117 : decode cX2_least 117 = .ok (.iadd, 1) := by decide +kernel
theorem dX2_least_118 : decode cX2_least 118 = .ok (.iastore, 1) := by decide +kernel
theorem dX2_least_119 : decode cX2_least 119 = .ok (.iload 5, 2) := by decide +kernel
theorem dX2_least_121 : decode cX2_least 121 = .ok (.iconst 1, 1) := by decide +kernel
theorem dX2_least_122 : decode cX2_least 122 = .ok (.isub, 1) := by decide +kernel
theorem dX2_least_123 : decode cX2_least 123 = .ok (.iload 4, 2) := by decide +kernel
theorem dX2_least_125 : decode cX2_least 125 = .ok (.iand, 1) := by decide +kernel
theorem dX2_least_126 : decode cX2_least 126 = .ok (.istore 5, 2) := by decide +kernel
theorem dX2_least_128 : decode cX2_least 128 = .ok (.goto (-61), 3) := by decide +kernel
theorem dX2_least_131 : decode cX2_least 131 = .ok (.iinc 3 1, 3) := by decide +kernel
theorem dX2_least_134 : decode cX2_least 134 = .ok (.goto (-101), 3) := by decide +kernel
theorem dX2_least_137 : decode cX2_least 137 = .ok (.aload_n 0, 1) := by decide +kernel
theorem dX2_least_138 : decode cX2_least 138 = .ok (.getfield 16, 3) := by decide +kernel
theorem dX2_least_141 : decode cX2_least 141 = .ok (.iload_n 1, 1) := by decide +kernel
theorem dX2_least_142 : decode cX2_least 142 = .ok (.iaload, 1) := by decide +kernel
theorem dX2_least_143 : decode cX2_least 143 = .ok (.ireturn, 1) := by decide +kernel
theorem dX2_open_0 : decode cX2_open 0 = .ok (.iconst 0, 1) := by decide +kernel
theorem dX2_open_1 : decode cX2_open 1 = .ok (.istore_n 3, 1) := by decide +kernel
theorem dX2_open_2 : decode cX2_open 2 = .ok (.iconst 0, 1) := by decide +kernel
theorem dX2_open_3 : decode cX2_open 3 = .ok (.istore 4, 2) := by decide +kernel
theorem dX2_open_5 : decode cX2_open 5 = .ok (.iload 4, 2) := by decide +kernel
theorem dX2_open_7 : decode cX2_open 7 = .ok (.aload_n 0, 1) := by decide +kernel
theorem dX2_open_8 : decode cX2_open 8 = .ok (.getfield 19, 3) := by decide +kernel
theorem dX2_open_11 : decode cX2_open 11 = .ok (.if_icmp .ge 39, 3) := by decide +kernel
theorem dX2_open_14 : decode cX2_open 14 = .ok (.aload_n 0, 1) := by decide +kernel
theorem dX2_open_15 : decode cX2_open 15 = .ok (.iload_n 1, 1) := by decide +kernel
theorem dX2_open_16 : decode cX2_open 16 = .ok (.iload 4, 2) := by decide +kernel
theorem dX2_open_18 : decode cX2_open 18 = .ok (.invokevirtual 31, 3) := by decide +kernel
theorem dX2_open_21 : decode cX2_open 21 = .ok (.ifCond .eq 23, 3) := by decide +kernel
theorem dX2_open_24 : decode cX2_open 24 = .ok (.aload_n 0, 1) := by decide +kernel
theorem dX2_open_25 : decode cX2_open 25 = .ok (.iload_n 2, 1) := by decide +kernel
theorem dX2_open_26 : decode cX2_open 26 = .ok (.iload 4, 2) := by decide +kernel
theorem dX2_open_28 : decode cX2_open 28 = .ok (.invokevirtual 31, 3) := by decide +kernel
theorem dX2_open_31 : decode cX2_open 31 = .ok (.ifCond .ne 13, 3) := by decide +kernel
theorem dX2_open_34 : decode cX2_open 34 = .ok (.iload_n 3, 1) := by decide +kernel
theorem dX2_open_35 : decode cX2_open 35 = .ok (.aload_n 0, 1) := by decide +kernel
theorem dX2_open_36 : decode cX2_open 36 = .ok (.getfield 7, 3) := by decide +kernel
theorem dX2_open_39 : decode cX2_open 39 = .ok (.iload 4, 2) := by decide +kernel
theorem dX2_open_41 : decode cX2_open 41 = .ok (.iaload, 1) := by decide +kernel
theorem dX2_open_42 : decode cX2_open 42 = .ok (.ior, 1) := by decide +kernel
theorem dX2_open_43 : decode cX2_open 43 = .ok (.istore_n 3, 1) := by decide +kernel
theorem dX2_open_44 : decode cX2_open 44 = .ok (.iinc 4 1, 3) := by decide +kernel
theorem dX2_open_47 : decode cX2_open 47 = .ok (.goto (-42), 3) := by decide +kernel
theorem dX2_open_50 : decode cX2_open 50 = .ok (.iload_n 1, 1) := by decide +kernel
theorem dX2_open_51 : decode cX2_open 51 = .ok (.iload_n 2, 1) := by decide +kernel
theorem dX2_open_52 : decode cX2_open 52 = .ok (.iconst (-1), 1) := by decide +kernel
theorem dX2_open_53 : decode cX2_open 53 = .ok (.ixor, 1) := by decide +kernel
theorem dX2_open_54 : decode cX2_open 54 = .ok (.iand, 1) := by decide +kernel
theorem dX2_open_55 : decode cX2_open 55 = .ok (.iload_n 3, 1) := by decide +kernel
theorem dX2_open_56 : decode cX2_open 56 = .ok (.iconst (-1), 1) := by decide +kernel
theorem dX2_open_57 : decode cX2_open 57 = .ok (.ixor, 1) := by decide +kernel
theorem dX2_open_58 : decode cX2_open 58 = .ok (.iand, 1) := by decide +kernel
theorem dX2_open_59 : decode cX2_open 59 = .ok (.ireturn, 1) := by decide +kernel
theorem dX2_sizeOf_0 : decode cX2_sizeOf 0 = .ok (.iconst 0, 1) := by decide +kernel
theorem dX2_sizeOf_1 : decode cX2_sizeOf 1 = .ok (.istore_n 2, 1) := by decide +kernel
theorem dX2_sizeOf_2 : decode cX2_sizeOf 2 = .ok (.iconst 0, 1) := by decide +kernel
theorem dX2_sizeOf_3 : decode cX2_sizeOf 3 = .ok (.istore_n 3, 1) := by decide +kernel
theorem dX2_sizeOf_4 : decode cX2_sizeOf 4 = .ok (.iload_n 3, 1) := by decide +kernel
theorem dX2_sizeOf_5 : decode cX2_sizeOf 5 = .ok (.bipush 9, 2) := by decide +kernel
theorem dX2_sizeOf_7 : decode cX2_sizeOf 7 = .ok (.if_icmp .ge 21, 3) := by decide +kernel
theorem dX2_sizeOf_10 : decode cX2_sizeOf 10 = .ok (.aload_n 0, 1) := by decide +kernel
theorem dX2_sizeOf_11 : decode cX2_sizeOf 11 = .ok (.iload_n 1, 1) := by decide +kernel
theorem dX2_sizeOf_12 : decode cX2_sizeOf 12 = .ok (.iload_n 3, 1) := by decide +kernel
theorem dX2_sizeOf_13 : decode cX2_sizeOf 13 = .ok (.invokevirtual 31, 3) := by decide +kernel
theorem dX2_sizeOf_16 : decode cX2_sizeOf 16 = .ok (.ifCond .eq 6, 3) := by decide +kernel
theorem dX2_sizeOf_19 : decode cX2_sizeOf 19 = .ok (.iinc 2 1, 3) := by decide +kernel
theorem dX2_sizeOf_22 : decode cX2_sizeOf 22 = .ok (.iinc 3 1, 3) := by decide +kernel
theorem dX2_sizeOf_25 : decode cX2_sizeOf 25 = .ok (.goto (-21), 3) := by decide +kernel
theorem dX2_sizeOf_28 : decode cX2_sizeOf 28 = .ok (.iload_n 2, 1) := by decide +kernel
theorem dX2_sizeOf_29 : decode cX2_sizeOf 29 = .ok (.ireturn, 1) := by decide +kernel
theorem dX2_without_0 : decode cX2_without 0 = .ok (.aload_n 0, 1) := by decide +kernel
theorem dX2_without_1 : decode cX2_without 1 = .ok (.iload_n 1, 1) := by decide +kernel
theorem dX2_without_2 : decode cX2_without 2 = .ok (.invokevirtual 23, 3) := by decide +kernel
theorem dX2_without_5 : decode cX2_without 5 = .ok (.ifCond .ne 5, 3) := by decide +kernel
theorem dX2_without_8 : decode cX2_without 8 = .ok (.iconst (-1), 1) := by decide +kernel
theorem dX2_without_9 : decode cX2_without 9 = .ok (.ireturn, 1) := by decide +kernel
theorem dX2_without_10 : decode cX2_without 10 = .ok (.aload_n 0, 1) := by decide +kernel
theorem dX2_without_11 : decode cX2_without 11 = .ok (.iconst 1, 1) := by decide +kernel
theorem dX2_without_12 : decode cX2_without 12 = .ok (.aload_n 0, 1) := by decide +kernel
theorem dX2_without_13 : decode cX2_without 13 = .ok (.getfield 19, 3) := by decide +kernel
theorem dX2_without_16 : decode cX2_without 16 = .ok (.ishl, 1) := by decide +kernel
theorem dX2_without_17 : decode cX2_without 17 = .ok (.iconst 1, 1) := by decide +kernel
theorem dX2_without_18 : decode cX2_without 18 = .ok (.isub, 1) := by decide +kernel
theorem dX2_without_19 : decode cX2_without 19 = .ok (.iconst 1, 1) := by decide +kernel
theorem dX2_without_20 : decode cX2_without 20 = .ok (.iload_n 1, 1) := by decide +kernel
theorem dX2_without_21 : decode cX2_without 21 = .ok (.ishl, 1) := by decide +kernel
theorem dX2_without_22 : decode cX2_without 22 = .ok (.iconst (-1), 1) := by decide +kernel
theorem dX2_without_23 : decode cX2_without 23 = .ok (.ixor, 1) := by decide +kernel
theorem dX2_without_24 : decode cX2_without 24 = .ok (.iand, 1) := by decide +kernel
theorem dX2_without_25 : decode cX2_without 25 = .ok (.iconst 2, 1) := by decide +kernel
theorem dX2_without_26 : decode cX2_without 26 = .ok (.invokevirtual 52, 3) := by decide +kernel
theorem dX2_without_29 : decode cX2_without 29 = .ok (.ireturn, 1) := by decide +kernel
theorem dL_law_0 : decode cL_law 0 = .ok (.new 7, 3) := by decide +kernel
theorem dL_law_3 : decode cL_law 3 = .ok (.dup, 1) := by decide +kernel
theorem dL_law_4 : decode cL_law 4 = .ok (.aload_n 0, 1) := by decide +kernel
theorem dL_law_5 : decode cL_law 5 = .ok (.iconst 0, 1) := by decide +kernel
theorem dL_law_6 : decode cL_law 6 = .ok (.invokestatic 9, 3) := by decide +kernel
theorem dL_law_9 : decode cL_law 9 = .ok (.invokespecial 15, 3) := by decide +kernel
theorem dL_law_12 : decode cL_law 12 = .ok (.astore_n 1, 1) := by decide +kernel
theorem dL_law_13 : decode cL_law 13 = .ok (.new 18, 3) := by decide +kernel
theorem dL_law_16 : decode cL_law 16 = .ok (.dup, 1) := by decide +kernel
theorem dL_law_17 : decode cL_law 17 = .ok (.aload_n 0, 1) := by decide +kernel
theorem dL_law_18 : decode cL_law 18 = .ok (.iconst 0, 1) := by decide +kernel
theorem dL_law_19 : decode cL_law 19 = .ok (.invokestatic 9, 3) := by decide +kernel
theorem dL_law_22 : decode cL_law 22 = .ok (.invokespecial 20, 3) := by decide +kernel
theorem dL_law_25 : decode cL_law 25 = .ok (.astore_n 2, 1) := by decide +kernel
theorem dL_law_26 : decode cL_law 26 = .ok (.iconst 1, 1) := by decide +kernel
theorem dL_law_27 : decode cL_law 27 = .ok (.istore_n 3, 1) := by decide +kernel
theorem dL_law_28 : decode cL_law 28 = .ok (.iload_n 3, 1) := by decide +kernel
theorem dL_law_29 : decode cL_law 29 = .ok (.aload_n 0, 1) := by decide +kernel
theorem dL_law_30 : decode cL_law 30 = .ok (.arraylength, 1) := by decide +kernel
theorem dL_law_31 : decode cL_law 31 = .ok (.iconst 3, 1) := by decide +kernel
theorem dL_law_32 : decode cL_law 32 = .ok (.isub, 1) := by decide +kernel
theorem dL_law_33 : decode cL_law 33 = .ok (.if_icmp .gt 316, 3) := by decide +kernel
theorem dL_law_36 : decode cL_law 36 = .ok (.aload_n 0, 1) := by decide +kernel
theorem dL_law_37 : decode cL_law 37 = .ok (.iload_n 3, 1) := by decide +kernel
theorem dL_law_38 : decode cL_law 38 = .ok (.iaload, 1) := by decide +kernel
theorem dL_law_39 : decode cL_law 39 = .ok (.bipush 15, 2) := by decide +kernel
theorem dL_law_41 : decode cL_law 41 = .ok (.iand, 1) := by decide +kernel
theorem dL_law_42 : decode cL_law 42 = .ok (.tableswitch 301 0 10 #[58, 71, 94, 127, 160, 173, 206, 229, 242, 255, 278], 58) := by decide +kernel
theorem dL_law_100 : decode cL_law 100 = .ok (.aload_n 1, 1) := by decide +kernel
theorem dL_law_101 : decode cL_law 101 = .ok (.invokevirtual 21, 3) := by decide +kernel
theorem dL_law_104 : decode cL_law 104 = .ok (.aload_n 2, 1) := by decide +kernel
theorem dL_law_105 : decode cL_law 105 = .ok (.invokevirtual 25, 3) := by decide +kernel
theorem dL_law_108 : decode cL_law 108 = .ok (.if_icmp .eq 235, 3) := by decide +kernel
theorem dL_law_111 : decode cL_law 111 = .ok (.iconst 0, 1) := by decide +kernel
theorem dL_law_112 : decode cL_law 112 = .ok (.ireturn, 1) := by decide +kernel
theorem dL_law_113 : decode cL_law 113 = .ok (.aload_n 1, 1) := by decide +kernel
theorem dL_law_114 : decode cL_law 114 = .ok (.aload_n 0, 1) := by decide +kernel
theorem dL_law_115 : decode cL_law 115 = .ok (.iload_n 3, 1) := by decide +kernel
theorem dL_law_116 : decode cL_law 116 = .ok (.iconst 1, 1) := by decide +kernel
theorem dL_law_117 : decode cL_law 117 = .ok (.iadd, 1) := by decide +kernel
theorem dL_law_118 : decode cL_law 118 = .ok (.iaload, 1) := by decide +kernel
theorem dL_law_119 : decode cL_law 119 = .ok (.invokevirtual 26, 3) := by decide +kernel
theorem dL_law_122 : decode cL_law 122 = .ok (.aload_n 2, 1) := by decide +kernel
theorem dL_law_123 : decode cL_law 123 = .ok (.aload_n 0, 1) := by decide +kernel
theorem dL_law_124 : decode cL_law 124 = .ok (.iload_n 3, 1) := by decide +kernel
theorem dL_law_125 : decode cL_law 125 = .ok (.iconst 1, 1) := by decide +kernel
theorem dL_law_126 : decode cL_law 126 = .ok (.iadd, 1) := by decide +kernel
theorem dL_law_127 : decode cL_law 127 = .ok (.iaload, 1) := by decide +kernel
theorem dL_law_128 : decode cL_law 128 = .ok (.invokevirtual 30, 3) := by decide +kernel
theorem dL_law_131 : decode cL_law 131 = .ok (.if_icmp .eq 212, 3) := by decide +kernel
theorem dL_law_134 : decode cL_law 134 = .ok (.iconst 0, 1) := by decide +kernel
theorem dL_law_135 : decode cL_law 135 = .ok (.ireturn, 1) := by decide +kernel
theorem dL_law_136 : decode cL_law 136 = .ok (.aload_n 1, 1) := by decide +kernel
theorem dL_law_137 : decode cL_law 137 = .ok (.aload_n 0, 1) := by decide +kernel
theorem dL_law_138 : decode cL_law 138 = .ok (.iload_n 3, 1) := by decide +kernel
theorem dL_law_139 : decode cL_law 139 = .ok (.iconst 1, 1) := by decide +kernel
theorem dL_law_140 : decode cL_law 140 = .ok (.iadd, 1) := by decide +kernel
theorem dL_law_141 : decode cL_law 141 = .ok (.iaload, 1) := by decide +kernel
theorem dL_law_142 : decode cL_law 142 = .ok (.aload_n 0, 1) := by decide +kernel
theorem dL_law_143 : decode cL_law 143 = .ok (.iload_n 3, 1) := by decide +kernel
theorem dL_law_144 : decode cL_law 144 = .ok (.iconst 2, 1) := by decide +kernel
theorem dL_law_145 : decode cL_law 145 = .ok (.iadd, 1) := by decide +kernel
theorem dL_law_146 : decode cL_law 146 = .ok (.iaload, 1) := by decide +kernel
theorem dL_law_147 : decode cL_law 147 = .ok (.invokevirtual 31, 3) := by decide +kernel
theorem dL_law_150 : decode cL_law 150 = .ok (.aload_n 2, 1) := by decide +kernel
theorem dL_law_151 : decode cL_law 151 = .ok (.aload_n 0, 1) := by decide +kernel
theorem dL_law_152 : decode cL_law 152 = .ok (.iload_n 3, 1) := by decide +kernel
theorem dL_law_153 : decode cL_law 153 = .ok (.iconst 1, 1) := by decide +kernel
theorem dL_law_154 : decode cL_law 154 = .ok (.iadd, 1) := by decide +kernel
theorem dL_law_155 : decode cL_law 155 = .ok (.iaload, 1) := by decide +kernel
theorem dL_law_156 : decode cL_law 156 = .ok (.aload_n 0, 1) := by decide +kernel
theorem dL_law_157 : decode cL_law 157 = .ok (.iload_n 3, 1) := by decide +kernel
theorem dL_law_158 : decode cL_law 158 = .ok (.iconst 2, 1) := by decide +kernel
theorem dL_law_159 : decode cL_law 159 = .ok (.iadd, 1) := by decide +kernel
theorem dL_law_160 : decode cL_law 160 = .ok (.iaload, 1) := by decide +kernel
theorem dL_law_161 : decode cL_law 161 = .ok (.invokevirtual 35, 3) := by decide +kernel
theorem dL_law_164 : decode cL_law 164 = .ok (.if_icmp .eq 179, 3) := by decide +kernel
theorem dL_law_167 : decode cL_law 167 = .ok (.iconst 0, 1) := by decide +kernel
theorem dL_law_168 : decode cL_law 168 = .ok (.ireturn, 1) := by decide +kernel
theorem dL_law_169 : decode cL_law 169 = .ok (.aload_n 1, 1) := by decide +kernel
theorem dL_law_170 : decode cL_law 170 = .ok (.aload_n 0, 1) := by decide +kernel
theorem dL_law_171 : decode cL_law 171 = .ok (.iload_n 3, 1) := by decide +kernel
theorem dL_law_172 : decode cL_law 172 = .ok (.iconst 1, 1) := by decide +kernel
theorem dL_law_173 : decode cL_law 173 = .ok (.iadd, 1) := by decide +kernel
theorem dL_law_174 : decode cL_law 174 = .ok (.iaload, 1) := by decide +kernel
theorem dL_law_175 : decode cL_law 175 = .ok (.aload_n 0, 1) := by decide +kernel
theorem dL_law_176 : decode cL_law 176 = .ok (.iload_n 3, 1) := by decide +kernel
theorem dL_law_177 : decode cL_law 177 = .ok (.iconst 2, 1) := by decide +kernel
theorem dL_law_178 : decode cL_law 178 = .ok (.iadd, 1) := by decide +kernel
theorem dL_law_179 : decode cL_law 179 = .ok (.iaload, 1) := by decide +kernel
theorem dL_law_180 : decode cL_law 180 = .ok (.invokevirtual 36, 3) := by decide +kernel
theorem dL_law_183 : decode cL_law 183 = .ok (.aload_n 2, 1) := by decide +kernel
theorem dL_law_184 : decode cL_law 184 = .ok (.aload_n 0, 1) := by decide +kernel
theorem dL_law_185 : decode cL_law 185 = .ok (.iload_n 3, 1) := by decide +kernel
theorem dL_law_186 : decode cL_law 186 = .ok (.iconst 1, 1) := by decide +kernel
theorem dL_law_187 : decode cL_law 187 = .ok (.iadd, 1) := by decide +kernel
theorem dL_law_188 : decode cL_law 188 = .ok (.iaload, 1) := by decide +kernel
theorem dL_law_189 : decode cL_law 189 = .ok (.aload_n 0, 1) := by decide +kernel
theorem dL_law_190 : decode cL_law 190 = .ok (.iload_n 3, 1) := by decide +kernel
theorem dL_law_191 : decode cL_law 191 = .ok (.iconst 2, 1) := by decide +kernel
theorem dL_law_192 : decode cL_law 192 = .ok (.iadd, 1) := by decide +kernel
theorem dL_law_193 : decode cL_law 193 = .ok (.iaload, 1) := by decide +kernel
theorem dL_law_194 : decode cL_law 194 = .ok (.invokevirtual 39, 3) := by decide +kernel
theorem dL_law_197 : decode cL_law 197 = .ok (.if_icmp .eq 146, 3) := by decide +kernel
theorem dL_law_200 : decode cL_law 200 = .ok (.iconst 0, 1) := by decide +kernel
theorem dL_law_201 : decode cL_law 201 = .ok (.ireturn, 1) := by decide +kernel
theorem dL_law_202 : decode cL_law 202 = .ok (.aload_n 1, 1) := by decide +kernel
theorem dL_law_203 : decode cL_law 203 = .ok (.invokevirtual 40, 3) := by decide +kernel
theorem dL_law_206 : decode cL_law 206 = .ok (.aload_n 2, 1) := by decide +kernel
theorem dL_law_207 : decode cL_law 207 = .ok (.invokevirtual 43, 3) := by decide +kernel
theorem dL_law_210 : decode cL_law 210 = .ok (.if_icmp .eq 133, 3) := by decide +kernel
theorem dL_law_213 : decode cL_law 213 = .ok (.iconst 0, 1) := by decide +kernel
theorem dL_law_214 : decode cL_law 214 = .ok (.ireturn, 1) := by decide +kernel
theorem dL_law_215 : decode cL_law 215 = .ok (.aload_n 1, 1) := by decide +kernel
theorem dL_law_216 : decode cL_law 216 = .ok (.aload_n 0, 1) := by decide +kernel
theorem dL_law_217 : decode cL_law 217 = .ok (.iload_n 3, 1) := by decide +kernel
theorem dL_law_218 : decode cL_law 218 = .ok (.iconst 1, 1) := by decide +kernel
theorem dL_law_219 : decode cL_law 219 = .ok (.iadd, 1) := by decide +kernel
theorem dL_law_220 : decode cL_law 220 = .ok (.iaload, 1) := by decide +kernel
theorem dL_law_221 : decode cL_law 221 = .ok (.aload_n 0, 1) := by decide +kernel
theorem dL_law_222 : decode cL_law 222 = .ok (.iload_n 3, 1) := by decide +kernel
theorem dL_law_223 : decode cL_law 223 = .ok (.iconst 2, 1) := by decide +kernel
theorem dL_law_224 : decode cL_law 224 = .ok (.iadd, 1) := by decide +kernel
theorem dL_law_225 : decode cL_law 225 = .ok (.iaload, 1) := by decide +kernel
theorem dL_law_226 : decode cL_law 226 = .ok (.invokevirtual 44, 3) := by decide +kernel
theorem dL_law_229 : decode cL_law 229 = .ok (.aload_n 2, 1) := by decide +kernel
theorem dL_law_230 : decode cL_law 230 = .ok (.aload_n 0, 1) := by decide +kernel
theorem dL_law_231 : decode cL_law 231 = .ok (.iload_n 3, 1) := by decide +kernel
theorem dL_law_232 : decode cL_law 232 = .ok (.iconst 1, 1) := by decide +kernel
theorem dL_law_233 : decode cL_law 233 = .ok (.iadd, 1) := by decide +kernel
theorem dL_law_234 : decode cL_law 234 = .ok (.iaload, 1) := by decide +kernel
theorem dL_law_235 : decode cL_law 235 = .ok (.aload_n 0, 1) := by decide +kernel
theorem dL_law_236 : decode cL_law 236 = .ok (.iload_n 3, 1) := by decide +kernel
theorem dL_law_237 : decode cL_law 237 = .ok (.iconst 2, 1) := by decide +kernel
theorem dL_law_238 : decode cL_law 238 = .ok (.iadd, 1) := by decide +kernel
theorem dL_law_239 : decode cL_law 239 = .ok (.iaload, 1) := by decide +kernel
theorem dL_law_240 : decode cL_law 240 = .ok (.invokevirtual 48, 3) := by decide +kernel
theorem dL_law_243 : decode cL_law 243 = .ok (.if_icmp .eq 100, 3) := by decide +kernel
theorem dL_law_246 : decode cL_law 246 = .ok (.iconst 0, 1) := by decide +kernel
theorem dL_law_247 : decode cL_law 247 = .ok (.ireturn, 1) := by decide +kernel
theorem dL_law_248 : decode cL_law 248 = .ok (.aload_n 1, 1) := by decide +kernel
theorem dL_law_249 : decode cL_law 249 = .ok (.aload_n 0, 1) := by decide +kernel
theorem dL_law_250 : decode cL_law 250 = .ok (.iload_n 3, 1) := by decide +kernel
theorem dL_law_251 : decode cL_law 251 = .ok (.iconst 1, 1) := by decide +kernel
theorem dL_law_252 : decode cL_law 252 = .ok (.iadd, 1) := by decide +kernel
theorem dL_law_253 : decode cL_law 253 = .ok (.iaload, 1) := by decide +kernel
theorem dL_law_254 : decode cL_law 254 = .ok (.invokevirtual 49, 3) := by decide +kernel
theorem dL_law_257 : decode cL_law 257 = .ok (.aload_n 2, 1) := by decide +kernel
theorem dL_law_258 : decode cL_law 258 = .ok (.aload_n 0, 1) := by decide +kernel
theorem dL_law_259 : decode cL_law 259 = .ok (.iload_n 3, 1) := by decide +kernel
theorem dL_law_260 : decode cL_law 260 = .ok (.iconst 1, 1) := by decide +kernel
theorem dL_law_261 : decode cL_law 261 = .ok (.iadd, 1) := by decide +kernel
theorem dL_law_262 : decode cL_law 262 = .ok (.iaload, 1) := by decide +kernel
theorem dL_law_263 : decode cL_law 263 = .ok (.invokevirtual 52, 3) := by decide +kernel
theorem dL_law_266 : decode cL_law 266 = .ok (.if_icmp .eq 77, 3) := by decide +kernel
theorem dL_law_269 : decode cL_law 269 = .ok (.iconst 0, 1) := by decide +kernel
theorem dL_law_270 : decode cL_law 270 = .ok (.ireturn, 1) := by decide +kernel
theorem dL_law_271 : decode cL_law 271 = .ok (.aload_n 1, 1) := by decide +kernel
theorem dL_law_272 : decode cL_law 272 = .ok (.invokevirtual 53, 3) := by decide +kernel
theorem dL_law_275 : decode cL_law 275 = .ok (.aload_n 2, 1) := by decide +kernel
theorem dL_law_276 : decode cL_law 276 = .ok (.invokevirtual 56, 3) := by decide +kernel
theorem dL_law_279 : decode cL_law 279 = .ok (.if_icmp .eq 64, 3) := by decide +kernel
theorem dL_law_282 : decode cL_law 282 = .ok (.iconst 0, 1) := by decide +kernel
theorem dL_law_283 : decode cL_law 283 = .ok (.ireturn, 1) := by decide +kernel
theorem dL_law_284 : decode cL_law 284 = .ok (.aload_n 1, 1) := by decide +kernel
theorem dL_law_285 : decode cL_law 285 = .ok (.invokevirtual 57, 3) := by decide +kernel
theorem dL_law_288 : decode cL_law 288 = .ok (.aload_n 2, 1) := by decide +kernel
theorem dL_law_289 : decode cL_law 289 = .ok (.invokevirtual 61, 3) := by decide +kernel
theorem dL_law_292 : decode cL_law 292 = .ok (.if_icmp .eq 51, 3) := by decide +kernel
theorem dL_law_295 : decode cL_law 295 = .ok (.iconst 0, 1) := by decide +kernel
theorem dL_law_296 : decode cL_law 296 = .ok (.ireturn, 1) := by decide +kernel
theorem dL_law_297 : decode cL_law 297 = .ok (.aload_n 1, 1) := by decide +kernel
theorem dL_law_298 : decode cL_law 298 = .ok (.aload_n 0, 1) := by decide +kernel
theorem dL_law_299 : decode cL_law 299 = .ok (.iload_n 3, 1) := by decide +kernel
theorem dL_law_300 : decode cL_law 300 = .ok (.iconst 1, 1) := by decide +kernel
theorem dL_law_301 : decode cL_law 301 = .ok (.iadd, 1) := by decide +kernel
theorem dL_law_302 : decode cL_law 302 = .ok (.iaload, 1) := by decide +kernel
theorem dL_law_303 : decode cL_law 303 = .ok (.invokevirtual 62, 3) := by decide +kernel
theorem dL_law_306 : decode cL_law 306 = .ok (.aload_n 2, 1) := by decide +kernel
theorem dL_law_307 : decode cL_law 307 = .ok (.aload_n 0, 1) := by decide +kernel
theorem dL_law_308 : decode cL_law 308 = .ok (.iload_n 3, 1) := by decide +kernel
theorem dL_law_309 : decode cL_law 309 = .ok (.iconst 1, 1) := by decide +kernel
theorem dL_law_310 : decode cL_law 310 = .ok (.iadd, 1) := by decide +kernel
theorem dL_law_311 : decode cL_law 311 = .ok (.iaload, 1) := by decide +kernel
theorem dL_law_312 : decode cL_law 312 = .ok (.invokevirtual 65, 3) := by decide +kernel
theorem dL_law_315 : decode cL_law 315 = .ok (.if_icmp .eq 28, 3) := by decide +kernel
theorem dL_law_318 : decode cL_law 318 = .ok (.iconst 0, 1) := by decide +kernel
theorem dL_law_319 : decode cL_law 319 = .ok (.ireturn, 1) := by decide +kernel
theorem dL_law_320 : decode cL_law 320 = .ok (.aload_n 1, 1) := by decide +kernel
theorem dL_law_321 : decode cL_law 321 = .ok (.aload_n 0, 1) := by decide +kernel
theorem dL_law_322 : decode cL_law 322 = .ok (.iload_n 3, 1) := by decide +kernel
theorem dL_law_323 : decode cL_law 323 = .ok (.iconst 1, 1) := by decide +kernel
theorem dL_law_324 : decode cL_law 324 = .ok (.iadd, 1) := by decide +kernel
theorem dL_law_325 : decode cL_law 325 = .ok (.iaload, 1) := by decide +kernel
theorem dL_law_326 : decode cL_law 326 = .ok (.invokevirtual 66, 3) := by decide +kernel
theorem dL_law_329 : decode cL_law 329 = .ok (.aload_n 2, 1) := by decide +kernel
theorem dL_law_330 : decode cL_law 330 = .ok (.aload_n 0, 1) := by decide +kernel
theorem dL_law_331 : decode cL_law 331 = .ok (.iload_n 3, 1) := by decide +kernel
theorem dL_law_332 : decode cL_law 332 = .ok (.iconst 1, 1) := by decide +kernel
theorem dL_law_333 : decode cL_law 333 = .ok (.iadd, 1) := by decide +kernel
theorem dL_law_334 : decode cL_law 334 = .ok (.iaload, 1) := by decide +kernel
theorem dL_law_335 : decode cL_law 335 = .ok (.invokevirtual 69, 3) := by decide +kernel
theorem dL_law_338 : decode cL_law 338 = .ok (.if_icmp .eq 5, 3) := by decide +kernel
theorem dL_law_341 : decode cL_law 341 = .ok (.iconst 0, 1) := by decide +kernel
theorem dL_law_342 : decode cL_law 342 = .ok (.ireturn, 1) := by decide +kernel
theorem dL_law_343 : decode cL_law 343 = .ok (.iinc 3 3, 3) := by decide +kernel
theorem dL_law_346 : decode cL_law 346 = .ok (.goto (-318), 3) := by decide +kernel
theorem dL_law_349 : decode cL_law 349 = .ok (.iconst 1, 1) := by decide +kernel
theorem dL_law_350 : decode cL_law 350 = .ok (.ireturn, 1) := by decide +kernel
end
section
/-! ROWS of our own: one world an object, contracts that change nothing else, calls within the class, fields and arrays by their place -/
theorem nI_inc (i : Nat) : nI i + Int32.ofInt 1 = nI (i + 1) := nI_1 i
abbrev vwCl : List vw_C := [(RX1, TX1, 6), (RX2, TX2, 4)]
abbrev rmd (d : Nat) : Room := { frames := d, cells := 0, slots := 0, locals := 40 * d }
theorem rm_ok {d d' L : Nat} (h : d + 1 ≤ d') (hL : L ≤ 21) : (rmd d).frames + 1 ≤ (rmd d').frames ∧ 8 + (L + 11) + (rmd d).locals ≤ (rmd d').locals := by
  refine ⟨h, ?_⟩
  show 8 + (L + 11) + 40 * d ≤ 40 * d'
  omega
/-- tables, array classes, addresses, picture -/
abbrev XG (σ : Type) : Type := va_G × List (ClassId × FieldType) × List Nat × (σ → va_W)
def XA (ad : List Nat) : Nat → Prop := fun q => q ∈ ad
section XS
variable {σ : Type}
def XB (x : XG σ) (u : σ) (t : State) : Prop := va_P x.1 vwCl (x.2.2.2 u) t.heap ∧ va_K x.1 vwCl x.2.1 t ∧ va_D (XA x.2.2.1) (x.2.2.2 u)
def XI (x : XG σ) (s : State) (u : σ) (H : Heap) (locs : List Loc) : Prop := va_P x.1 vwCl (x.2.2.2 u) H ∧ va_K x.1 vwCl x.2.1 s ∧ va_D (XA x.2.2.1) (x.2.2.2 u) ∧ va_S (XA x.2.2.1) s.heap H locs
/-- a contract: from the picture u the method answers r and leaves the picture u', with post r u'; nothing else is changed -/
def MI (x : XG σ) (l : Launch) (y : MethodName) (cc : ByteArray) (nL : Nat) (ty : FieldType) (d : Nat) (av : List Value) (u : σ) (post : Int32 → σ → Prop) : Prop :=
  Met l y (ws_ y cc nL (some ty)) (rmd d) (va_Pc av (XB x u)) (va_Qi post (XB x) (XA x.2.2.1)) 0 0 (XA x.2.2.1)
def MV (x : XG σ) (l : Launch) (y : MethodName) (cc : ByteArray) (nL : Nat) (d : Nat) (av : List Value) (u : σ) (post : σ → Prop) : Prop :=
  Met l y (ws_ y cc nL none) (rmd d) (va_Pc av (XB x u)) (va_Qv post (XB x) (XA x.2.2.1)) 0 0 (XA x.2.2.1)
set_option maxHeartbeats 4000000 in
theorem MI_of {x : XG σ} {l : Launch} {y : MethodName} {cc : ByteArray} {nL : Nat} {ty : FieldType} {d : Nat} {av : List Value} {u : σ} {post : Int32 → σ → Prop} (hy : plainName y.cls = true) (hsz : (lg_sl av).length ≤ nL)
    (body : ∀ (p : Program) (e : Env) (s : State) (m : MethodId) (args : Array Value) (below : List Frame) (meth : Method) (c : Code) (Q : State → Prop), CallFix p m c cc nL s args lw_all y.cls →
      (∀ (H : Heap) (locs : List Loc) (pc : Nat) (ls : Array Slot) (r : Int32) (u' : σ), decode cc pc = .ok (.ireturn, 1) → narrow ty (.int r) = .int r → post r u' → XI x s u' H locs → W p l e (rmd d) s m args below meth c H locs 0 0 Q (F0 m pc ls [.int r])) →
      ∀ ls : Array Slot, lv_has ls nL (lv_args 0 av) → XI x s u s.heap [] → W p l e (rmd d) s m args below meth c s.heap [] 0 0 Q (F0 m 0 ls [])) : MI x l y cc nL ty d av u post := by
  refine Met.ofW (cc := cc) (maxL := nL) (ret := some ty) hy rfl ?_
  intro p e s m args below meth c s₁ B hml hv
  obtain ⟨rfl, hP, hK, hD⟩ := hv
  have hts := atoms_spec (ws := ws_ y cc nL (some ty)) B.pre
  have hts : ∀ w ∈ lw_all, w.before _ s = true := fun w h => hts w (List.mem_cons_of_mem _ h)
  have hown : s.vm.findClass y.cls = some m.cls := findClass_of_methodNamed B.named
  rw [lg_entry_eq]
  refine body p e s m _ below meth c _ ⟨B.exec, B.bytes, hml, hown, hts⟩ ?_ _ (lv_entry av hsz) ⟨hP, hK, hD, va_S.rf⟩
  intro H locs pc ls r u' hd hn hp I
  exact W.zret B.exec B.bytes B.returns hn (fun t ht hW => ⟨⟨r, u', rfl, hp, by rw [ht]; exact I.1, va_K.moved hW.alike I.2.1, I.2.2.1⟩, I.2.2.2.F ht⟩) I.2.2.2.2.2 hd
set_option maxHeartbeats 4000000 in
theorem MV_of {x : XG σ} {l : Launch} {y : MethodName} {cc : ByteArray} {nL : Nat} {d : Nat} {av : List Value} {u : σ} {post : σ → Prop} (hy : plainName y.cls = true) (hsz : (lg_sl av).length ≤ nL)
    (body : ∀ (p : Program) (e : Env) (s : State) (m : MethodId) (args : Array Value) (below : List Frame) (meth : Method) (c : Code) (Q : State → Prop), CallFix p m c cc nL s args lw_all y.cls →
      (∀ (H : Heap) (locs : List Loc) (pc : Nat) (ls : Array Slot) (u' : σ), decode cc pc = .ok (.return_, 1) → post u' → XI x s u' H locs → W p l e (rmd d) s m args below meth c H locs 0 0 Q (F0 m pc ls [])) →
      ∀ ls : Array Slot, lv_has ls nL (lv_args 0 av) → XI x s u s.heap [] → W p l e (rmd d) s m args below meth c s.heap [] 0 0 Q (F0 m 0 ls [])) : MV x l y cc nL d av u post := by
  refine Met.ofW (cc := cc) (maxL := nL) (ret := none) hy rfl ?_
  intro p e s m args below meth c s₁ B hml hv
  obtain ⟨rfl, hP, hK, hD⟩ := hv
  have hts := atoms_spec (ws := ws_ y cc nL none) B.pre
  have hts : ∀ w ∈ lw_all, w.before _ s = true := fun w h => hts w (List.mem_cons_of_mem _ h)
  have hown : s.vm.findClass y.cls = some m.cls := findClass_of_methodNamed B.named
  rw [lg_entry_eq]
  refine body p e s m _ below meth c _ ⟨B.exec, B.bytes, hml, hown, hts⟩ ?_ _ (lv_entry av hsz) ⟨hP, hK, hD, va_S.rf⟩
  intro H locs pc ls u' hd hp I
  exact W.vret B.exec B.bytes B.returns (fun t ht hW => ⟨⟨u', rfl, hp, by rw [ht]; exact I.1, va_K.moved hW.alike I.2.1, I.2.2.1⟩, I.2.2.2.F ht⟩) I.2.2.2.2.2 hd
theorem XB_blind (x : XG σ) (u : σ) (av : List Value) : FrameBlind (va_Pc av (XB x u)) := fun a U g mk q => by
  obtain ⟨q0, qP, qK, qD⟩ := q
  exact ⟨q0, qP, va_K.moved (u := U) (U := U.calling g mk a) (Vm.Alike.refl U.vm) qK, qD⟩
end XS
section XR
variable {σ : Type} {x : XG σ} {p : Program} {l : Launch} {e : Env} {R : Room} {s : State} {m : MethodId} {args : Array Value} {below : List Frame} {meth : Method} {c : Code} {H : Heap} {locs : List Loc} {cells slots : Nat} {Q : State → Prop} {cc : ByteArray} {pc : Nat} {ls : Array Slot} {rest : List Value}
theorem x_top {z v : Int32} (h : z = v) (k : W p l e R s m args below meth c H locs cells slots Q (F0 m pc ls (.int v :: rest))) : W p l e R s m args below meth c H locs cells slots Q (F0 m pc ls (.int z :: rest)) := by
  rw [h]; exact k
set_option maxHeartbeats 4000000 in
theorem x_calli {u : σ} {y : MethodName} {bytes : ByteArray} {maxL nL n index d b : Nat} {ty : FieldType} {own C : String} {As st : List Value} {post : Int32 → σ → Prop} (S : CallFix p m c cc nL s args lw_all own) (I : XI x s u H locs) (hM : MI x l y bytes maxL ty d (.ref b :: As) u post)
    (cw : CallW R s args own C index y bytes maxL (some ty) (ws_ y bytes maxL (some ty)) (rmd d) 0 0 n) (hrec : ∃ cellB : Cell, H[b]? = some cellB ∧ cellB.vm.isStatics = false ∧ s.vm.findClass C = some cellB.cls)
    (hn : As.length = n) (hsz : ls.size = nL) (hst : st = As.reverse ++ .ref b :: rest) (hW : (rest.map fun v => v.category).sum ≤ 8) (hdg : decode cc pc = .ok (.invokevirtual index, 3)) (hf : cells ≤ R.cells ∧ slots ≤ R.slots)
    (kk : ∀ (r : Int32) (u' : σ) (H1 : Heap) (locs1 : List Loc), post r u' → XI x s u' H1 locs1 → W p l e R s m args below meth c H1 locs1 cells slots Q (F0 m (pc + 3) ls (.int r :: rest))) : W p l e R s m args below meth c H locs cells slots Q (F0 m pc ls st) := by
  have hrun := va_runV (H := H) (locs := locs) (cells := cells) (slots := slots) (e := e) (below := below) (meth := meth) (g := F0 m pc ls st) (As := As) (rest := rest) S hM cw ⟨XB_blind x u _, hrec, fun U hU hW => ⟨rfl, by rw [hU]; exact I.1, va_K.moved hW.alike I.2.1, I.2.2.1⟩⟩ rfl hn hsz hst (lv_room hW) hdg hf
  exact va_calli hrun I.2.2.2 (fun q _ h => h) (fun q h => h) (fun r u' t H1 locs1 ht hvm hp hB hz hk hS => kk r u' H1 locs1 hp ⟨by rw [← ht]; exact hB.1, va_K.moved hvm.symm hB.2.1, hB.2.2, hS⟩)
set_option maxHeartbeats 4000000 in
theorem x_callv {u : σ} {y : MethodName} {bytes : ByteArray} {maxL nL n index d b : Nat} {own C : String} {As st : List Value} {post : σ → Prop} (S : CallFix p m c cc nL s args lw_all own) (I : XI x s u H locs) (hM : MV x l y bytes maxL d (.ref b :: As) u post)
    (cw : CallW R s args own C index y bytes maxL none (ws_ y bytes maxL none) (rmd d) 0 0 n) (hrec : ∃ cellB : Cell, H[b]? = some cellB ∧ cellB.vm.isStatics = false ∧ s.vm.findClass C = some cellB.cls)
    (hn : As.length = n) (hsz : ls.size = nL) (hst : st = As.reverse ++ .ref b :: rest) (hW : (rest.map fun v => v.category).sum ≤ 8) (hdg : decode cc pc = .ok (.invokevirtual index, 3)) (hf : cells ≤ R.cells ∧ slots ≤ R.slots)
    (kk : ∀ (u' : σ) (H1 : Heap) (locs1 : List Loc), post u' → XI x s u' H1 locs1 → W p l e R s m args below meth c H1 locs1 cells slots Q (F0 m (pc + 3) ls rest)) : W p l e R s m args below meth c H locs cells slots Q (F0 m pc ls st) := by
  have hrun := va_runV (H := H) (locs := locs) (cells := cells) (slots := slots) (e := e) (below := below) (meth := meth) (g := F0 m pc ls st) (As := As) (rest := rest) S hM cw ⟨XB_blind x u _, hrec, fun U hU hW => ⟨rfl, by rw [hU]; exact I.1, va_K.moved hW.alike I.2.1, I.2.2.1⟩⟩ rfl hn hsz hst (lv_room hW) hdg hf
  exact va_callv hrun I.2.2.2 (fun q _ h => h) (fun q h => h) (fun u' t H1 locs1 ht hvm hp hB hz hk hS => kk u' H1 locs1 hp ⟨by rw [← ht]; exact hB.1, va_K.moved hvm.symm hB.2.1, hB.2.2, hS⟩)
end XR
end
section
/-- tables, addresses (0: the object, 1 .. its arrays), classes of the arrays -/
abbrev Geo : Type := va_G × (Nat → Nat) × (Nat → ClassId)
abbrev S1 : Type := Nat × (Nat → Int32) × (Nat → Int32) × Int32 × (Nat → Int32) × (Nat → Int32)
abbrev w1 (g : Geo) (u : S1) : va_W := [(g.2.1 0, .inr (0, [.int (nI u.1), .ref (g.2.1 1), .ref (g.2.1 2), .int u.2.2.2.1, .ref (g.2.1 3), .ref (g.2.1 4)])), (g.2.1 1, .inl (g.2.2 1, 9, .inl u.2.1)), (g.2.1 2, .inl (g.2.2 2, 9, .inl u.2.2.1)), (g.2.1 3, .inl (g.2.2 3, 9, .inl u.2.2.2.2.1)), (g.2.1 4, .inl (g.2.2 4, 9, .inl u.2.2.2.2.2))]
abbrev x1 (g : Geo) : XG S1 := (g.1, [(g.2.2 1, .int), (g.2.2 2, .int), (g.2.2 3, .int), (g.2.2 4, .byte)], [g.2.1 0, g.2.1 1, g.2.1 2, g.2.1 3, g.2.1 4], w1 g)
section R1
variable {g : Geo} {p : Program} {l : Launch} {e : Env} {R : Room} {s : State} {m : MethodId} {args : Array Value} {below : List Frame} {meth : Method} {c : Code} {H : Heap} {locs : List Loc} {cells slots : Nat} {Q : State → Prop} {cc : ByteArray} {pc nL : Nat} {ls : Array Slot} {rest : List Value}
variable {n : Nat} {F : Nat → Int32} {L : Nat → Int32} {pt : Int32} {N : Nat → Int32} {lb : Nat → Int32}
theorem g1_n (S : CallFix p m c cc nL s args lw_all RX1) (I : XI (x1 g) s (n, F, L, pt, N, lb) H locs) (hdg : decode cc pc = .ok (.getfield 23, 3)) (kk : W p l e R s m args below meth c H locs cells slots Q (F0 m (pc + 3) ls (.int (nI n) :: rest))) : W p l e R s m args below meth c H locs cells slots Q (F0 m pc ls (.ref (g.2.1 0) :: rest)) :=
  va_get (D := g.1) (ci := 0) (v := .int (nI n)) (C := RX1) (T := TX1) (N := 6) S.1 S.2.1 S.2.2.2.2 in_X1 S.2.2.2.1 I.2.1 I.1 0 rfl rfl 0 (by decide) (S.2.2.2.2 _ q30) (fun _ h9 => h9) rfl hdg kk
theorem p1_n (S : CallFix p m c cc nL s args lw_all RX1) (I : XI (x1 g) s (n, F, L, pt, N, lb) H locs) {v : Int32} {n' : Nat} (hv : v = nI n') (hdg : decode cc pc = .ok (.putfield 23, 3)) (kk : ∀ (H1 : Heap) (locs1 : List Loc), XI (x1 g) s (n', F, L, pt, N, lb) H1 locs1 → W p l e R s m args below meth c H1 locs1 cells slots Q (F0 m (pc + 3) ls rest)) : W p l e R s m args below meth c H locs cells slots Q (F0 m pc ls (.int v :: .ref (g.2.1 0) :: rest)) := by
  subst hv
  exact va_put (D := g.1) (ci := 0) (v := .int (nI n')) (ty := .int) (C := RX1) (T := TX1) (N := 6) S.1 S.2.1 S.2.2.2.2 in_X1 tyX1 tyX1_ok nmX1 S.2.2.2.1 I.2.1 I.1 I.2.2.1 I.2.2.2 0 rfl rfl 0 (by decide) (S.2.2.2.2 _ q30) (fun _ h9 => h9) rfl (by decide +kernel) rfl rfl (Nat.le_of_ble_eq_true rfl) hdg (fun H1 locs1 hP hD hS => kk H1 locs1 ⟨hP, I.2.1, hD, hS⟩)
theorem g1_F (S : CallFix p m c cc nL s args lw_all RX1) (I : XI (x1 g) s (n, F, L, pt, N, lb) H locs) (hdg : decode cc pc = .ok (.getfield 7, 3)) (kk : W p l e R s m args below meth c H locs cells slots Q (F0 m (pc + 3) ls (.ref (g.2.1 1) :: rest))) : W p l e R s m args below meth c H locs cells slots Q (F0 m pc ls (.ref (g.2.1 0) :: rest)) :=
  va_get (D := g.1) (ci := 0) (v := .ref (g.2.1 1)) (C := RX1) (T := TX1) (N := 6) S.1 S.2.1 S.2.2.2.2 in_X1 S.2.2.2.1 I.2.1 I.1 0 rfl rfl 1 (by decide) (S.2.2.2.2 _ q31) (fun _ h9 => h9) rfl hdg kk
theorem g1_L (S : CallFix p m c cc nL s args lw_all RX1) (I : XI (x1 g) s (n, F, L, pt, N, lb) H locs) (hdg : decode cc pc = .ok (.getfield 13, 3)) (kk : W p l e R s m args below meth c H locs cells slots Q (F0 m (pc + 3) ls (.ref (g.2.1 2) :: rest))) : W p l e R s m args below meth c H locs cells slots Q (F0 m pc ls (.ref (g.2.1 0) :: rest)) :=
  va_get (D := g.1) (ci := 0) (v := .ref (g.2.1 2)) (C := RX1) (T := TX1) (N := 6) S.1 S.2.1 S.2.2.2.2 in_X1 S.2.2.2.1 I.2.1 I.1 0 rfl rfl 2 (by decide) (S.2.2.2.2 _ q32) (fun _ h9 => h9) rfl hdg kk
theorem g1_pt (S : CallFix p m c cc nL s args lw_all RX1) (I : XI (x1 g) s (n, F, L, pt, N, lb) H locs) (hdg : decode cc pc = .ok (.getfield 45, 3)) (kk : W p l e R s m args below meth c H locs cells slots Q (F0 m (pc + 3) ls (.int (pt) :: rest))) : W p l e R s m args below meth c H locs cells slots Q (F0 m pc ls (.ref (g.2.1 0) :: rest)) :=
  va_get (D := g.1) (ci := 0) (v := .int (pt)) (C := RX1) (T := TX1) (N := 6) S.1 S.2.1 S.2.2.2.2 in_X1 S.2.2.2.1 I.2.1 I.1 0 rfl rfl 3 (by decide) (S.2.2.2.2 _ q33) (fun _ h9 => h9) rfl hdg kk
theorem p1_pt (S : CallFix p m c cc nL s args lw_all RX1) (I : XI (x1 g) s (n, F, L, pt, N, lb) H locs) {v : Int32} (hdg : decode cc pc = .ok (.putfield 45, 3)) (kk : ∀ (H1 : Heap) (locs1 : List Loc), XI (x1 g) s (n, F, L, v, N, lb) H1 locs1 → W p l e R s m args below meth c H1 locs1 cells slots Q (F0 m (pc + 3) ls rest)) : W p l e R s m args below meth c H locs cells slots Q (F0 m pc ls (.int v :: .ref (g.2.1 0) :: rest)) := by
  exact va_put (D := g.1) (ci := 0) (v := .int (v)) (ty := .int) (C := RX1) (T := TX1) (N := 6) S.1 S.2.1 S.2.2.2.2 in_X1 tyX1 tyX1_ok nmX1 S.2.2.2.1 I.2.1 I.1 I.2.2.1 I.2.2.2 0 rfl rfl 3 (by decide) (S.2.2.2.2 _ q33) (fun _ h9 => h9) rfl (by decide +kernel) rfl rfl (Nat.le_of_ble_eq_true rfl) hdg (fun H1 locs1 hP hD hS => kk H1 locs1 ⟨hP, I.2.1, hD, hS⟩)
theorem g1_N (S : CallFix p m c cc nL s args lw_all RX1) (I : XI (x1 g) s (n, F, L, pt, N, lb) H locs) (hdg : decode cc pc = .ok (.getfield 16, 3)) (kk : W p l e R s m args below meth c H locs cells slots Q (F0 m (pc + 3) ls (.ref (g.2.1 3) :: rest))) : W p l e R s m args below meth c H locs cells slots Q (F0 m pc ls (.ref (g.2.1 0) :: rest)) :=
  va_get (D := g.1) (ci := 0) (v := .ref (g.2.1 3)) (C := RX1) (T := TX1) (N := 6) S.1 S.2.1 S.2.2.2.2 in_X1 S.2.2.2.1 I.2.1 I.1 0 rfl rfl 4 (by decide) (S.2.2.2.2 _ q34) (fun _ h9 => h9) rfl hdg kk
theorem g1_lb (S : CallFix p m c cc nL s args lw_all RX1) (I : XI (x1 g) s (n, F, L, pt, N, lb) H locs) (hdg : decode cc pc = .ok (.getfield 19, 3)) (kk : W p l e R s m args below meth c H locs cells slots Q (F0 m (pc + 3) ls (.ref (g.2.1 4) :: rest))) : W p l e R s m args below meth c H locs cells slots Q (F0 m pc ls (.ref (g.2.1 0) :: rest)) :=
  va_get (D := g.1) (ci := 0) (v := .ref (g.2.1 4)) (C := RX1) (T := TX1) (N := 6) S.1 S.2.1 S.2.2.2.2 in_X1 S.2.2.2.1 I.2.1 I.1 0 rfl rfl 5 (by decide) (S.2.2.2.2 _ q35) (fun _ h9 => h9) rfl hdg kk
theorem a1_rdF (S : CallFix p m c cc nL s args lw_all RX1) (I : XI (x1 g) s (n, F, L, pt, N, lb) H locs) {i : Int32} (hi : vp_in i 9) (hdg : decode cc pc = .ok (.iaload, 1)) (kk : W p l e R s m args below meth c H locs cells slots Q (F0 m (pc + 1) ls (.int (F i.toNatClampNeg) :: rest))) : W p l e R s m args below meth c H locs cells slots Q (F0 m pc ls (.int i :: .ref (g.2.1 1) :: rest)) :=
  va_iald S.1 S.2.1 I.2.1 I.1 1 0 rfl rfl hi hdg kk
theorem a1_ldF (S : CallFix p m c cc nL s args lw_all RX1) (I : XI (x1 g) s (n, F, L, pt, N, lb) H locs) {k : Nat} (hk : k < 9) (hdg : decode cc pc = .ok (.iaload, 1)) (kk : W p l e R s m args below meth c H locs cells slots Q (F0 m (pc + 1) ls (.int (F k) :: rest))) : W p l e R s m args below meth c H locs cells slots Q (F0 m pc ls (.int (nI k) :: .ref (g.2.1 1) :: rest)) :=
  a1_rdF S I (vp_in_nI hk (by decide)) hdg (by rw [nI_clamp (by omega)]; exact kk)
theorem a1_wrF (S : CallFix p m c cc nL s args lw_all RX1) (I : XI (x1 g) s (n, F, L, pt, N, lb) H locs) {i v : Int32} (hi : vp_in i 9) (hdg : decode cc pc = .ok (.iastore, 1)) (kk : ∀ (H1 : Heap) (locs1 : List Loc), XI (x1 g) s (n, upd F i.toNatClampNeg v, L, pt, N, lb) H1 locs1 → W p l e R s m args below meth c H1 locs1 cells slots Q (F0 m (pc + 1) ls rest)) : W p l e R s m args below meth c H locs cells slots Q (F0 m pc ls (.int v :: .int i :: .ref (g.2.1 1) :: rest)) :=
  va_iast S.1 S.2.1 I.2.1 I.1 I.2.2.1 I.2.2.2 1 0 rfl rfl hi hdg (fun H1 locs1 hP hD hS => kk H1 locs1 ⟨hP, I.2.1, hD, hS⟩)
theorem a1_stF (S : CallFix p m c cc nL s args lw_all RX1) (I : XI (x1 g) s (n, F, L, pt, N, lb) H locs) {k : Nat} {v : Int32} (hk : k < 9) (hdg : decode cc pc = .ok (.iastore, 1)) (kk : ∀ (H1 : Heap) (locs1 : List Loc), XI (x1 g) s (n, upd F k v, L, pt, N, lb) H1 locs1 → W p l e R s m args below meth c H1 locs1 cells slots Q (F0 m (pc + 1) ls rest)) : W p l e R s m args below meth c H locs cells slots Q (F0 m pc ls (.int v :: .int (nI k) :: .ref (g.2.1 1) :: rest)) :=
  a1_wrF S I (vp_in_nI hk (by decide)) hdg (by rw [nI_clamp (by omega)]; exact kk)
theorem a1_rdL (S : CallFix p m c cc nL s args lw_all RX1) (I : XI (x1 g) s (n, F, L, pt, N, lb) H locs) {i : Int32} (hi : vp_in i 9) (hdg : decode cc pc = .ok (.iaload, 1)) (kk : W p l e R s m args below meth c H locs cells slots Q (F0 m (pc + 1) ls (.int (L i.toNatClampNeg) :: rest))) : W p l e R s m args below meth c H locs cells slots Q (F0 m pc ls (.int i :: .ref (g.2.1 2) :: rest)) :=
  va_iald S.1 S.2.1 I.2.1 I.1 2 1 rfl rfl hi hdg kk
theorem a1_ldL (S : CallFix p m c cc nL s args lw_all RX1) (I : XI (x1 g) s (n, F, L, pt, N, lb) H locs) {k : Nat} (hk : k < 9) (hdg : decode cc pc = .ok (.iaload, 1)) (kk : W p l e R s m args below meth c H locs cells slots Q (F0 m (pc + 1) ls (.int (L k) :: rest))) : W p l e R s m args below meth c H locs cells slots Q (F0 m pc ls (.int (nI k) :: .ref (g.2.1 2) :: rest)) :=
  a1_rdL S I (vp_in_nI hk (by decide)) hdg (by rw [nI_clamp (by omega)]; exact kk)
theorem a1_wrL (S : CallFix p m c cc nL s args lw_all RX1) (I : XI (x1 g) s (n, F, L, pt, N, lb) H locs) {i v : Int32} (hi : vp_in i 9) (hdg : decode cc pc = .ok (.iastore, 1)) (kk : ∀ (H1 : Heap) (locs1 : List Loc), XI (x1 g) s (n, F, upd L i.toNatClampNeg v, pt, N, lb) H1 locs1 → W p l e R s m args below meth c H1 locs1 cells slots Q (F0 m (pc + 1) ls rest)) : W p l e R s m args below meth c H locs cells slots Q (F0 m pc ls (.int v :: .int i :: .ref (g.2.1 2) :: rest)) :=
  va_iast S.1 S.2.1 I.2.1 I.1 I.2.2.1 I.2.2.2 2 1 rfl rfl hi hdg (fun H1 locs1 hP hD hS => kk H1 locs1 ⟨hP, I.2.1, hD, hS⟩)
theorem a1_stL (S : CallFix p m c cc nL s args lw_all RX1) (I : XI (x1 g) s (n, F, L, pt, N, lb) H locs) {k : Nat} {v : Int32} (hk : k < 9) (hdg : decode cc pc = .ok (.iastore, 1)) (kk : ∀ (H1 : Heap) (locs1 : List Loc), XI (x1 g) s (n, F, upd L k v, pt, N, lb) H1 locs1 → W p l e R s m args below meth c H1 locs1 cells slots Q (F0 m (pc + 1) ls rest)) : W p l e R s m args below meth c H locs cells slots Q (F0 m pc ls (.int v :: .int (nI k) :: .ref (g.2.1 2) :: rest)) :=
  a1_wrL S I (vp_in_nI hk (by decide)) hdg (by rw [nI_clamp (by omega)]; exact kk)
theorem a1_rdN (S : CallFix p m c cc nL s args lw_all RX1) (I : XI (x1 g) s (n, F, L, pt, N, lb) H locs) {i : Int32} (hi : vp_in i 9) (hdg : decode cc pc = .ok (.iaload, 1)) (kk : W p l e R s m args below meth c H locs cells slots Q (F0 m (pc + 1) ls (.int (N i.toNatClampNeg) :: rest))) : W p l e R s m args below meth c H locs cells slots Q (F0 m pc ls (.int i :: .ref (g.2.1 3) :: rest)) :=
  va_iald S.1 S.2.1 I.2.1 I.1 3 2 rfl rfl hi hdg kk
theorem a1_ldN (S : CallFix p m c cc nL s args lw_all RX1) (I : XI (x1 g) s (n, F, L, pt, N, lb) H locs) {k : Nat} (hk : k < 9) (hdg : decode cc pc = .ok (.iaload, 1)) (kk : W p l e R s m args below meth c H locs cells slots Q (F0 m (pc + 1) ls (.int (N k) :: rest))) : W p l e R s m args below meth c H locs cells slots Q (F0 m pc ls (.int (nI k) :: .ref (g.2.1 3) :: rest)) :=
  a1_rdN S I (vp_in_nI hk (by decide)) hdg (by rw [nI_clamp (by omega)]; exact kk)
theorem a1_wrN (S : CallFix p m c cc nL s args lw_all RX1) (I : XI (x1 g) s (n, F, L, pt, N, lb) H locs) {i v : Int32} (hi : vp_in i 9) (hdg : decode cc pc = .ok (.iastore, 1)) (kk : ∀ (H1 : Heap) (locs1 : List Loc), XI (x1 g) s (n, F, L, pt, upd N i.toNatClampNeg v, lb) H1 locs1 → W p l e R s m args below meth c H1 locs1 cells slots Q (F0 m (pc + 1) ls rest)) : W p l e R s m args below meth c H locs cells slots Q (F0 m pc ls (.int v :: .int i :: .ref (g.2.1 3) :: rest)) :=
  va_iast S.1 S.2.1 I.2.1 I.1 I.2.2.1 I.2.2.2 3 2 rfl rfl hi hdg (fun H1 locs1 hP hD hS => kk H1 locs1 ⟨hP, I.2.1, hD, hS⟩)
theorem a1_stN (S : CallFix p m c cc nL s args lw_all RX1) (I : XI (x1 g) s (n, F, L, pt, N, lb) H locs) {k : Nat} {v : Int32} (hk : k < 9) (hdg : decode cc pc = .ok (.iastore, 1)) (kk : ∀ (H1 : Heap) (locs1 : List Loc), XI (x1 g) s (n, F, L, pt, upd N k v, lb) H1 locs1 → W p l e R s m args below meth c H1 locs1 cells slots Q (F0 m (pc + 1) ls rest)) : W p l e R s m args below meth c H locs cells slots Q (F0 m pc ls (.int v :: .int (nI k) :: .ref (g.2.1 3) :: rest)) :=
  a1_wrN S I (vp_in_nI hk (by decide)) hdg (by rw [nI_clamp (by omega)]; exact kk)
theorem a1_rdlb (S : CallFix p m c cc nL s args lw_all RX1) (I : XI (x1 g) s (n, F, L, pt, N, lb) H locs) {i : Int32} (hi : vp_in i 9) (hdg : decode cc pc = .ok (.baload, 1)) (kk : W p l e R s m args below meth c H locs cells slots Q (F0 m (pc + 1) ls (.int (lb i.toNatClampNeg) :: rest))) : W p l e R s m args below meth c H locs cells slots Q (F0 m pc ls (.int i :: .ref (g.2.1 4) :: rest)) :=
  va_bald S.1 S.2.1 I.2.1 I.1 4 3 rfl rfl hi hdg kk
theorem a1_ldlb (S : CallFix p m c cc nL s args lw_all RX1) (I : XI (x1 g) s (n, F, L, pt, N, lb) H locs) {k : Nat} (hk : k < 9) (hdg : decode cc pc = .ok (.baload, 1)) (kk : W p l e R s m args below meth c H locs cells slots Q (F0 m (pc + 1) ls (.int (lb k) :: rest))) : W p l e R s m args below meth c H locs cells slots Q (F0 m pc ls (.int (nI k) :: .ref (g.2.1 4) :: rest)) :=
  a1_rdlb S I (vp_in_nI hk (by decide)) hdg (by rw [nI_clamp (by omega)]; exact kk)
theorem a1_wrlb (S : CallFix p m c cc nL s args lw_all RX1) (I : XI (x1 g) s (n, F, L, pt, N, lb) H locs) {i v v' : Int32} (hv : vp_nar .byte v = v') (hi : vp_in i 9) (hdg : decode cc pc = .ok (.bastore, 1)) (kk : ∀ (H1 : Heap) (locs1 : List Loc), XI (x1 g) s (n, F, L, pt, N, upd lb i.toNatClampNeg v') H1 locs1 → W p l e R s m args below meth c H1 locs1 cells slots Q (F0 m (pc + 1) ls rest)) : W p l e R s m args below meth c H locs cells slots Q (F0 m pc ls (.int v :: .int i :: .ref (g.2.1 4) :: rest)) := by
  subst hv
  exact va_bast S.1 S.2.1 I.2.1 I.1 I.2.2.1 I.2.2.2 4 3 rfl rfl hi hdg (fun H1 locs1 hP hD hS => kk H1 locs1 ⟨hP, I.2.1, hD, hS⟩)
theorem a1_stlb (S : CallFix p m c cc nL s args lw_all RX1) (I : XI (x1 g) s (n, F, L, pt, N, lb) H locs) {k : Nat} {v v' : Int32} (hv : vp_nar .byte v = v') (hk : k < 9) (hdg : decode cc pc = .ok (.bastore, 1)) (kk : ∀ (H1 : Heap) (locs1 : List Loc), XI (x1 g) s (n, F, L, pt, N, upd lb k v') H1 locs1 → W p l e R s m args below meth c H1 locs1 cells slots Q (F0 m (pc + 1) ls rest)) : W p l e R s m args below meth c H locs cells slots Q (F0 m pc ls (.int v :: .int (nI k) :: .ref (g.2.1 4) :: rest)) :=
  a1_wrlb S I hv (vp_in_nI hk (by decide)) hdg (by rw [nI_clamp (by omega)]; exact kk)
theorem rec1 {u : S1} (I : XI (x1 g) s u H locs) : ∃ cellB : Cell, H[g.2.1 0]? = some cellB ∧ cellB.vm.isStatics = false ∧ s.vm.findClass RX1 = some cellB.cls := va_recv I.2.1 I.1 (ci := 0) (q0 := 0) rfl rfl
theorem c1_i {u : S1} {y : MethodName} {bytes : ByteArray} {maxL n index d d' : Nat} {ty : FieldType} {As st : List Value} {post : Int32 → S1 → Prop} (S : CallFix p m c cc nL s args lw_all RX1) (I : XI (x1 g) s u H locs) (hM : MI (x1 g) l y bytes maxL ty d (.ref (g.2.1 0) :: As) u post) (cw : CallW (rmd d') s args RX1 RX1 index y bytes maxL (some ty) (ws_ y bytes maxL (some ty)) (rmd d) 0 0 n) (hn : As.length = n) (hsz : ls.size = nL) (hst : st = As.reverse ++ .ref (g.2.1 0) :: rest) (hW : (rest.map fun v => v.category).sum ≤ 8) (hdg : decode cc pc = .ok (.invokevirtual index, 3)) (kk : ∀ (r : Int32) (u' : S1) (H1 : Heap) (locs1 : List Loc), post r u' → XI (x1 g) s u' H1 locs1 → W p l e (rmd d') s m args below meth c H1 locs1 0 0 Q (F0 m (pc + 3) ls (.int r :: rest))) : W p l e (rmd d') s m args below meth c H locs 0 0 Q (F0 m pc ls st) :=
  x_calli S I hM cw (rec1 I) hn hsz hst hW hdg ⟨Nat.zero_le _, Nat.zero_le _⟩ kk
theorem c1_v {u : S1} {y : MethodName} {bytes : ByteArray} {maxL n index d d' : Nat} {As st : List Value} {post : S1 → Prop} (S : CallFix p m c cc nL s args lw_all RX1) (I : XI (x1 g) s u H locs) (hM : MV (x1 g) l y bytes maxL d (.ref (g.2.1 0) :: As) u post) (cw : CallW (rmd d') s args RX1 RX1 index y bytes maxL none (ws_ y bytes maxL none) (rmd d) 0 0 n) (hn : As.length = n) (hsz : ls.size = nL) (hst : st = As.reverse ++ .ref (g.2.1 0) :: rest) (hW : (rest.map fun v => v.category).sum ≤ 8) (hdg : decode cc pc = .ok (.invokevirtual index, 3)) (kk : ∀ (u' : S1) (H1 : Heap) (locs1 : List Loc), post u' → XI (x1 g) s u' H1 locs1 → W p l e (rmd d') s m args below meth c H1 locs1 0 0 Q (F0 m (pc + 3) ls rest)) : W p l e (rmd d') s m args below meth c H locs 0 0 Q (F0 m pc ls st) :=
  x_callv S I hM cw (rec1 I) hn hsz hst hW hdg ⟨Nat.zero_le _, Nat.zero_le _⟩ kk
end R1
theorem cw1_bestReady {d d' : Nat} {s : State} {args : Array Value} (hts : ∀ w ∈ lw_all, w.before args s = true) (hd : d + 1 ≤ d') : CallW (rmd d') s args RX1 RX1 64 yX1_bestReady cX1_bestReady 6 (some .int) (ws_ yX1_bestReady cX1_bestReady 6 (some .int)) (rmd d) 0 0 2 := cwV 2 hts (lw_V q128 q130 qs9 q20 q131) rfl rfl rfl (by decide +kernel) (rm_ok hd (by decide))
theorem cw1_bitsIn {d d' : Nat} {s : State} {args : Array Value} (hts : ∀ w ∈ lw_all, w.before args s = true) (hd : d + 1 ≤ d') : CallW (rmd d') s args RX1 RX1 42 yX1_bitsIn cX1_bitsIn 4 (some .int) (ws_ yX1_bitsIn cX1_bitsIn 4 (some .int)) (rmd d) 0 0 1 := cwV 1 hts (lw_V q99 q101 qs4 q20 q102) rfl rfl rfl (by decide +kernel) (rm_ok hd (by decide))
theorem cw1_closeOrders {d d' : Nat} {s : State} {args : Array Value} (hts : ∀ w ∈ lw_all, w.before args s = true) (hd : d + 1 ≤ d') : CallW (rmd d') s args RX1 RX1 27 yX1_closeOrders cX1_closeOrders 3 none (ws_ yX1_closeOrders cX1_closeOrders 3 none) (rmd d) 0 0 0 := cwV 0 hts (lw_V q55 q57 qs0 q20 q58) rfl rfl rfl (by decide +kernel) (rm_ok hd (by decide))
theorem cw1_heightOf {d d' : Nat} {s : State} {args : Array Value} (hts : ∀ w ∈ lw_all, w.before args s = true) (hd : d + 1 ≤ d') : CallW (rmd d') s args RX1 RX1 34 yX1_heightOf cX1_heightOf 7 (some .int) (ws_ yX1_heightOf cX1_heightOf 7 (some .int)) (rmd d) 0 0 1 := cwV 1 hts (lw_V q87 q89 qs2 q20 q90) rfl rfl rfl (by decide +kernel) (rm_ok hd (by decide))
theorem cw1_immediate {d d' : Nat} {s : State} {args : Array Value} (hts : ∀ w ∈ lw_all, w.before args s = true) (hd : d + 1 ≤ d') : CallW (rmd d') s args RX1 RX1 38 yX1_immediate cX1_immediate 5 (some .int) (ws_ yX1_immediate cX1_immediate 5 (some .int)) (rmd d) 0 0 2 := cwV 2 hts (lw_V q95 q97 qs3 q20 q98) rfl rfl rfl (by decide +kernel) (rm_ok hd (by decide))
theorem cw1_inTrees {d d' : Nat} {s : State} {args : Array Value} (hts : ∀ w ∈ lw_all, w.before args s = true) (hd : d + 1 ≤ d') : CallW (rmd d') s args RX1 RX1 51 yX1_inTrees cX1_inTrees 3 (some .boolean) (ws_ yX1_inTrees cX1_inTrees 3 (some .boolean)) (rmd d) 0 0 0 := cwV 0 hts (lw_V q119 q104 q105 q20 q106) rfl rfl rfl (by decide +kernel) (rm_ok hd (by decide))
theorem cw1_isReady {d d' : Nat} {s : State} {args : Array Value} (hts : ∀ w ∈ lw_all, w.before args s = true) (hd : d + 1 ≤ d') : CallW (rmd d') s args RX1 RX1 67 yX1_isReady cX1_isReady 4 (some .boolean) (ws_ yX1_isReady cX1_isReady 4 (some .boolean)) (rmd d) 0 0 2 := cwV 2 hts (lw_V q132 q134 qs10 q20 q135) rfl rfl rfl (by decide +kernel) (rm_ok hd (by decide))
theorem cw1_isTask {d d' : Nat} {s : State} {args : Array Value} (hts : ∀ w ∈ lw_all, w.before args s = true) (hd : d + 1 ≤ d') : CallW (rmd d') s args RX1 RX1 30 yX1_isTask cX1_isTask 2 (some .boolean) (ws_ yX1_isTask cX1_isTask 2 (some .boolean)) (rmd d) 0 0 1 := cwV 1 hts (lw_V q63 q65 qs1 q20 q66) rfl rfl rfl (by decide +kernel) (rm_ok hd (by decide))
theorem cw1_labelByHeights {d d' : Nat} {s : State} {args : Array Value} (hts : ∀ w ∈ lw_all, w.before args s = true) (hd : d + 1 ≤ d') : CallW (rmd d') s args RX1 RX1 55 yX1_labelByHeights cX1_labelByHeights 2 none (ws_ yX1_labelByHeights cX1_labelByHeights 2 none) (rmd d) 0 0 0 := cwV 0 hts (lw_V q120 q122 qs7 q20 q123) rfl rfl rfl (by decide +kernel) (rm_ok hd (by decide))
theorem cw1_labelByLists {d d' : Nat} {s : State} {args : Array Value} (hts : ∀ w ∈ lw_all, w.before args s = true) (hd : d + 1 ≤ d') : CallW (rmd d') s args RX1 RX1 48 yX1_labelByLists cX1_labelByLists 6 none (ws_ yX1_labelByLists cX1_labelByLists 6 none) (rmd d) 0 0 0 := cwV 0 hts (lw_V q111 q113 qs5 q20 q114) rfl rfl rfl (by decide +kernel) (rm_ok hd (by decide))
theorem cw1_labelList {d d' : Nat} {s : State} {args : Array Value} (hts : ∀ w ∈ lw_all, w.before args s = true) (hd : d + 1 ≤ d') : CallW (rmd d') s args RX1 RX1 61 yX1_labelList cX1_labelList 4 (some .int) (ws_ yX1_labelList cX1_labelList 4 (some .int)) (rmd d) 0 0 1 := cwV 1 hts (lw_V q115 q117 qs6 q20 q118) rfl rfl rfl (by decide +kernel) (rm_ok hd (by decide))
theorem cw1_lengthOnList {d d' : Nat} {s : State} {args : Array Value} (hts : ∀ w ∈ lw_all, w.before args s = true) (hd : d + 1 ≤ d') : CallW (rmd d') s args RX1 RX1 58 yX1_lengthOnList cX1_lengthOnList 7 (some .int) (ws_ yX1_lengthOnList cX1_lengthOnList 7 (some .int)) (rmd d) 0 0 1 := cwV 1 hts (lw_V q124 q126 qs8 q20 q127) rfl rfl rfl (by decide +kernel) (rm_ok hd (by decide))
abbrev S2 : Type := Nat × (Nat → Int32) × (Nat → Int32) × (Nat → Int32)
abbrev w2 (g : Geo) (u : S2) : va_W := [(g.2.1 0, .inr (1, [.int (nI u.1), .ref (g.2.1 1), .ref (g.2.1 2), .ref (g.2.1 3)])), (g.2.1 1, .inl (g.2.2 1, 9, .inl u.2.1)), (g.2.1 2, .inl (g.2.2 2, 9, .inl u.2.2.1)), (g.2.1 3, .inl (g.2.2 3, 512, .inl u.2.2.2))]
abbrev x2 (g : Geo) : XG S2 := (g.1, [(g.2.2 1, .int), (g.2.2 2, .int), (g.2.2 3, .int)], [g.2.1 0, g.2.1 1, g.2.1 2, g.2.1 3], w2 g)
section R2
variable {g : Geo} {p : Program} {l : Launch} {e : Env} {R : Room} {s : State} {m : MethodId} {args : Array Value} {below : List Frame} {meth : Method} {c : Code} {H : Heap} {locs : List Loc} {cells slots : Nat} {Q : State → Prop} {cc : ByteArray} {pc nL : Nat} {ls : Array Slot} {rest : List Value}
variable {n : Nat} {F : Nat → Int32} {L : Nat → Int32} {sl : Nat → Int32}
theorem g2_n (S : CallFix p m c cc nL s args lw_all RX2) (I : XI (x2 g) s (n, F, L, sl) H locs) (hdg : decode cc pc = .ok (.getfield 19, 3)) (kk : W p l e R s m args below meth c H locs cells slots Q (F0 m (pc + 3) ls (.int (nI n) :: rest))) : W p l e R s m args below meth c H locs cells slots Q (F0 m pc ls (.ref (g.2.1 0) :: rest)) :=
  va_get (D := g.1) (ci := 1) (v := .int (nI n)) (C := RX2) (T := TX2) (N := 4) S.1 S.2.1 S.2.2.2.2 in_X2 S.2.2.2.1 I.2.1 I.1 0 rfl rfl 0 (by decide) (S.2.2.2.2 _ q149) (fun _ h9 => h9) rfl hdg kk
theorem p2_n (S : CallFix p m c cc nL s args lw_all RX2) (I : XI (x2 g) s (n, F, L, sl) H locs) {v : Int32} {n' : Nat} (hv : v = nI n') (hdg : decode cc pc = .ok (.putfield 19, 3)) (kk : ∀ (H1 : Heap) (locs1 : List Loc), XI (x2 g) s (n', F, L, sl) H1 locs1 → W p l e R s m args below meth c H1 locs1 cells slots Q (F0 m (pc + 3) ls rest)) : W p l e R s m args below meth c H locs cells slots Q (F0 m pc ls (.int v :: .ref (g.2.1 0) :: rest)) := by
  subst hv
  exact va_put (D := g.1) (ci := 1) (v := .int (nI n')) (ty := .int) (C := RX2) (T := TX2) (N := 4) S.1 S.2.1 S.2.2.2.2 in_X2 tyX2 tyX2_ok nmX2 S.2.2.2.1 I.2.1 I.1 I.2.2.1 I.2.2.2 0 rfl rfl 0 (by decide) (S.2.2.2.2 _ q149) (fun _ h9 => h9) rfl (by decide +kernel) rfl rfl (Nat.le_of_ble_eq_true rfl) hdg (fun H1 locs1 hP hD hS => kk H1 locs1 ⟨hP, I.2.1, hD, hS⟩)
theorem g2_F (S : CallFix p m c cc nL s args lw_all RX2) (I : XI (x2 g) s (n, F, L, sl) H locs) (hdg : decode cc pc = .ok (.getfield 7, 3)) (kk : W p l e R s m args below meth c H locs cells slots Q (F0 m (pc + 3) ls (.ref (g.2.1 1) :: rest))) : W p l e R s m args below meth c H locs cells slots Q (F0 m pc ls (.ref (g.2.1 0) :: rest)) :=
  va_get (D := g.1) (ci := 1) (v := .ref (g.2.1 1)) (C := RX2) (T := TX2) (N := 4) S.1 S.2.1 S.2.2.2.2 in_X2 S.2.2.2.1 I.2.1 I.1 0 rfl rfl 1 (by decide) (S.2.2.2.2 _ q150) (fun _ h9 => h9) rfl hdg kk
theorem g2_L (S : CallFix p m c cc nL s args lw_all RX2) (I : XI (x2 g) s (n, F, L, sl) H locs) (hdg : decode cc pc = .ok (.getfield 13, 3)) (kk : W p l e R s m args below meth c H locs cells slots Q (F0 m (pc + 3) ls (.ref (g.2.1 2) :: rest))) : W p l e R s m args below meth c H locs cells slots Q (F0 m pc ls (.ref (g.2.1 0) :: rest)) :=
  va_get (D := g.1) (ci := 1) (v := .ref (g.2.1 2)) (C := RX2) (T := TX2) (N := 4) S.1 S.2.1 S.2.2.2.2 in_X2 S.2.2.2.1 I.2.1 I.1 0 rfl rfl 2 (by decide) (S.2.2.2.2 _ q151) (fun _ h9 => h9) rfl hdg kk
theorem g2_sl (S : CallFix p m c cc nL s args lw_all RX2) (I : XI (x2 g) s (n, F, L, sl) H locs) (hdg : decode cc pc = .ok (.getfield 16, 3)) (kk : W p l e R s m args below meth c H locs cells slots Q (F0 m (pc + 3) ls (.ref (g.2.1 3) :: rest))) : W p l e R s m args below meth c H locs cells slots Q (F0 m pc ls (.ref (g.2.1 0) :: rest)) :=
  va_get (D := g.1) (ci := 1) (v := .ref (g.2.1 3)) (C := RX2) (T := TX2) (N := 4) S.1 S.2.1 S.2.2.2.2 in_X2 S.2.2.2.1 I.2.1 I.1 0 rfl rfl 3 (by decide) (S.2.2.2.2 _ q152) (fun _ h9 => h9) rfl hdg kk
theorem a2_rdF (S : CallFix p m c cc nL s args lw_all RX2) (I : XI (x2 g) s (n, F, L, sl) H locs) {i : Int32} (hi : vp_in i 9) (hdg : decode cc pc = .ok (.iaload, 1)) (kk : W p l e R s m args below meth c H locs cells slots Q (F0 m (pc + 1) ls (.int (F i.toNatClampNeg) :: rest))) : W p l e R s m args below meth c H locs cells slots Q (F0 m pc ls (.int i :: .ref (g.2.1 1) :: rest)) :=
  va_iald S.1 S.2.1 I.2.1 I.1 1 0 rfl rfl hi hdg kk
theorem a2_ldF (S : CallFix p m c cc nL s args lw_all RX2) (I : XI (x2 g) s (n, F, L, sl) H locs) {k : Nat} (hk : k < 9) (hdg : decode cc pc = .ok (.iaload, 1)) (kk : W p l e R s m args below meth c H locs cells slots Q (F0 m (pc + 1) ls (.int (F k) :: rest))) : W p l e R s m args below meth c H locs cells slots Q (F0 m pc ls (.int (nI k) :: .ref (g.2.1 1) :: rest)) :=
  a2_rdF S I (vp_in_nI hk (by decide)) hdg (by rw [nI_clamp (by omega)]; exact kk)
theorem a2_wrF (S : CallFix p m c cc nL s args lw_all RX2) (I : XI (x2 g) s (n, F, L, sl) H locs) {i v : Int32} (hi : vp_in i 9) (hdg : decode cc pc = .ok (.iastore, 1)) (kk : ∀ (H1 : Heap) (locs1 : List Loc), XI (x2 g) s (n, upd F i.toNatClampNeg v, L, sl) H1 locs1 → W p l e R s m args below meth c H1 locs1 cells slots Q (F0 m (pc + 1) ls rest)) : W p l e R s m args below meth c H locs cells slots Q (F0 m pc ls (.int v :: .int i :: .ref (g.2.1 1) :: rest)) :=
  va_iast S.1 S.2.1 I.2.1 I.1 I.2.2.1 I.2.2.2 1 0 rfl rfl hi hdg (fun H1 locs1 hP hD hS => kk H1 locs1 ⟨hP, I.2.1, hD, hS⟩)
theorem a2_stF (S : CallFix p m c cc nL s args lw_all RX2) (I : XI (x2 g) s (n, F, L, sl) H locs) {k : Nat} {v : Int32} (hk : k < 9) (hdg : decode cc pc = .ok (.iastore, 1)) (kk : ∀ (H1 : Heap) (locs1 : List Loc), XI (x2 g) s (n, upd F k v, L, sl) H1 locs1 → W p l e R s m args below meth c H1 locs1 cells slots Q (F0 m (pc + 1) ls rest)) : W p l e R s m args below meth c H locs cells slots Q (F0 m pc ls (.int v :: .int (nI k) :: .ref (g.2.1 1) :: rest)) :=
  a2_wrF S I (vp_in_nI hk (by decide)) hdg (by rw [nI_clamp (by omega)]; exact kk)
theorem a2_rdL (S : CallFix p m c cc nL s args lw_all RX2) (I : XI (x2 g) s (n, F, L, sl) H locs) {i : Int32} (hi : vp_in i 9) (hdg : decode cc pc = .ok (.iaload, 1)) (kk : W p l e R s m args below meth c H locs cells slots Q (F0 m (pc + 1) ls (.int (L i.toNatClampNeg) :: rest))) : W p l e R s m args below meth c H locs cells slots Q (F0 m pc ls (.int i :: .ref (g.2.1 2) :: rest)) :=
  va_iald S.1 S.2.1 I.2.1 I.1 2 1 rfl rfl hi hdg kk
theorem a2_ldL (S : CallFix p m c cc nL s args lw_all RX2) (I : XI (x2 g) s (n, F, L, sl) H locs) {k : Nat} (hk : k < 9) (hdg : decode cc pc = .ok (.iaload, 1)) (kk : W p l e R s m args below meth c H locs cells slots Q (F0 m (pc + 1) ls (.int (L k) :: rest))) : W p l e R s m args below meth c H locs cells slots Q (F0 m pc ls (.int (nI k) :: .ref (g.2.1 2) :: rest)) :=
  a2_rdL S I (vp_in_nI hk (by decide)) hdg (by rw [nI_clamp (by omega)]; exact kk)
theorem a2_wrL (S : CallFix p m c cc nL s args lw_all RX2) (I : XI (x2 g) s (n, F, L, sl) H locs) {i v : Int32} (hi : vp_in i 9) (hdg : decode cc pc = .ok (.iastore, 1)) (kk : ∀ (H1 : Heap) (locs1 : List Loc), XI (x2 g) s (n, F, upd L i.toNatClampNeg v, sl) H1 locs1 → W p l e R s m args below meth c H1 locs1 cells slots Q (F0 m (pc + 1) ls rest)) : W p l e R s m args below meth c H locs cells slots Q (F0 m pc ls (.int v :: .int i :: .ref (g.2.1 2) :: rest)) :=
  va_iast S.1 S.2.1 I.2.1 I.1 I.2.2.1 I.2.2.2 2 1 rfl rfl hi hdg (fun H1 locs1 hP hD hS => kk H1 locs1 ⟨hP, I.2.1, hD, hS⟩)
theorem a2_stL (S : CallFix p m c cc nL s args lw_all RX2) (I : XI (x2 g) s (n, F, L, sl) H locs) {k : Nat} {v : Int32} (hk : k < 9) (hdg : decode cc pc = .ok (.iastore, 1)) (kk : ∀ (H1 : Heap) (locs1 : List Loc), XI (x2 g) s (n, F, upd L k v, sl) H1 locs1 → W p l e R s m args below meth c H1 locs1 cells slots Q (F0 m (pc + 1) ls rest)) : W p l e R s m args below meth c H locs cells slots Q (F0 m pc ls (.int v :: .int (nI k) :: .ref (g.2.1 2) :: rest)) :=
  a2_wrL S I (vp_in_nI hk (by decide)) hdg (by rw [nI_clamp (by omega)]; exact kk)
theorem a2_rdsl (S : CallFix p m c cc nL s args lw_all RX2) (I : XI (x2 g) s (n, F, L, sl) H locs) {i : Int32} (hi : vp_in i 512) (hdg : decode cc pc = .ok (.iaload, 1)) (kk : W p l e R s m args below meth c H locs cells slots Q (F0 m (pc + 1) ls (.int (sl i.toNatClampNeg) :: rest))) : W p l e R s m args below meth c H locs cells slots Q (F0 m pc ls (.int i :: .ref (g.2.1 3) :: rest)) :=
  va_iald S.1 S.2.1 I.2.1 I.1 3 2 rfl rfl hi hdg kk
theorem a2_ldsl (S : CallFix p m c cc nL s args lw_all RX2) (I : XI (x2 g) s (n, F, L, sl) H locs) {k : Nat} (hk : k < 512) (hdg : decode cc pc = .ok (.iaload, 1)) (kk : W p l e R s m args below meth c H locs cells slots Q (F0 m (pc + 1) ls (.int (sl k) :: rest))) : W p l e R s m args below meth c H locs cells slots Q (F0 m pc ls (.int (nI k) :: .ref (g.2.1 3) :: rest)) :=
  a2_rdsl S I (vp_in_nI hk (by decide)) hdg (by rw [nI_clamp (by omega)]; exact kk)
theorem a2_wrsl (S : CallFix p m c cc nL s args lw_all RX2) (I : XI (x2 g) s (n, F, L, sl) H locs) {i v : Int32} (hi : vp_in i 512) (hdg : decode cc pc = .ok (.iastore, 1)) (kk : ∀ (H1 : Heap) (locs1 : List Loc), XI (x2 g) s (n, F, L, upd sl i.toNatClampNeg v) H1 locs1 → W p l e R s m args below meth c H1 locs1 cells slots Q (F0 m (pc + 1) ls rest)) : W p l e R s m args below meth c H locs cells slots Q (F0 m pc ls (.int v :: .int i :: .ref (g.2.1 3) :: rest)) :=
  va_iast S.1 S.2.1 I.2.1 I.1 I.2.2.1 I.2.2.2 3 2 rfl rfl hi hdg (fun H1 locs1 hP hD hS => kk H1 locs1 ⟨hP, I.2.1, hD, hS⟩)
theorem a2_stsl (S : CallFix p m c cc nL s args lw_all RX2) (I : XI (x2 g) s (n, F, L, sl) H locs) {k : Nat} {v : Int32} (hk : k < 512) (hdg : decode cc pc = .ok (.iastore, 1)) (kk : ∀ (H1 : Heap) (locs1 : List Loc), XI (x2 g) s (n, F, L, upd sl k v) H1 locs1 → W p l e R s m args below meth c H1 locs1 cells slots Q (F0 m (pc + 1) ls rest)) : W p l e R s m args below meth c H locs cells slots Q (F0 m pc ls (.int v :: .int (nI k) :: .ref (g.2.1 3) :: rest)) :=
  a2_wrsl S I (vp_in_nI hk (by decide)) hdg (by rw [nI_clamp (by omega)]; exact kk)
theorem rec2 {u : S2} (I : XI (x2 g) s u H locs) : ∃ cellB : Cell, H[g.2.1 0]? = some cellB ∧ cellB.vm.isStatics = false ∧ s.vm.findClass RX2 = some cellB.cls := va_recv I.2.1 I.1 (ci := 1) (q0 := 0) rfl rfl
theorem c2_i {u : S2} {y : MethodName} {bytes : ByteArray} {maxL n index d d' : Nat} {ty : FieldType} {As st : List Value} {post : Int32 → S2 → Prop} (S : CallFix p m c cc nL s args lw_all RX2) (I : XI (x2 g) s u H locs) (hM : MI (x2 g) l y bytes maxL ty d (.ref (g.2.1 0) :: As) u post) (cw : CallW (rmd d') s args RX2 RX2 index y bytes maxL (some ty) (ws_ y bytes maxL (some ty)) (rmd d) 0 0 n) (hn : As.length = n) (hsz : ls.size = nL) (hst : st = As.reverse ++ .ref (g.2.1 0) :: rest) (hW : (rest.map fun v => v.category).sum ≤ 8) (hdg : decode cc pc = .ok (.invokevirtual index, 3)) (kk : ∀ (r : Int32) (u' : S2) (H1 : Heap) (locs1 : List Loc), post r u' → XI (x2 g) s u' H1 locs1 → W p l e (rmd d') s m args below meth c H1 locs1 0 0 Q (F0 m (pc + 3) ls (.int r :: rest))) : W p l e (rmd d') s m args below meth c H locs 0 0 Q (F0 m pc ls st) :=
  x_calli S I hM cw (rec2 I) hn hsz hst hW hdg ⟨Nat.zero_le _, Nat.zero_le _⟩ kk
theorem c2_v {u : S2} {y : MethodName} {bytes : ByteArray} {maxL n index d d' : Nat} {As st : List Value} {post : S2 → Prop} (S : CallFix p m c cc nL s args lw_all RX2) (I : XI (x2 g) s u H locs) (hM : MV (x2 g) l y bytes maxL d (.ref (g.2.1 0) :: As) u post) (cw : CallW (rmd d') s args RX2 RX2 index y bytes maxL none (ws_ y bytes maxL none) (rmd d) 0 0 n) (hn : As.length = n) (hsz : ls.size = nL) (hst : st = As.reverse ++ .ref (g.2.1 0) :: rest) (hW : (rest.map fun v => v.category).sum ≤ 8) (hdg : decode cc pc = .ok (.invokevirtual index, 3)) (kk : ∀ (u' : S2) (H1 : Heap) (locs1 : List Loc), post u' → XI (x2 g) s u' H1 locs1 → W p l e (rmd d') s m args below meth c H1 locs1 0 0 Q (F0 m (pc + 3) ls rest)) : W p l e (rmd d') s m args below meth c H locs 0 0 Q (F0 m pc ls st) :=
  x_callv S I hM cw (rec2 I) hn hsz hst hW hdg ⟨Nat.zero_le _, Nat.zero_le _⟩ kk
end R2
theorem cw2_cut {d d' : Nat} {s : State} {args : Array Value} (hts : ∀ w ∈ lw_all, w.before args s = true) (hd : d + 1 ≤ d') : CallW (rmd d') s args RX2 RX2 27 yX2_cut cX2_cut 3 (some .int) (ws_ yX2_cut cX2_cut 3 (some .int)) (rmd d) 0 0 2 := cwV 2 hts (lw_V q174 q176 qs12 q21 q177) rfl rfl rfl (by decide +kernel) (rm_ok hd (by decide))
theorem cw2_extra {d d' : Nat} {s : State} {args : Array Value} (hts : ∀ w ∈ lw_all, w.before args s = true) (hd : d + 1 ≤ d') : CallW (rmd d') s args RX2 RX2 38 yX2_extra cX2_extra 4 (some .boolean) (ws_ yX2_extra cX2_extra 4 (some .boolean)) (rmd d) 0 0 2 := cwV 2 hts (lw_V q210 q212 qs15 q21 q213) rfl rfl rfl (by decide +kernel) (rm_ok hd (by decide))
theorem cw2_findLater {d d' : Nat} {s : State} {args : Array Value} (hts : ∀ w ∈ lw_all, w.before args s = true) (hd : d + 1 ≤ d') : CallW (rmd d') s args RX2 RX2 35 yX2_findLater cX2_findLater 3 none (ws_ yX2_findLater cX2_findLater 3 none) (rmd d) 0 0 0 := cwV 0 hts (lw_V q182 q184 qs13 q21 q185) rfl rfl rfl (by decide +kernel) (rm_ok hd (by decide))
theorem cw2_in {d d' : Nat} {s : State} {args : Array Value} (hts : ∀ w ∈ lw_all, w.before args s = true) (hd : d + 1 ≤ d') : CallW (rmd d') s args RX2 RX2 31 yX2_in cX2_in 3 (some .boolean) (ws_ yX2_in cX2_in 3 (some .boolean)) (rmd d) 0 0 2 := cwV 2 hts (lw_V q186 q188 qs14 q21 q189) rfl rfl rfl (by decide +kernel) (rm_ok hd (by decide))
theorem cw2_inTrees {d d' : Nat} {s : State} {args : Array Value} (hts : ∀ w ∈ lw_all, w.before args s = true) (hd : d + 1 ≤ d') : CallW (rmd d') s args RX2 RX2 48 yX2_inTrees cX2_inTrees 4 (some .boolean) (ws_ yX2_inTrees cX2_inTrees 4 (some .boolean)) (rmd d) 0 0 0 := cwV 0 hts (lw_V q222 q215 q216 q21 q217) rfl rfl rfl (by decide +kernel) (rm_ok hd (by decide))
theorem cw2_isTask {d d' : Nat} {s : State} {args : Array Value} (hts : ∀ w ∈ lw_all, w.before args s = true) (hd : d + 1 ≤ d') : CallW (rmd d') s args RX2 RX2 23 yX2_isTask cX2_isTask 2 (some .boolean) (ws_ yX2_isTask cX2_isTask 2 (some .boolean)) (rmd d) 0 0 1 := cwV 1 hts (lw_V q170 q172 qs11 q21 q173) rfl rfl rfl (by decide +kernel) (rm_ok hd (by decide))
theorem cw2_least {d d' : Nat} {s : State} {args : Array Value} (hts : ∀ w ∈ lw_all, w.before args s = true) (hd : d + 1 ≤ d') : CallW (rmd d') s args RX2 RX2 52 yX2_least cX2_least 6 (some .int) (ws_ yX2_least cX2_least 6 (some .int)) (rmd d) 0 0 2 := cwV 2 hts (lw_V q223 q225 qs16 q21 q226) rfl rfl rfl (by decide +kernel) (rm_ok hd (by decide))
theorem cw2_open {d d' : Nat} {s : State} {args : Array Value} (hts : ∀ w ∈ lw_all, w.before args s = true) (hd : d + 1 ≤ d') : CallW (rmd d') s args RX2 RX2 41 yX2_open cX2_open 5 (some .int) (ws_ yX2_open cX2_open 5 (some .int)) (rmd d) 0 0 2 := cwV 2 hts (lw_V q227 q229 qs17 q21 q230) rfl rfl rfl (by decide +kernel) (rm_ok hd (by decide))
theorem cw2_sizeOf {d d' : Nat} {s : State} {args : Array Value} (hts : ∀ w ∈ lw_all, w.before args s = true) (hd : d + 1 ≤ d') : CallW (rmd d') s args RX2 RX2 44 yX2_sizeOf cX2_sizeOf 4 (some .int) (ws_ yX2_sizeOf cX2_sizeOf 4 (some .int)) (rmd d) 0 0 1 := cwV 1 hts (lw_V q231 q233 qs18 q21 q234) rfl rfl rfl (by decide +kernel) (rm_ok hd (by decide))
end
section
/-! pasted out of kit/laws: BITS (Int32 by its bits; nx_and), COUNTS (how many places; sums; first, last) -/
def bt (x : Int32) (i : Nat) : Bool := x.toBitVec.getLsbD i
theorem b_ext {x y : Int32} (h : ∀ i, i < 32 → bt x i = bt y i) : x = y := Int32.toBitVec_inj.mp (BitVec.eq_of_getLsbD_eq (fun i hi => h i hi))
theorem b_or (x y : Int32) (i : Nat) : bt (x ||| y) i = (bt x i || bt y i) := by unfold bt; rw [Int32.toBitVec_or, BitVec.getLsbD_or]
theorem b_and (x y : Int32) (i : Nat) : bt (x &&& y) i = (bt x i && bt y i) := by unfold bt; rw [Int32.toBitVec_and, BitVec.getLsbD_and]
theorem b_xor (x y : Int32) (i : Nat) : bt (x ^^^ y) i = (bt x i ^^ bt y i) := by unfold bt; rw [Int32.toBitVec_xor, BitVec.getLsbD_xor]
theorem b_big {x : Int32} {i : Nat} (h : 32 ≤ i) : bt x i = false := BitVec.getLsbD_of_ge _ _ h
theorem b_255 (i : Nat) : bt 255 i = decide (i < 8) := by
  rcases Nat.lt_or_ge i 32 with h | h
  · exact (by decide +kernel : ∀ i, i < 32 → bt 255 i = decide (i < 8)) i h
  · rw [b_big h, decide_eq_false (by omega)]
theorem b_65535 (i : Nat) : bt 65535 i = decide (i < 16) := by
  rcases Nat.lt_or_ge i 32 with h | h
  · exact (by decide +kernel : ∀ i, i < 32 → bt 65535 i = decide (i < 16)) i h
  · rw [b_big h, decide_eq_false (by omega)]
theorem b_m1 : ∀ i, i < 32 → bt (-1) i = true := by decide +kernel
theorem b_0 (i : Nat) : bt 0 i = false := BitVec.getLsbD_zero
theorem s_l : ∀ n, n < 32 → ((nI n &&& 31).toBitVec.smod 32).toNat = n := by decide +kernel
theorem s_u : ∀ n, n < 32 → (((nI n).toUInt32 &&& Int32.toUInt32 31).toBitVec % 32).toNat = n := by decide +kernel
theorem b_shl (n : Nat) (hn : n < 32) (x : Int32) {i : Nat} (hi : i < 32) : bt (x <<< (nI n &&& 31)) i = (decide (n ≤ i) && bt x (i - n)) := by
  unfold bt
  rw [Int32.toBitVec_shiftLeft]
  show (x.toBitVec <<< ((nI n &&& 31).toBitVec.smod 32).toNat).getLsbD i = _
  rw [s_l n hn, BitVec.getLsbD_shiftLeft]
  rcases Nat.lt_or_ge i n with h | h
  · simp [h, Nat.not_le.mpr h]
  · simp [hi, h, Nat.not_lt.mpr h]
theorem b_ushr (n : Nat) (hn : n < 32) (x : Int32) (i : Nat) : bt ((x.toUInt32 >>> ((nI n).toUInt32 &&& Int32.toUInt32 31)).toInt32) i = bt x (n + i) := by
  show (x.toUInt32 >>> ((nI n).toUInt32 &&& Int32.toUInt32 31)).toBitVec.getLsbD i = x.toUInt32.toBitVec.getLsbD (n + i)
  rw [UInt32.toBitVec_shiftRight]
  show (x.toUInt32.toBitVec >>> (((nI n).toUInt32 &&& Int32.toUInt32 31).toBitVec % 32).toNat).getLsbD i = _
  rw [s_u n hn, BitVec.getLsbD_ushiftRight]
theorem b_sshr (n : Nat) (hn : n < 32) (x : Int32) {i : Nat} (hi : i < 32) : bt (x >>> (nI n &&& 31)) i = if n + i < 32 then bt x (n + i) else bt x 31 := by
  unfold bt
  rw [Int32.toBitVec_shiftRight]
  show (x.toBitVec.sshiftRight ((nI n &&& 31).toBitVec.smod 32).toNat).getLsbD i = _
  rw [s_l n hn, BitVec.getLsbD_sshiftRight, BitVec.msb_eq_getLsbD_last]
  simp [hi]
theorem b_shl8 (x : Int32) {i : Nat} (hi : i < 32) : bt (x <<< ((8 : Int32) &&& 31)) i = (decide (8 ≤ i) && bt x (i - 8)) := b_shl 8 (by omega) x hi
theorem b_shl16 (x : Int32) {i : Nat} (hi : i < 32) : bt (x <<< ((16 : Int32) &&& 31)) i = (decide (16 ≤ i) && bt x (i - 16)) := b_shl 16 (by omega) x hi
theorem b_shl24 (x : Int32) {i : Nat} (hi : i < 32) : bt (x <<< ((24 : Int32) &&& 31)) i = (decide (24 ≤ i) && bt x (i - 24)) := b_shl 24 (by omega) x hi
theorem b_sshr8 (x : Int32) {i : Nat} (hi : i < 32) : bt (x >>> ((8 : Int32) &&& 31)) i = if 8 + i < 32 then bt x (8 + i) else bt x 31 := b_sshr 8 (by omega) x hi
/-! ===== nI under and, xor, >>>, one bit, 65535 ===== -/
theorem nx_and (a b : Nat) : nI a &&& nI b = nI (a &&& b) := by
  apply Int32.toBitVec_inj.1
  show BitVec.ofNat 32 a &&& BitVec.ofNat 32 b = BitVec.ofNat 32 (a &&& b)
  apply BitVec.eq_of_getLsbD_eq
  intro i hi
  simp [hi]
def fb_ct (p : Nat → Bool) : Nat → Nat
  | 0 => 0
  | n + 1 => fb_ct p n + (if p n then 1 else 0)
theorem fb_ct_succ (p : Nat → Bool) (n : Nat) : fb_ct p (n + 1) = fb_ct p n + (if p n then 1 else 0) := rfl
theorem fb_ct_le (p : Nat → Bool) : ∀ n, fb_ct p n ≤ n
  | 0 => Nat.le_refl _
  | n + 1 => by
    have h := fb_ct_le p n
    rw [fb_ct_succ]
    split <;> omega
theorem fb_ct_step (p : Nat → Bool) (m : Nat) : ∀ n, fb_ct p m ≤ fb_ct p (m + n)
  | 0 => Nat.le_refl _
  | n + 1 => by
    have h := fb_ct_step p m n
    show fb_ct p m ≤ fb_ct p (m + n + 1)
    rw [fb_ct_succ]
    omega
theorem fb_ct_mono (p : Nat → Bool) {m n : Nat} (h : m ≤ n) : fb_ct p m ≤ fb_ct p n := by
  have := fb_ct_step p m (n - m)
  rwa [Nat.add_sub_cancel' h] at this
theorem fb_ct_cong {p q : Nat → Bool} : ∀ {n : Nat}, (∀ k, k < n → p k = q k) → fb_ct p n = fb_ct q n
  | 0, _ => rfl
  | n + 1, h => by
    rw [fb_ct_succ, fb_ct_succ, fb_ct_cong (fun k hk => h k (by omega)), h n (by omega)]
/-- one place changed -/
theorem fb_ct_out (p : Nat → Bool) (b : Bool) {i n : Nat} (h : n ≤ i) : fb_ct (fun k => if k = i then b else p k) n = fb_ct p n :=
  fb_ct_cong fun k hk => if_neg (by omega)
theorem fb_ct_upd (p : Nat → Bool) (b : Bool) {i : Nat} : ∀ {n : Nat}, i < n → fb_ct (fun k => if k = i then b else p k) n + (if p i then 1 else 0) = fb_ct p n + (if b then 1 else 0)
  | 0, h => absurd h (Nat.not_lt_zero i)
  | n + 1, h => by
    rw [fb_ct_succ, fb_ct_succ]
    rcases Nat.lt_or_ge i n with q | q
    · have := fb_ct_upd p b q
      have e : (if n = i then b else p n) = p n := if_neg (by omega)
      rw [e]
      omega
    · have e : i = n := by omega
      subst e
      rw [fb_ct_out p b (Nat.le_refl _)]
      simp only [if_true]
      omega
theorem fb_ct_sub {p q : Nat → Bool} : ∀ {n : Nat}, (∀ k, k < n → p k = true → q k = true) → fb_ct p n ≤ fb_ct q n
  | 0, _ => Nat.le_refl _
  | n + 1, h => by
    have h1 := fb_ct_sub (n := n) (p := p) (q := q) (fun k hk => h k (by omega))
    have h2 := h n (by omega)
    rw [fb_ct_succ, fb_ct_succ]
    cases hp : p n <;> cases hq : q n <;> simp_all <;> omega
theorem fb_ct_or {p q : Nat → Bool} : ∀ {n : Nat}, (∀ k, k < n → ¬ (p k = true ∧ q k = true)) → fb_ct (fun k => p k || q k) n = fb_ct p n + fb_ct q n
  | 0, _ => rfl
  | n + 1, h => by
    have h1 := fb_ct_or (n := n) (p := p) (q := q) (fun k hk => h k (by omega))
    have h2 := h n (by omega)
    rw [fb_ct_succ, fb_ct_succ, fb_ct_succ, h1]
    cases hp : p n <;> cases hq : q n <;> simp_all <;> omega
theorem fb_ct_not (p : Nat → Bool) : ∀ n, fb_ct p n + fb_ct (fun k => !p k) n = n
  | 0 => rfl
  | n + 1 => by
    have h := fb_ct_not p n
    rw [fb_ct_succ, fb_ct_succ]
    cases p n <;> simp <;> omega
theorem fb_ct_split (p : Nat → Bool) (m : Nat) : ∀ n, fb_ct p (m + n) = fb_ct p m + fb_ct (fun k => p (m + k)) n
  | 0 => rfl
  | n + 1 => by
    have h := fb_ct_split p m n
    show fb_ct p (m + n + 1) = _
    rw [fb_ct_succ, fb_ct_succ, h, Nat.add_assoc]
theorem fb_ct_zero {p : Nat → Bool} : ∀ {n : Nat}, fb_ct p n = 0 ↔ ∀ k, k < n → p k = false
  | 0 => ⟨fun _ k hk => absurd hk (Nat.not_lt_zero k), fun _ => rfl⟩
  | n + 1 => by
    have h := fb_ct_zero (p := p) (n := n)
    rw [fb_ct_succ]
    constructor
    · intro e k hk
      have e1 : fb_ct p n = 0 := by omega
      rcases Nat.lt_or_ge k n with q | q
      · exact h.mp e1 k q
      · have ek : k = n := by omega
        subst ek
        cases hp : p k
        · rfl
        · simp [hp] at e
    · intro a
      rw [h.mpr (fun k hk => a k (by omega)), a n (by omega)]
      rfl
theorem fb_ct_pos {p : Nat → Bool} {n : Nat} : 0 < fb_ct p n ↔ ∃ k, k < n ∧ p k = true := by
  constructor
  · intro h
    refine Classical.byContradiction fun hx => ?_
    have := fb_ct_zero.mpr (fun k hk => by
      cases hp : p k
      · rfl
      · exact absurd ⟨k, hk, hp⟩ hx : ∀ k, k < n → p k = false)
    omega
  · rintro ⟨k, hk, hp⟩
    rcases Nat.eq_zero_or_pos (fb_ct p n) with e | e
    · have := fb_ct_zero.mp e k hk
      rw [this] at hp
      cases hp
    · exact e
theorem fb_ct_all {p : Nat → Bool} {n : Nat} : fb_ct p n = n ↔ ∀ k, k < n → p k = true := by
  have h := fb_ct_not p n
  constructor
  · intro e k hk
    have z : fb_ct (fun k => !p k) n = 0 := by omega
    have := fb_ct_zero.mp z k hk
    cases hp : p k
    · simp [hp] at this
    · rfl
  · intro a
    have z : fb_ct (fun k => !p k) n = 0 := fb_ct_zero.mpr (fun k hk => by simp [a k hk])
    omega
/-- the k-th place with the property -/
theorem fb_ct_kth {p : Nat → Bool} {k : Nat} : ∀ {n : Nat}, k < fb_ct p n → ∃ i, i < n ∧ p i = true ∧ fb_ct p i = k
  | 0, h => absurd h (Nat.not_lt_zero k)
  | n + 1, h => by
    rcases Nat.lt_or_ge k (fb_ct p n) with q | q
    · obtain ⟨i, h1, h2⟩ := fb_ct_kth q
      exact ⟨i, by omega, h2⟩
    · rw [fb_ct_succ] at h
      cases hp : p n
      · simp [hp] at h; omega
      · simp [hp] at h
        exact ⟨n, by omega, hp, by omega⟩
theorem fb_ct_kth_one {p : Nat → Bool} {i j : Nat} (hi : p i = true) (hj : p j = true) (e : fb_ct p i = fb_ct p j) : i = j := by
  have key : ∀ a b : Nat, a < b → p a = true → fb_ct p a < fb_ct p b := by
    intro a b hab ha
    have h := fb_ct_mono p (show a + 1 ≤ b from hab)
    rw [fb_ct_succ, ha] at h
    simp at h
    omega
  rcases Nat.lt_trichotomy i j with q | q | q
  · have := key i j q hi; omega
  · exact q
  · have := key j i q hj; omega
def fb_sm (f : Nat → Nat) : Nat → Nat
  | 0 => 0
  | n + 1 => fb_sm f n + f n
theorem fb_sm_succ (f : Nat → Nat) (n : Nat) : fb_sm f (n + 1) = fb_sm f n + f n := rfl
theorem fb_sm_cong {f g : Nat → Nat} : ∀ {n : Nat}, (∀ k, k < n → f k = g k) → fb_sm f n = fb_sm g n
  | 0, _ => rfl
  | n + 1, h => by rw [fb_sm_succ, fb_sm_succ, fb_sm_cong (fun k hk => h k (by omega)), h n (by omega)]
theorem fb_sm_out (f : Nat → Nat) (v : Nat) {i n : Nat} (h : n ≤ i) : fb_sm (fun k => if k = i then v else f k) n = fb_sm f n :=
  fb_sm_cong fun k hk => if_neg (by omega)
theorem fb_sm_upd (f : Nat → Nat) (v : Nat) {i : Nat} : ∀ {n : Nat}, i < n → fb_sm (fun k => if k = i then v else f k) n + f i = fb_sm f n + v
  | 0, h => absurd h (Nat.not_lt_zero i)
  | n + 1, h => by
    rw [fb_sm_succ, fb_sm_succ]
    rcases Nat.lt_or_ge i n with q | q
    · have := fb_sm_upd f v q
      have e : (if n = i then v else f n) = f n := if_neg (by omega)
      rw [e]
      omega
    · have e : i = n := by omega
      subst e
      rw [fb_sm_out f v (Nat.le_refl _)]
      simp only [if_true]
      omega
theorem fb_sm_add (f g : Nat → Nat) : ∀ n, fb_sm (fun k => f k + g k) n = fb_sm f n + fb_sm g n
  | 0 => rfl
  | n + 1 => by
    have h := fb_sm_add f g n
    rw [fb_sm_succ, fb_sm_succ, fb_sm_succ, h]
    omega
theorem fb_sm_le {f g : Nat → Nat} : ∀ {n : Nat}, (∀ k, k < n → f k ≤ g k) → fb_sm f n ≤ fb_sm g n
  | 0, _ => Nat.le_refl _
  | n + 1, h => by
    have h1 := fb_sm_le (n := n) (f := f) (g := g) (fun k hk => h k (by omega))
    have h2 := h n (by omega)
    rw [fb_sm_succ, fb_sm_succ]
    omega
theorem fb_sm_const (c : Nat) : ∀ n, fb_sm (fun _ => c) n = n * c
  | 0 => by rw [Nat.zero_mul]; rfl
  | n + 1 => by rw [fb_sm_succ, fb_sm_const c n, Nat.succ_mul]
theorem fb_sm_bound {f : Nat → Nat} {c n : Nat} (h : ∀ k, k < n → f k ≤ c) : fb_sm f n ≤ n * c := by
  rw [← fb_sm_const c n]
  exact fb_sm_le h
theorem fb_sm_mono (f : Nat → Nat) (m : Nat) : ∀ n, fb_sm f m ≤ fb_sm f (m + n)
  | 0 => Nat.le_refl _
  | n + 1 => by
    have h := fb_sm_mono f m n
    show fb_sm f m ≤ fb_sm f (m + n + 1)
    rw [fb_sm_succ]
    omega
theorem fb_sm_part (f : Nat → Nat) {i n : Nat} (h : i < n) : fb_sm f i + f i ≤ fb_sm f n := by
  have := fb_sm_mono f (i + 1) (n - (i + 1))
  rw [fb_sm_succ, show i + 1 + (n - (i + 1)) = n by omega] at this
  exact this
theorem fb_sm_split (f : Nat → Nat) (m : Nat) : ∀ n, fb_sm f (m + n) = fb_sm f m + fb_sm (fun k => f (m + k)) n
  | 0 => rfl
  | n + 1 => by
    have h := fb_sm_split f m n
    show fb_sm f (m + n + 1) = _
    rw [fb_sm_succ, fb_sm_succ, h, Nat.add_assoc]
theorem fb_sm_zero {f : Nat → Nat} {n : Nat} (h : fb_sm f n = 0) : ∀ k, k < n → f k = 0 := fun k hk => by
  have := fb_sm_part f hk
  omega
theorem fb_first {p : Nat → Prop} [DecidablePred p] : ∀ {n : Nat}, (∃ i, i < n ∧ p i) → ∃ i, i < n ∧ p i ∧ ∀ j, j < i → ¬ p j
  | 0, h => by obtain ⟨i, hi, -⟩ := h; exact absurd hi (Nat.not_lt_zero i)
  | n + 1, h => by
    by_cases q : ∃ i, i < n ∧ p i
    · obtain ⟨i, h1, h2⟩ := fb_first q
      exact ⟨i, by omega, h2⟩
    · obtain ⟨i, h1, h2⟩ := h
      have e : i = n := by
        rcases Nat.lt_or_ge i n with r | r
        · exact absurd ⟨i, r, h2⟩ q
        · omega
      subst e
      exact ⟨i, by omega, h2, fun j hj hp => q ⟨j, hj, hp⟩⟩
theorem fb_first_one {p : Nat → Prop} {i j : Nat} (hi : p i) (hi2 : ∀ k, k < i → ¬ p k) (hj : p j) (hj2 : ∀ k, k < j → ¬ p k) : i = j := by
  rcases Nat.lt_trichotomy i j with q | q | q
  · exact absurd hi (hj2 i q)
  · exact q
  · exact absurd hj (hi2 j q)
theorem fb_last {p : Nat → Prop} [DecidablePred p] : ∀ {n : Nat}, (∃ i, i < n ∧ p i) → ∃ i, i < n ∧ p i ∧ ∀ j, i < j → j < n → ¬ p j
  | 0, h => by obtain ⟨i, hi, -⟩ := h; exact absurd hi (Nat.not_lt_zero i)
  | n + 1, h => by
    by_cases q : p n
    · exact ⟨n, by omega, q, fun j h1 h2 => by omega⟩
    · obtain ⟨i, h1, h2⟩ := h
      have hi : i < n := by
        rcases Nat.lt_or_ge i n with r | r
        · exact r
        · have e : i = n := by omega
          subst e
          exact absurd h2 q
      obtain ⟨i2, a1, a2, a3⟩ := fb_last (n := n) ⟨i, hi, h2⟩
      refine ⟨i2, by omega, a2, fun j b1 b2 => ?_⟩
      rcases Nat.lt_or_ge j n with r | r
      · exact a3 j b1 r
      · have e : j = n := by omega
        subst e
        exact q
end
section
/-! what the methods compute, loop by loop, over Int32 (no program in sight) -/
abbrev tb (x v : Int32) : Int32 := (x >>> (v &&& 31)) &&& 1
theorem nI_prd {n : Nat} (h : 0 < n) : nI n - 1 = nI (n - 1) := by
  obtain ⟨j, rfl⟩ : ∃ j, n = j + 1 := ⟨n - 1, by omega⟩
  exact nI_pred j
def xT (n : Nat) (v : Int32) : Int32 := if v < 0 then 0 else if nI n ≤ v then 0 else 1
theorem xT_in {n k : Nat} (hk : k < n) (hn : n ≤ 9) : ¬ xT n (nI k) = 0 := by
  have h1 : ¬ nI k < 0 := nI_pos (by omega)
  have h2 : ¬ nI n ≤ nI k := nI_ge hk (by omega)
  simp only [xT, if_neg h1, if_neg h2]
  decide
theorem xT_out {n : Nat} {v : Int32} (h : v < 0 ∨ nI n ≤ v) : xT n v = 0 := by
  unfold xT
  by_cases h1 : v < 0
  · rw [if_pos h1]
  · rw [if_neg h1, if_pos (h.resolve_left h1)]
/-- CoffmanGraham.closeOrders -/
def coA (F L : Nat → Int32) : Nat → Nat → Int32
  | 0 => L
  | i + 1 => upd (coA F L i) i (F i)
def coI (md : Nat) (L : Nat → Int32) : Nat → Nat → Int32
  | 0 => L
  | u + 1 => if tb (coI md L u u) (nI md) = 0 then coI md L u else upd (coI md L u) u (coI md L u u ||| coI md L u md)
def coO (n : Nat) (L : Nat → Int32) : Nat → Nat → Int32
  | 0 => L
  | k + 1 => coI k (coO n L k) n
def xClose (n : Nat) (F L : Nat → Int32) : Nat → Int32 := coO n (coA F L n) n
/-- removeTask -/
def rmF (F : Nat → Int32) (k : Nat) : Nat → Nat → Int32
  | 0 => F
  | j + 1 => upd (rmF F k j) (k + j) (rmF F k j (k + j + 1))
def rlF (low : Int32) (F : Nat → Int32) : Nat → Nat → Int32
  | 0 => F
  | i + 1 => upd (rlF low F i) i ((rlF low F i i &&& low) ||| ((rlF low F i i >>> ((1 : Int32) &&& 31)) &&& (low ^^^ (-1))))
def xLow (k : Nat) : Int32 := ((1 : Int32) <<< (nI k &&& 31)) - 1
def xRem (n : Nat) (F : Nat → Int32) (k : Nat) : Nat → Int32 := rlF (xLow k) (rmF F k (n - 1 - k)) (n - 1)
/-- addOrder -/
def aoL (u : Nat) (gn : Int32) (L : Nat → Int32) : Nat → Nat → Int32
  | 0 => L
  | w + 1 => if nI w = nI u then upd (aoL u gn L w) w (aoL u gn L w w ||| gn) else if tb (aoL u gn L w w) (nI u) = 0 then aoL u gn L w else upd (aoL u gn L w) w (aoL u gn L w w ||| gn)
abbrev xBit (v : Nat) : Int32 := (1 : Int32) <<< (nI v &&& 31)
def xAO (n : Nat) (F L : Nat → Int32) (pt : Int32) (N lb : Nat → Int32) (u v : Nat) : Int32 × (Nat × (Nat → Int32) × (Nat → Int32) × Int32 × (Nat → Int32) × (Nat → Int32)) :=
  if nI u = nI v then (-4, (n, F, L, pt, N, lb)) else if tb (L v) (nI u) = 0 then
    (if tb (F u) (nI v) = 0 then (1, (n, upd F u (F u ||| xBit v), aoL u (L v ||| xBit v) L n, pt, N, lb)) else (0, (n, F, L, pt, N, lb)))
  else (-4, (n, F, L, pt, N, lb))
def xRO (n : Nat) (F L : Nat → Int32) (pt : Int32) (N lb : Nat → Int32) (u v : Nat) : Int32 × (Nat × (Nat → Int32) × (Nat → Int32) × Int32 × (Nat → Int32) × (Nat → Int32)) :=
  if tb (F u) (nI v) = 0 then (0, (n, F, L, pt, N, lb)) else (1, (n, upd F u (F u &&& (xBit v ^^^ (-1))), xClose n (upd F u (F u &&& (xBit v ^^^ (-1)))) L, pt, N, lb))
/-- heightOf -/
def hoI (L : Nat → Int32) (rest : Int32) : Nat → Int32
  | 0 => 0
  | w + 1 => if tb rest (nI w) = 0 then hoI L rest w else if L w &&& rest = 0 then hoI L rest w else hoI L rest w ||| xBit w
def hoO (n : Nat) (L : Nat → Int32) : Nat → Int32 → Int32 → Int32
  | 0, _, h => h
  | k + 1, rest, h => if rest = 0 then h else hoO n L k (hoI L rest n) (h + 1)
def xHt (n : Nat) (L : Nat → Int32) (u : Nat) : Int32 := hoO n L 9 (L u) 1
/-- immediate, bitsIn, superfluous, inTrees -/
def imI (L : Nat → Int32) (af : Int32) : Nat → Int32
  | 0 => af
  | w + 1 => if tb af (nI w) = 0 then imI L af w else imI L af w &&& (L w ^^^ (-1))
def xImm (n : Nat) (L : Nat → Int32) (af : Int32) : Int32 := imI L af n
def biI (x : Int32) : Nat → Int32
  | 0 => 0
  | v + 1 => biI x v + tb x (nI v)
def xBits (x : Int32) : Int32 := biI x 9
def suI (n : Nat) (F L : Nat → Int32) : Nat → Int32
  | 0 => 0
  | u + 1 => suI n F L u + xBits (F u &&& (xImm n L (L u) ^^^ (-1)))
def xIT (n : Nat) (L : Nat → Int32) : Int32 := if ∀ u, u < n → xImm n L (L u) &&& (xImm n L (L u) - 1) = 0 then 1 else 0
/-- isReady, bestReady, lengthOnList -/
def xRdy (n : Nat) (L : Nat → Int32) (v op : Int32) : Int32 := if ∀ u, u < n → (tb op (nI u) = 0 ∨ tb (L u) v = 0) then 1 else 0
def brI (n : Nat) (L lb : Nat → Int32) (op sl : Int32) : Nat → Int32
  | 0 => -1
  | v + 1 => if tb op (nI v) = 0 then brI n L lb op sl v else if tb sl (nI v) = 0 then
      (if xRdy n L (nI v) op = 0 then brI n L lb op sl v else if brI n L lb op sl v < 0 then nI v else if lb v ≤ lb (brI n L lb op sl v).toNatClampNeg then brI n L lb op sl v else nI v)
    else brI n L lb op sl v
theorem brI_of (n : Nat) (L lb : Nat → Int32) (op sl : Int32) : ∀ i, ¬ brI n L lb op sl i < 0 → ∃ j, j < i ∧ brI n L lb op sl i = nI j := by
  intro i
  induction i with
  | zero => intro h; exact absurd (show (-1 : Int32) < 0 by decide) h
  | succ v ih =>
    intro h
    have up : ¬ brI n L lb op sl v < 0 → brI n L lb op sl (v + 1) = brI n L lb op sl v → ∃ j, j < v + 1 ∧ brI n L lb op sl (v + 1) = nI j := by
      intro h1 h2
      obtain ⟨j, hj, e⟩ := ih h1
      exact ⟨j, by omega, by rw [h2, e]⟩
    have key : brI n L lb op sl (v + 1) = brI n L lb op sl v ∨ brI n L lb op sl (v + 1) = nI v := by
      simp only [brI]
      split
      · exact Or.inl rfl
      · split
        · split
          · exact Or.inl rfl
          · split
            · exact Or.inr rfl
            · split
              · exact Or.inl rfl
              · exact Or.inr rfl
        · exact Or.inl rfl
    rcases key with k | k
    · exact up (by rw [← k]; exact h) k
    · exact ⟨v, by omega, k⟩
theorem brI_in {n : Nat} {L lb : Nat → Int32} {op sl : Int32} {i : Nat} (h : ¬ brI n L lb op sl i < 0) (hi : i ≤ 9) : vp_in (brI n L lb op sl i) 9 := by
  obtain ⟨j, hj, e⟩ := brI_of n L lb op sl i h
  rw [e]
  exact vp_in_nI (by omega) (by decide)
def xBest (n : Nat) (L lb : Nat → Int32) (pt done sl : Int32) : Int32 := brI n L lb (pt &&& (done ^^^ (-1))) sl n
def loI (n : Nat) (L lb : Nat → Int32) (pt done : Int32) : Nat → Int32
  | 0 => 0
  | k + 1 => if xBest n L lb pt done (loI n L lb pt done k) < 0 then loI n L lb pt done k else loI n L lb pt done k ||| ((1 : Int32) <<< (xBest n L lb pt done (loI n L lb pt done k) &&& 31))
def loO (n : Nat) (L lb : Nat → Int32) (pt : Int32) (mm : Nat) : Nat → Int32 → Nat → Int32
  | 0, _, i => nI i
  | k + 1, done, i => if done = pt then nI i else loO n L lb pt mm k (done ||| loI n L lb pt done mm) (i + 1)
def xLen (n : Nat) (L lb : Nat → Int32) (pt : Int32) (mm : Nat) : Int32 := loO n L lb pt mm 9 0 0
/-- labels -/
def laI (lb : Nat → Int32) (st : Int32) : Nat → Int32
  | 0 => 0
  | w + 1 => if tb st (nI w) = 0 then laI lb st w else laI lb st w ||| ((1 : Int32) <<< (lb w &&& 31))
def xLab (n : Nat) (lb : Nat → Int32) (st : Int32) : Int32 := if ∀ w, w < n → (tb st (nI w) = 0 ∨ ¬ lb w = 0) then laI lb st n else -1
def lhB (n : Nat) (L lb : Nat → Int32) : Nat → Nat → Int32
  | 0 => lb
  | v + 1 => upd (lhB n L lb v) v (xHt n L v).toInt8.toInt32
def llB (lb : Nat → Int32) : Nat → Nat → Int32
  | 0 => lb
  | v + 1 => upd (llB lb v) v 0
def llN (n : Nat) (L : Nat → Int32) (pt : Int32) (N : Nat → Int32) : Nat → Nat → Int32
  | 0 => N
  | v + 1 => upd (llN n L pt N v) v (xImm n L (L v &&& pt) &&& pt)
def llI (n : Nat) (pt : Int32) (N lb : Nat → Int32) : Nat → Int32 × Int32
  | 0 => (-1, 0)
  | v + 1 => if tb pt (nI v) = 0 then llI n pt N lb v else if lb v = 0 then
      (if xLab n lb (N v) < 0 then llI n pt N lb v else if (llI n pt N lb v).1 < 0 then (nI v, xLab n lb (N v)) else if xLab n lb (N v) < (llI n pt N lb v).2 then (nI v, xLab n lb (N v)) else llI n pt N lb v)
    else llI n pt N lb v
theorem llI_of (n : Nat) (pt : Int32) (N lb : Nat → Int32) : ∀ i, ¬ (llI n pt N lb i).1 < 0 → ∃ j, j < i ∧ (llI n pt N lb i).1 = nI j := by
  intro i
  induction i with
  | zero => intro h; exact absurd (show (-1 : Int32) < 0 by decide) h
  | succ v ih =>
    intro h
    have key : (llI n pt N lb (v + 1)).1 = (llI n pt N lb v).1 ∨ (llI n pt N lb (v + 1)).1 = nI v := by
      simp only [llI]
      split
      · exact Or.inl rfl
      · split
        · split
          · exact Or.inl rfl
          · split
            · exact Or.inr rfl
            · split
              · exact Or.inr rfl
              · exact Or.inl rfl
        · exact Or.inl rfl
    rcases key with k | k
    · obtain ⟨j, hj, e⟩ := ih (by rw [← k]; exact h)
      exact ⟨j, by omega, by rw [k, e]⟩
    · exact ⟨v, by omega, k⟩
theorem llI_in {n : Nat} {pt : Int32} {N lb : Nat → Int32} {i : Nat} (h : ¬ (llI n pt N lb i).1 < 0) (hi : i ≤ 9) : vp_in (llI n pt N lb i).1 9 := by
  obtain ⟨j, hj, e⟩ := llI_of n pt N lb i h
  rw [e]
  exact vp_in_nI (by omega) (by decide)
def llO (n : Nat) (pt : Int32) (N lb : Nat → Int32) : Nat → Nat → Int32
  | 0 => lb
  | j + 1 => if (llI n pt N (llO n pt N lb j) n).1 < 0 then llO n pt N lb j else upd (llO n pt N lb j) (llI n pt N (llO n pt N lb j) n).1.toNatClampNeg (nI (j + 1)).toInt8.toInt32
def xLbl (n : Nat) (L : Nat → Int32) (pt : Int32) (N lb : Nat → Int32) : Nat → Int32 := llO n pt (llN n L pt N n) (llB lb n) 9
def xAll (n : Nat) : Int32 := xBit n - 1
def xWo (n k : Nat) : Int32 := (xBit n - 1) &&& (xBit k ^^^ (-1))
/-- CoffmanGrahamModel -/
def xin (x v : Int32) : Int32 := if (x >>> (v &&& 31)) &&& 1 = 1 then 1 else 0
def yCut (x : Int32) (k : Nat) : Int32 := (x &&& (xBit k - 1)) ||| ((x >>> (nI (k + 1) &&& 31)) <<< (nI k &&& 31))
def ycF (k : Nat) (F : Nat → Int32) : Nat → Nat → Int32
  | 0 => F
  | i + 1 => upd (ycF k F i) i (yCut (ycF k F i i) k)
def yRem (n : Nat) (F : Nat → Int32) (k : Nat) : Nat → Int32 := ycF k (upd (rmF F k (n - 1 - k)) (n - 1) 0) (n - 1)
def flI (n : Nat) (F L : Nat → Int32) : Nat → Nat → Int32
  | 0 => L
  | j + 1 => if xin (flI n F L j (j / n)) (nI (j % n)) = 0 then flI n F L j else upd (flI n F L j) (j / n) (flI n F L j (j / n) ||| F (j % n))
def flO (n : Nat) (F L : Nat → Int32) : Nat → Nat → Int32
  | 0 => L
  | r + 1 => flI n F (flO n F L r) (n * n)
def yFind (n : Nat) (F L : Nat → Int32) : Nat → Int32 := flO n F (coA F L n) 9
def yAO (n : Nat) (F L sl : Nat → Int32) (u v : Nat) : Int32 × (Nat × (Nat → Int32) × (Nat → Int32) × (Nat → Int32)) :=
  if nI u = nI v then (-4, (n, F, L, sl)) else if xin (L v) (nI u) = 0 then (if xin (F u) (nI v) = 0 then (1, (n, upd F u (F u ||| xBit v), L, sl)) else (0, (n, F, L, sl))) else (-4, (n, F, L, sl))
def yRO (n : Nat) (F L sl : Nat → Int32) (u v : Nat) : Int32 × (Nat × (Nat → Int32) × (Nat → Int32) × (Nat → Int32)) :=
  if xin (F u) (nI v) = 0 then (0, (n, F, L, sl)) else (1, (n, upd F u (F u &&& (xBit v ^^^ (-1))), L, sl))
def yhI (F : Nat → Int32) (rc : Int32) : Nat → Int32
  | 0 => 0
  | v + 1 => if xin rc (nI v) = 0 then yhI F rc v else yhI F rc v ||| F v
def yhO (n : Nat) (F : Nat → Int32) : Nat → Int32 → Nat → Int32
  | 0, _, _ => 9
  | k + 1, rc, h => if yhI F rc n = 0 then nI h else yhO n F k (yhI F rc n) (h + 1)
def yHt (n : Nat) (F : Nat → Int32) (u : Nat) : Int32 := yhO n F 9 (xBit u) 1
def yEx (n : Nat) (L : Nat → Int32) (u v : Nat) : Int32 := if ∀ w, w < n → (xin (L u) (nI w) = 0 ∨ xin (L w) (nI v) = 0) then 0 else 1
def ysI (n : Nat) (F L : Nat → Int32) (u : Nat) (c : Int32) : Nat → Int32
  | 0 => c
  | v + 1 => if xin (F u) (nI v) = 0 then ysI n F L u c v else if yEx n L u v = 0 then ysI n F L u c v else ysI n F L u c v + 1
def ysO (n : Nat) (F L : Nat → Int32) : Nat → Int32
  | 0 => 0
  | u + 1 => ysI n F L u (ysO n F L u) n
def ynI (n : Nat) (F L : Nat → Int32) (u : Nat) : Nat → Int32
  | 0 => 0
  | v + 1 => if xin (F u) (nI v) = 0 then ynI n F L u v else if yEx n L u v = 0 then ynI n F L u v + 1 else ynI n F L u v
def yIT (n : Nat) (F L : Nat → Int32) : Int32 := if ∀ u, u < n → ynI n F L u n ≤ 1 then 1 else 0
def yzI (x : Int32) : Nat → Int32
  | 0 => 0
  | v + 1 => if xin x (nI v) = 0 then yzI x v else yzI x v + 1
def ySz (x : Int32) : Int32 := yzI x 9
def yoI (F : Nat → Int32) (st dn : Int32) : Nat → Int32
  | 0 => 0
  | u + 1 => if xin st (nI u) = 0 then yoI F st dn u else if xin dn (nI u) = 0 then yoI F st dn u ||| F u else yoI F st dn u
def yOp (n : Nat) (F : Nat → Int32) (st dn : Int32) : Int32 := (st &&& (dn ^^^ (-1))) &&& (yoI F st dn n ^^^ (-1))
def ylA (sl : Nat → Int32) : Nat → Nat → Int32
  | 0 => sl
  | d + 1 => upd (ylA sl d) d (if nI d = 0 then 0 else 100)
def ylI (mm : Int32) (d : Nat) (op : Int32) : Nat → Int32 → (Nat → Int32) → (Nat → Int32)
  | 0, _, sl => sl
  | k + 1, now, sl => if now ≤ 0 then sl else ylI mm d op k ((now - 1) &&& op)
      (if mm < ySz now then sl else if sl (nI d ||| now).toNatClampNeg ≤ sl d + 1 then sl else upd sl (nI d ||| now).toNatClampNeg (sl d + 1))
def yOpn (n : Nat) (F : Nat → Int32) (st : Int32) (sl : Nat → Int32) (d : Nat) : Int32 := if sl d = 100 then 0 else yOp n F st (nI d)
def ylO (z n : Nat) (F : Nat → Int32) (st mm : Int32) (sl : Nat → Int32) : Nat → Nat → Int32
  | 0 => sl
  | d + 1 => ylI mm d (yOpn n F st (ylO z n F st mm sl d) d) z (yOpn n F st (ylO z n F st mm sl d) d) (ylO z n F st mm sl d)
/-- z: how many sets there are, 512 -/
def yLst (z n : Nat) (F : Nat → Int32) (st mm : Int32) (sl : Nat → Int32) : Nat → Int32 := ylO z n F st mm (ylA sl z) z
end
section
set_option maxHeartbeats 4000000 in
set_option maxRecDepth 100000 in
theorem mX1_isTask (l : Launch) (g : Geo) (n : Nat) (F L : Nat → Int32) (pt : Int32) (N lb : Nat → Int32) (hn : n ≤ 9) (v : Int32) : MI (x1 g) l yX1_isTask cX1_isTask 2 .boolean 0 [.ref (g.2.1 0), .int v] (n, F, L, pt, N, lb) (fun r u' => r = xT n v ∧ u' = (n, F, L, pt, N, lb)) := by
  refine MI_of (by decide) (Nat.le_of_ble_eq_true rfl) ?_
  intro p e s m args below meth c Q S kret ls hl I
  have hx := S.1
  have hb := S.2.1
  have hl : lv_has ls 2 [(0, .ref (g.2.1 0)), (1, .int v)] := hl
  refine lv_iload_n hx hb dX1_isTask_0 rfl (lv_at hl 1 rfl) ?_
  refine lv_if_lt (tgt := 16) hx hb dX1_isTask_1 (by decide) (fun c_1 => ?_) (fun c_1 => ?_)
  · refine lv_iconst (v := 0) hx hb dX1_isTask_16 (by decide) ?_
    exact kret _ _ _ _ _ _ dX1_isTask_17 rfl ⟨by simp only [xT, if_pos c_1], rfl⟩ I
  · refine lv_iload_n hx hb dX1_isTask_4 rfl (lv_at hl 1 rfl) ?_
    refine lv_aload_n hx hb dX1_isTask_5 rfl (lv_at hl 0 rfl) ?_
    refine g1_n S I dX1_isTask_6 ?_
    refine lv_icmp_ge (tgt := 16) hx hb dX1_isTask_9 (by decide) (fun c_9 => ?_) (fun c_9 => ?_)
    · refine lv_iconst (v := 0) hx hb dX1_isTask_16 (by decide) ?_
      exact kret _ _ _ _ _ _ dX1_isTask_17 rfl ⟨by simp only [xT, if_neg c_1, if_pos c_9], rfl⟩ I
    · refine lv_iconst (v := 1) hx hb dX1_isTask_12 (by decide) ?_
      refine lv_goto (tgt := 17) hx hb dX1_isTask_13 (by decide) ?_
      exact kret _ _ _ _ _ _ dX1_isTask_17 rfl ⟨by simp only [xT, if_neg c_1, if_neg c_9], rfl⟩ I
set_option maxHeartbeats 4000000 in
set_option maxRecDepth 100000 in
theorem mX1_tasks (l : Launch) (g : Geo) (n : Nat) (F L : Nat → Int32) (pt : Int32) (N lb : Nat → Int32) (hn : n ≤ 9) : MI (x1 g) l yX1_tasks cX1_tasks 1 .int 0 [.ref (g.2.1 0)] (n, F, L, pt, N, lb) (fun r u' => r = nI n ∧ u' = (n, F, L, pt, N, lb)) := by
  refine MI_of (by decide) (Nat.le_of_ble_eq_true rfl) ?_
  intro p e s m args below meth c Q S kret ls hl I
  have hx := S.1
  have hb := S.2.1
  have hl : lv_has ls 1 [(0, .ref (g.2.1 0))] := hl
  refine lv_aload_n hx hb dX1_tasks_0 rfl (lv_at hl 0 rfl) ?_
  refine g1_n S I dX1_tasks_1 ?_
  exact kret _ _ _ _ _ _ dX1_tasks_4 rfl ⟨rfl, rfl⟩ I
set_option maxHeartbeats 4000000 in
set_option maxRecDepth 100000 in
theorem mX1_closeOrders (l : Launch) (g : Geo) (n : Nat) (F L : Nat → Int32) (pt : Int32) (N lb : Nat → Int32) (hn : n ≤ 9) : MV (x1 g) l yX1_closeOrders cX1_closeOrders 3 0 [.ref (g.2.1 0)] (n, F, L, pt, N, lb) (fun u' => u' = (n, F, xClose n F L, pt, N, lb)) := by
  refine MV_of (by decide) (Nat.le_of_ble_eq_true rfl) ?_
  intro p e s m args below meth c Q S kret ls hl I
  have hx := S.1
  have hb := S.2.1
  have hl : lv_has ls 3 [(0, .ref (g.2.1 0))] := hl
  refine lv_iconst (v := nI 0) hx hb dX1_closeOrders_0 (by decide) ?_
  refine lv_istore_n (lv' := [(1, .int (nI 0)), (0, .ref (g.2.1 0))]) hx hb dX1_closeOrders_1 rfl hl (by decide) rfl (fun ls hl => ?_)
  have lp2 : ∀ (k2 i2 : Nat), i2 + k2 = n → ∀ (H : Heap) (locs : List Loc), XI (x1 g) s (n, F, (coA F L i2), pt, N, lb) H locs → ∀ ls : Array Slot, lv_has ls 3 [(0, .ref (g.2.1 0)), (1, .int (nI i2))] → W p l e (rmd 0) s m args below meth c H locs 0 0 Q (F0 m 2 ls []) := by
    intro k2
    induction k2 with
    | zero =>
      intro i2  e2  H locs I ls hl
      have e2 : i2 = n := by omega
      rw [e2] at I hl
      refine lv_iload_n hx hb dX1_closeOrders_2 rfl (lv_at hl 1 rfl) ?_
      refine lv_aload_n hx hb dX1_closeOrders_3 rfl (lv_at hl 0 rfl) ?_
      refine g1_n S I dX1_closeOrders_4 ?_
      refine lv_icmp_ge (tgt := 28) hx hb dX1_closeOrders_7 (by decide) (fun c_7 => ?_) (fun c_7 => absurd (nI_le (by omega) (by omega)) c_7)
      refine lv_iconst (v := nI 0) hx hb dX1_closeOrders_28 (by decide) ?_
      refine lv_istore_n (lv' := [(1, .int (nI 0)), (0, .ref (g.2.1 0))]) hx hb dX1_closeOrders_29 rfl hl (by decide) rfl (fun ls hl => ?_)
      have lp30 : ∀ (k30 i30 : Nat), i30 + k30 = n → ∀ (H : Heap) (locs : List Loc), XI (x1 g) s (n, F, (coO n (coA F L n) i30), pt, N, lb) H locs → ∀ ls : Array Slot, lv_has ls 3 [(0, .ref (g.2.1 0)), (1, .int (nI i30))] → W p l e (rmd 0) s m args below meth c H locs 0 0 Q (F0 m 30 ls []) := by
        intro k30
        induction k30 with
        | zero =>
          intro i30  e30  H locs I ls hl
          have e30 : i30 = n := by omega
          rw [e30] at I hl
          refine lv_iload_n hx hb dX1_closeOrders_30 rfl (lv_at hl 1 rfl) ?_
          refine lv_aload_n hx hb dX1_closeOrders_31 rfl (lv_at hl 0 rfl) ?_
          refine g1_n S I dX1_closeOrders_32 ?_
          refine lv_icmp_ge (tgt := 88) hx hb dX1_closeOrders_35 (by decide) (fun c_35 => ?_) (fun c_35 => absurd (nI_le (by omega) (by omega)) c_35)
          exact kret _ _ _ _ _ dX1_closeOrders_88 rfl I
        | succ k30 ih30 =>
          intro i30  e30  H locs I ls hl
          refine lv_iload_n hx hb dX1_closeOrders_30 rfl (lv_at hl 1 rfl) ?_
          refine lv_aload_n hx hb dX1_closeOrders_31 rfl (lv_at hl 0 rfl) ?_
          refine g1_n S I dX1_closeOrders_32 ?_
          refine lv_icmp_ge (tgt := 88) hx hb dX1_closeOrders_35 (by decide) (fun c_35 => absurd c_35 (nI_ge (by omega) (by omega))) (fun c_35 => ?_)
          refine lv_iconst (v := nI 0) hx hb dX1_closeOrders_38 (by decide) ?_
          refine lv_istore_n (lv' := [(2, .int (nI 0)), (0, .ref (g.2.1 0)), (1, .int (nI i30))]) hx hb dX1_closeOrders_39 rfl hl (by decide) rfl (fun ls hl => ?_)
          have lp40 : ∀ (k40 i40 : Nat), i40 + k40 = n → ∀ (H : Heap) (locs : List Loc), XI (x1 g) s (n, F, (coI i30 (coO n (coA F L n) i30) i40), pt, N, lb) H locs → ∀ ls : Array Slot, lv_has ls 3 [(0, .ref (g.2.1 0)), (1, .int (nI i30)), (2, .int (nI i40))] → W p l e (rmd 0) s m args below meth c H locs 0 0 Q (F0 m 40 ls []) := by
            intro k40
            induction k40 with
            | zero =>
              intro i40  e40  H locs I ls hl
              have e40 : i40 = n := by omega
              rw [e40] at I hl
              refine lv_iload_n hx hb dX1_closeOrders_40 rfl (lv_at hl 2 rfl) ?_
              refine lv_aload_n hx hb dX1_closeOrders_41 rfl (lv_at hl 0 rfl) ?_
              refine g1_n S I dX1_closeOrders_42 ?_
              refine lv_icmp_ge (tgt := 82) hx hb dX1_closeOrders_45 (by decide) (fun c_45 => ?_) (fun c_45 => absurd (nI_le (by omega) (by omega)) c_45)
              refine lv_iinc (v := nI (i30 + 1)) (lv' := [(1, .int (nI (i30 + 1))), (0, .ref (g.2.1 0)), (2, .int (nI n))]) hx hb dX1_closeOrders_82 hl (k := 1) rfl (nI_inc _) (by decide) rfl (fun ls hl => ?_)
              refine lv_goto (tgt := 30) hx hb dX1_closeOrders_85 (by decide) ?_
              have e_1 : coO n (coA F L n) (i30 + 1) = (coI i30 (coO n (coA F L n) i30) n) := by simp only [coO, if_pos c_7, if_neg c_35, if_pos c_45]
              exact ih30 (i30 + 1)  (by omega)  _ _ (by first | (rw [e_1]; exact I) | exact I | (simp only [e_1]; exact I)) _ (by first | (rw [e_1]; exact lv_sub hl [1, 0] rfl) | exact lv_sub hl [1, 0] rfl | (simp only [e_1]; exact lv_sub hl [1, 0] rfl))
            | succ k40 ih40 =>
              intro i40  e40  H locs I ls hl
              refine lv_iload_n hx hb dX1_closeOrders_40 rfl (lv_at hl 2 rfl) ?_
              refine lv_aload_n hx hb dX1_closeOrders_41 rfl (lv_at hl 0 rfl) ?_
              refine g1_n S I dX1_closeOrders_42 ?_
              refine lv_icmp_ge (tgt := 82) hx hb dX1_closeOrders_45 (by decide) (fun c_45 => absurd c_45 (nI_ge (by omega) (by omega))) (fun c_45 => ?_)
              refine lv_aload_n hx hb dX1_closeOrders_48 rfl (lv_at hl 0 rfl) ?_
              refine g1_L S I dX1_closeOrders_49 ?_
              refine lv_iload_n hx hb dX1_closeOrders_52 rfl (lv_at hl 2 rfl) ?_
              refine a1_ldL S I (k := i40) (by omega) dX1_closeOrders_53 ?_
              refine lv_iload_n hx hb dX1_closeOrders_54 rfl (lv_at hl 1 rfl) ?_
              refine lv_ishr hx hb dX1_closeOrders_55 ?_
              refine lv_iconst (v := 1) hx hb dX1_closeOrders_56 (by decide) ?_
              refine lv_iand hx hb dX1_closeOrders_57 ?_
              refine lv_if_eq (tgt := 76) hx hb dX1_closeOrders_58 (by decide) (fun c_58 => ?_) (fun c_58 => ?_)
              · refine lv_iinc (v := nI (i40 + 1)) (lv' := [(2, .int (nI (i40 + 1))), (0, .ref (g.2.1 0)), (1, .int (nI i30))]) hx hb dX1_closeOrders_76 hl (k := 2) rfl (nI_inc _) (by decide) rfl (fun ls hl => ?_)
                refine lv_goto (tgt := 40) hx hb dX1_closeOrders_79 (by decide) ?_
                have e_1 : coI i30 (coO n (coA F L n) i30) (i40 + 1) = (coI i30 (coO n (coA F L n) i30) i40) := by simp only [coI, if_pos c_7, if_neg c_35, if_neg c_45, if_pos c_58]
                exact ih40 (i40 + 1)  (by omega)  _ _ (by first | (rw [e_1]; exact I) | exact I | (simp only [e_1]; exact I)) _ (by first | (rw [e_1]; exact lv_sub hl [1, 2, 0] rfl) | exact lv_sub hl [1, 2, 0] rfl | (simp only [e_1]; exact lv_sub hl [1, 2, 0] rfl))
              · refine lv_aload_n hx hb dX1_closeOrders_61 rfl (lv_at hl 0 rfl) ?_
                refine g1_L S I dX1_closeOrders_62 ?_
                refine lv_iload_n hx hb dX1_closeOrders_65 rfl (lv_at hl 2 rfl) ?_
                refine lv_dup2_11 hx hb dX1_closeOrders_66 rfl rfl ?_
                refine a1_ldL S I (k := i40) (by omega) dX1_closeOrders_67 ?_
                refine lv_aload_n hx hb dX1_closeOrders_68 rfl (lv_at hl 0 rfl) ?_
                refine g1_L S I dX1_closeOrders_69 ?_
                refine lv_iload_n hx hb dX1_closeOrders_72 rfl (lv_at hl 1 rfl) ?_
                refine a1_ldL S I (k := i30) (by omega) dX1_closeOrders_73 ?_
                refine lv_ior hx hb dX1_closeOrders_74 ?_
                refine a1_stL S I (k := i40) (by omega) dX1_closeOrders_75 (fun H locs I => ?_)
                refine lv_iinc (v := nI (i40 + 1)) (lv' := [(2, .int (nI (i40 + 1))), (0, .ref (g.2.1 0)), (1, .int (nI i30))]) hx hb dX1_closeOrders_76 hl (k := 2) rfl (nI_inc _) (by decide) rfl (fun ls hl => ?_)
                refine lv_goto (tgt := 40) hx hb dX1_closeOrders_79 (by decide) ?_
                have e_1 : coI i30 (coO n (coA F L n) i30) (i40 + 1) = (upd (coI i30 (coO n (coA F L n) i30) i40) i40 (((coI i30 (coO n (coA F L n) i30) i40) i40) ||| ((coI i30 (coO n (coA F L n) i30) i40) i30))) := by simp only [coI, if_pos c_7, if_neg c_35, if_neg c_45, if_neg c_58]
                exact ih40 (i40 + 1)  (by omega)  _ _ (by first | (rw [e_1]; exact I) | exact I | (simp only [e_1]; exact I)) _ (by first | (rw [e_1]; exact lv_sub hl [1, 2, 0] rfl) | exact lv_sub hl [1, 2, 0] rfl | (simp only [e_1]; exact lv_sub hl [1, 2, 0] rfl))
          exact lp40 n 0  (by omega)  _ _ I _ (lv_sub hl [1, 2, 0] rfl)
      exact lp30 n 0  (by omega)  _ _ I _ (lv_sub hl [1, 0] rfl)
    | succ k2 ih2 =>
      intro i2  e2  H locs I ls hl
      refine lv_iload_n hx hb dX1_closeOrders_2 rfl (lv_at hl 1 rfl) ?_
      refine lv_aload_n hx hb dX1_closeOrders_3 rfl (lv_at hl 0 rfl) ?_
      refine g1_n S I dX1_closeOrders_4 ?_
      refine lv_icmp_ge (tgt := 28) hx hb dX1_closeOrders_7 (by decide) (fun c_7 => absurd c_7 (nI_ge (by omega) (by omega))) (fun c_7 => ?_)
      refine lv_aload_n hx hb dX1_closeOrders_10 rfl (lv_at hl 0 rfl) ?_
      refine g1_L S I dX1_closeOrders_11 ?_
      refine lv_iload_n hx hb dX1_closeOrders_14 rfl (lv_at hl 1 rfl) ?_
      refine lv_aload_n hx hb dX1_closeOrders_15 rfl (lv_at hl 0 rfl) ?_
      refine g1_F S I dX1_closeOrders_16 ?_
      refine lv_iload_n hx hb dX1_closeOrders_19 rfl (lv_at hl 1 rfl) ?_
      refine a1_ldF S I (k := i2) (by omega) dX1_closeOrders_20 ?_
      refine a1_stL S I (k := i2) (by omega) dX1_closeOrders_21 (fun H locs I => ?_)
      refine lv_iinc (v := nI (i2 + 1)) (lv' := [(1, .int (nI (i2 + 1))), (0, .ref (g.2.1 0))]) hx hb dX1_closeOrders_22 hl (k := 1) rfl (nI_inc _) (by decide) rfl (fun ls hl => ?_)
      refine lv_goto (tgt := 2) hx hb dX1_closeOrders_25 (by decide) ?_
      have e_1 : coA F L (i2 + 1) = (upd (coA F L i2) i2 (F i2)) := by simp only [coA, if_neg c_7]
      exact ih2 (i2 + 1)  (by omega)  _ _ (by first | (rw [e_1]; exact I) | exact I | (simp only [e_1]; exact I)) _ (by first | (rw [e_1]; exact lv_sub hl [1, 0] rfl) | exact lv_sub hl [1, 0] rfl | (simp only [e_1]; exact lv_sub hl [1, 0] rfl))
  exact lp2 n 0  (by omega)  _ _ I _ (lv_sub hl [1, 0] rfl)
set_option maxHeartbeats 4000000 in
set_option maxRecDepth 100000 in
theorem mX1_immediate (l : Launch) (g : Geo) (n : Nat) (F L : Nat → Int32) (pt : Int32) (N lb : Nat → Int32) (hn : n ≤ 9) (a af : Int32) : MI (x1 g) l yX1_immediate cX1_immediate 5 .int 0 [.ref (g.2.1 0), .int a, .int af] (n, F, L, pt, N, lb) (fun r u' => r = xImm n L af ∧ u' = (n, F, L, pt, N, lb)) := by
  refine MI_of (by decide) (Nat.le_of_ble_eq_true rfl) ?_
  intro p e s m args below meth c Q S kret ls hl I
  have hx := S.1
  have hb := S.2.1
  have hl : lv_has ls 5 [(0, .ref (g.2.1 0)), (1, .int a), (2, .int af)] := hl
  refine lv_iload_n hx hb dX1_immediate_0 rfl (lv_at hl 2 rfl) ?_
  refine lv_istore_n (lv' := [(3, .int af), (0, .ref (g.2.1 0)), (1, .int a), (2, .int af)]) hx hb dX1_immediate_1 rfl hl (by decide) rfl (fun ls hl => ?_)
  refine lv_iconst (v := nI 0) hx hb dX1_immediate_2 (by decide) ?_
  refine lv_istore (lv' := [(4, .int (nI 0)), (3, .int af), (0, .ref (g.2.1 0)), (1, .int a), (2, .int af)]) hx hb dX1_immediate_3 hl (by decide) rfl (fun ls hl => ?_)
  have lp5 : ∀ (k5 i5 : Nat), i5 + k5 = n → ∀ (H : Heap) (locs : List Loc), XI (x1 g) s (n, F, L, pt, N, lb) H locs → ∀ ls : Array Slot, lv_has ls 5 [(0, .ref (g.2.1 0)), (2, .int af), (3, .int (imI L af i5)), (4, .int (nI i5))] → W p l e (rmd 0) s m args below meth c H locs 0 0 Q (F0 m 5 ls []) := by
    intro k5
    induction k5 with
    | zero =>
      intro i5  e5  H locs I ls hl
      have e5 : i5 = n := by omega
      rw [e5] at hl
      refine lv_iload hx hb dX1_immediate_5 (lv_at hl 3 rfl) ?_
      refine lv_aload_n hx hb dX1_immediate_7 rfl (lv_at hl 0 rfl) ?_
      refine g1_n S I dX1_immediate_8 ?_
      refine lv_icmp_ge (tgt := 41) hx hb dX1_immediate_11 (by decide) (fun c_11 => ?_) (fun c_11 => absurd (nI_le (by omega) (by omega)) c_11)
      refine lv_iload_n hx hb dX1_immediate_41 rfl (lv_at hl 2 rfl) ?_
      exact kret _ _ _ _ _ _ dX1_immediate_42 rfl ⟨rfl, rfl⟩ I
    | succ k5 ih5 =>
      intro i5  e5  H locs I ls hl
      refine lv_iload hx hb dX1_immediate_5 (lv_at hl 3 rfl) ?_
      refine lv_aload_n hx hb dX1_immediate_7 rfl (lv_at hl 0 rfl) ?_
      refine g1_n S I dX1_immediate_8 ?_
      refine lv_icmp_ge (tgt := 41) hx hb dX1_immediate_11 (by decide) (fun c_11 => absurd c_11 (nI_ge (by omega) (by omega))) (fun c_11 => ?_)
      refine lv_iload_n hx hb dX1_immediate_14 rfl (lv_at hl 1 rfl) ?_
      refine lv_iload hx hb dX1_immediate_15 (lv_at hl 3 rfl) ?_
      refine lv_ishr hx hb dX1_immediate_17 ?_
      refine lv_iconst (v := 1) hx hb dX1_immediate_18 (by decide) ?_
      refine lv_iand hx hb dX1_immediate_19 ?_
      refine lv_if_eq (tgt := 35) hx hb dX1_immediate_20 (by decide) (fun c_20 => ?_) (fun c_20 => ?_)
      · refine lv_iinc (v := nI (i5 + 1)) (lv' := [(4, .int (nI (i5 + 1))), (0, .ref (g.2.1 0)), (2, .int af), (3, .int (imI L af i5))]) hx hb dX1_immediate_35 hl (k := 3) rfl (nI_inc _) (by decide) rfl (fun ls hl => ?_)
        refine lv_goto (tgt := 5) hx hb dX1_immediate_38 (by decide) ?_
        have e_1 : imI L af (i5 + 1) = imI L af i5 := by simp only [imI, if_neg c_11, if_pos c_20]
        exact ih5 (i5 + 1)  (by omega)  _ _ (by first | (rw [e_1]; exact I) | exact I | (simp only [e_1]; exact I)) _ (by first | (rw [e_1]; exact lv_sub hl [1, 2, 3, 0] rfl) | exact lv_sub hl [1, 2, 3, 0] rfl | (simp only [e_1]; exact lv_sub hl [1, 2, 3, 0] rfl))
      · refine lv_iload_n hx hb dX1_immediate_23 rfl (lv_at hl 2 rfl) ?_
        refine lv_aload_n hx hb dX1_immediate_24 rfl (lv_at hl 0 rfl) ?_
        refine g1_L S I dX1_immediate_25 ?_
        refine lv_iload hx hb dX1_immediate_28 (lv_at hl 3 rfl) ?_
        refine a1_ldL S I (k := i5) (by omega) dX1_immediate_30 ?_
        refine lv_iconst (v := (-1)) hx hb dX1_immediate_31 (by decide) ?_
        refine lv_ixor hx hb dX1_immediate_32 ?_
        refine lv_iand hx hb dX1_immediate_33 ?_
        refine lv_istore_n (lv' := [(3, .int ((imI L af i5) &&& ((L i5) ^^^ (-1)))), (0, .ref (g.2.1 0)), (2, .int af), (4, .int (nI i5))]) hx hb dX1_immediate_34 rfl hl (by decide) rfl (fun ls hl => ?_)
        refine lv_iinc (v := nI (i5 + 1)) (lv' := [(4, .int (nI (i5 + 1))), (3, .int ((imI L af i5) &&& ((L i5) ^^^ (-1)))), (0, .ref (g.2.1 0)), (2, .int af)]) hx hb dX1_immediate_35 hl (k := 3) rfl (nI_inc _) (by decide) rfl (fun ls hl => ?_)
        refine lv_goto (tgt := 5) hx hb dX1_immediate_38 (by decide) ?_
        have e_1 : imI L af (i5 + 1) = (imI L af i5) &&& ((L i5) ^^^ (-1)) := by simp only [imI, if_neg c_11, if_neg c_20]
        exact ih5 (i5 + 1)  (by omega)  _ _ (by first | (rw [e_1]; exact I) | exact I | (simp only [e_1]; exact I)) _ (by first | (rw [e_1]; exact lv_sub hl [2, 3, 1, 0] rfl) | exact lv_sub hl [2, 3, 1, 0] rfl | (simp only [e_1]; exact lv_sub hl [2, 3, 1, 0] rfl))
  exact lp5 n 0  (by omega)  _ _ I _ (lv_sub hl [2, 4, 1, 0] rfl)
set_option maxHeartbeats 4000000 in
set_option maxRecDepth 100000 in
theorem mX1_bitsIn (l : Launch) (g : Geo) (n : Nat) (F L : Nat → Int32) (pt : Int32) (N lb : Nat → Int32) (hn : n ≤ 9) (x : Int32) : MI (x1 g) l yX1_bitsIn cX1_bitsIn 4 .int 0 [.ref (g.2.1 0), .int x] (n, F, L, pt, N, lb) (fun r u' => r = xBits x ∧ u' = (n, F, L, pt, N, lb)) := by
  refine MI_of (by decide) (Nat.le_of_ble_eq_true rfl) ?_
  intro p e s m args below meth c Q S kret ls hl I
  have hx := S.1
  have hb := S.2.1
  have hl : lv_has ls 4 [(0, .ref (g.2.1 0)), (1, .int x)] := hl
  refine lv_iconst (v := 0) hx hb dX1_bitsIn_0 (by decide) ?_
  refine lv_istore_n (lv' := [(2, .int 0), (0, .ref (g.2.1 0)), (1, .int x)]) hx hb dX1_bitsIn_1 rfl hl (by decide) rfl (fun ls hl => ?_)
  refine lv_iconst (v := nI 0) hx hb dX1_bitsIn_2 (by decide) ?_
  refine lv_istore_n (lv' := [(3, .int (nI 0)), (2, .int 0), (0, .ref (g.2.1 0)), (1, .int x)]) hx hb dX1_bitsIn_3 rfl hl (by decide) rfl (fun ls hl => ?_)
  have lp4 : ∀ (k4 i4 : Nat), i4 + k4 = 9 → ∀ (H : Heap) (locs : List Loc), XI (x1 g) s (n, F, L, pt, N, lb) H locs → ∀ ls : Array Slot, lv_has ls 4 [(0, .ref (g.2.1 0)), (1, .int x), (2, .int (biI x i4)), (3, .int (nI i4))] → W p l e (rmd 0) s m args below meth c H locs 0 0 Q (F0 m 4 ls []) := by
    intro k4
    induction k4 with
    | zero =>
      intro i4  e4  H locs I ls hl
      have e4 : i4 = 9 := by omega
      rw [e4] at hl
      refine lv_iload_n hx hb dX1_bitsIn_4 rfl (lv_at hl 3 rfl) ?_
      refine lv_bipush (v := nI 9) hx hb dX1_bitsIn_5 (by decide) ?_
      refine lv_icmp_ge (tgt := 24) hx hb dX1_bitsIn_7 (by decide) (fun c_7 => ?_) (fun c_7 => absurd (nI_le (by omega) (by omega)) c_7)
      refine lv_iload_n hx hb dX1_bitsIn_24 rfl (lv_at hl 2 rfl) ?_
      exact kret _ _ _ _ _ _ dX1_bitsIn_25 rfl ⟨rfl, rfl⟩ I
    | succ k4 ih4 =>
      intro i4  e4  H locs I ls hl
      refine lv_iload_n hx hb dX1_bitsIn_4 rfl (lv_at hl 3 rfl) ?_
      refine lv_bipush (v := nI 9) hx hb dX1_bitsIn_5 (by decide) ?_
      refine lv_icmp_ge (tgt := 24) hx hb dX1_bitsIn_7 (by decide) (fun c_7 => absurd c_7 (nI_ge (by omega) (by omega))) (fun c_7 => ?_)
      refine lv_iload_n hx hb dX1_bitsIn_10 rfl (lv_at hl 2 rfl) ?_
      refine lv_iload_n hx hb dX1_bitsIn_11 rfl (lv_at hl 1 rfl) ?_
      refine lv_iload_n hx hb dX1_bitsIn_12 rfl (lv_at hl 3 rfl) ?_
      refine lv_ishr hx hb dX1_bitsIn_13 ?_
      refine lv_iconst (v := 1) hx hb dX1_bitsIn_14 (by decide) ?_
      refine lv_iand hx hb dX1_bitsIn_15 ?_
      refine lv_iadd hx hb dX1_bitsIn_16 ?_
      refine lv_istore_n (lv' := [(2, .int ((biI x i4) + ((x >>> ((nI i4) &&& 31)) &&& 1))), (0, .ref (g.2.1 0)), (1, .int x), (3, .int (nI i4))]) hx hb dX1_bitsIn_17 rfl hl (by decide) rfl (fun ls hl => ?_)
      refine lv_iinc (v := nI (i4 + 1)) (lv' := [(3, .int (nI (i4 + 1))), (2, .int ((biI x i4) + ((x >>> ((nI i4) &&& 31)) &&& 1))), (0, .ref (g.2.1 0)), (1, .int x)]) hx hb dX1_bitsIn_18 hl (k := 3) rfl (nI_inc _) (by decide) rfl (fun ls hl => ?_)
      refine lv_goto (tgt := 4) hx hb dX1_bitsIn_21 (by decide) ?_
      have e_1 : biI x (i4 + 1) = (biI x i4) + ((x >>> ((nI i4) &&& 31)) &&& 1) := by simp only [biI, if_neg c_7]
      exact ih4 (i4 + 1)  (by omega)  _ _ (by first | (rw [e_1]; exact I) | exact I | (simp only [e_1]; exact I)) _ (by first | (rw [e_1]; exact lv_sub hl [2, 3, 1, 0] rfl) | exact lv_sub hl [2, 3, 1, 0] rfl | (simp only [e_1]; exact lv_sub hl [2, 3, 1, 0] rfl))
  exact lp4 9 0  (by omega)  _ _ I _ (lv_sub hl [2, 3, 1, 0] rfl)
set_option maxHeartbeats 4000000 in
set_option maxRecDepth 100000 in
theorem mX1_heightOf (l : Launch) (g : Geo) (n : Nat) (F L : Nat → Int32) (pt : Int32) (N lb : Nat → Int32) (hn : n ≤ 9) (k : Nat) (hk : k < n) : MI (x1 g) l yX1_heightOf cX1_heightOf 7 .int 0 [.ref (g.2.1 0), .int (nI k)] (n, F, L, pt, N, lb) (fun r u' => r = xHt n L k ∧ u' = (n, F, L, pt, N, lb)) := by
  refine MI_of (by decide) (Nat.le_of_ble_eq_true rfl) ?_
  intro p e s m args below meth c Q S kret ls hl I
  have hx := S.1
  have hb := S.2.1
  have hl : lv_has ls 7 [(0, .ref (g.2.1 0)), (1, .int (nI k))] := hl
  refine lv_aload_n hx hb dX1_heightOf_0 rfl (lv_at hl 0 rfl) ?_
  refine g1_L S I dX1_heightOf_1 ?_
  refine lv_iload_n hx hb dX1_heightOf_4 rfl (lv_at hl 1 rfl) ?_
  refine a1_ldL S I (k := k) (by omega) dX1_heightOf_5 ?_
  refine lv_istore_n (lv' := [(2, .int (L k)), (0, .ref (g.2.1 0)), (1, .int (nI k))]) hx hb dX1_heightOf_6 rfl hl (by decide) rfl (fun ls hl => ?_)
  refine lv_iconst (v := 1) hx hb dX1_heightOf_7 (by decide) ?_
  refine lv_istore_n (lv' := [(3, .int 1), (2, .int (L k)), (0, .ref (g.2.1 0)), (1, .int (nI k))]) hx hb dX1_heightOf_8 rfl hl (by decide) rfl (fun ls hl => ?_)
  refine lv_iconst (v := nI 0) hx hb dX1_heightOf_9 (by decide) ?_
  refine lv_istore (lv' := [(4, .int (nI 0)), (3, .int 1), (2, .int (L k)), (0, .ref (g.2.1 0)), (1, .int (nI k))]) hx hb dX1_heightOf_10 hl (by decide) rfl (fun ls hl => ?_)
  have lp12 : ∀ (k12 i12 : Nat) (rest : Int32) (hh : Int32), i12 + k12 = 9 → (hoO n L k12 rest hh = xHt n L k) → ∀ (H : Heap) (locs : List Loc), XI (x1 g) s (n, F, L, pt, N, lb) H locs → ∀ ls : Array Slot, lv_has ls 7 [(0, .ref (g.2.1 0)), (2, .int rest), (3, .int hh), (4, .int (nI i12))] → W p l e (rmd 0) s m args below meth c H locs 0 0 Q (F0 m 12 ls []) := by
    intro k12
    induction k12 with
    | zero =>
      intro i12 rest hh e12 hq H locs I ls hl
      have e12 : i12 = 9 := by omega
      rw [e12] at hl
      refine lv_iload hx hb dX1_heightOf_12 (lv_at hl 3 rfl) ?_
      refine lv_bipush (v := nI 9) hx hb dX1_heightOf_14 (by decide) ?_
      refine lv_icmp_ge (tgt := 86) hx hb dX1_heightOf_16 (by decide) (fun c_16 => ?_) (fun c_16 => absurd (nI_le (by omega) (by omega)) c_16)
      refine lv_iload_n hx hb dX1_heightOf_86 rfl (lv_at hl 2 rfl) ?_
      exact kret _ _ _ _ _ _ dX1_heightOf_87 rfl ⟨by first | exact hq | (rw [← hq]; simp only [hoO, if_pos c_16]), rfl⟩ I
    | succ k12 ih12 =>
      intro i12 rest hh e12 hq H locs I ls hl
      refine lv_iload hx hb dX1_heightOf_12 (lv_at hl 3 rfl) ?_
      refine lv_bipush (v := nI 9) hx hb dX1_heightOf_14 (by decide) ?_
      refine lv_icmp_ge (tgt := 86) hx hb dX1_heightOf_16 (by decide) (fun c_16 => absurd c_16 (nI_ge (by omega) (by omega))) (fun c_16 => ?_)
      refine lv_iload_n hx hb dX1_heightOf_19 rfl (lv_at hl 1 rfl) ?_
      refine lv_if_eq (tgt := 86) hx hb dX1_heightOf_20 (by decide) (fun c_20 => ?_) (fun c_20 => ?_)
      · refine lv_iload_n hx hb dX1_heightOf_86 rfl (lv_at hl 2 rfl) ?_
        exact kret _ _ _ _ _ _ dX1_heightOf_87 rfl ⟨by first | exact hq | (rw [← hq]; simp only [hoO, if_neg c_16, if_pos c_20]), rfl⟩ I
      · refine lv_iconst (v := 0) hx hb dX1_heightOf_23 (by decide) ?_
        refine lv_istore (lv' := [(5, .int 0), (0, .ref (g.2.1 0)), (2, .int rest), (3, .int hh), (4, .int (nI i12))]) hx hb dX1_heightOf_24 hl (by decide) rfl (fun ls hl => ?_)
        refine lv_iconst (v := nI 0) hx hb dX1_heightOf_26 (by decide) ?_
        refine lv_istore (lv' := [(6, .int (nI 0)), (5, .int 0), (0, .ref (g.2.1 0)), (2, .int rest), (3, .int hh), (4, .int (nI i12))]) hx hb dX1_heightOf_27 hl (by decide) rfl (fun ls hl => ?_)
        have lp29 : ∀ (k29 i29 : Nat), i29 + k29 = n → ∀ (H : Heap) (locs : List Loc), XI (x1 g) s (n, F, L, pt, N, lb) H locs → ∀ ls : Array Slot, lv_has ls 7 [(0, .ref (g.2.1 0)), (2, .int rest), (3, .int hh), (4, .int (nI i12)), (5, .int (hoI L rest i29)), (6, .int (nI i29))] → W p l e (rmd 0) s m args below meth c H locs 0 0 Q (F0 m 29 ls []) := by
          intro k29
          induction k29 with
          | zero =>
            intro i29  e29  H locs I ls hl
            have e29 : i29 = n := by omega
            rw [e29] at hl
            refine lv_iload hx hb dX1_heightOf_29 (lv_at hl 5 rfl) ?_
            refine lv_aload_n hx hb dX1_heightOf_31 rfl (lv_at hl 0 rfl) ?_
            refine g1_n S I dX1_heightOf_32 ?_
            refine lv_icmp_ge (tgt := 74) hx hb dX1_heightOf_35 (by decide) (fun c_35 => ?_) (fun c_35 => absurd (nI_le (by omega) (by omega)) c_35)
            refine lv_iload hx hb dX1_heightOf_74 (lv_at hl 4 rfl) ?_
            refine lv_istore_n (lv' := [(2, .int (hoI L rest n)), (0, .ref (g.2.1 0)), (3, .int hh), (4, .int (nI i12)), (5, .int (hoI L rest n)), (6, .int (nI n))]) hx hb dX1_heightOf_76 rfl hl (by decide) rfl (fun ls hl => ?_)
            refine lv_iinc (v := hh + 1) (lv' := [(3, .int (hh + 1)), (2, .int (hoI L rest n)), (0, .ref (g.2.1 0)), (4, .int (nI i12)), (5, .int (hoI L rest n)), (6, .int (nI n))]) hx hb dX1_heightOf_77 hl (k := 2) rfl rfl (by decide) rfl (fun ls hl => ?_)
            refine lv_iinc (v := nI (i12 + 1)) (lv' := [(4, .int (nI (i12 + 1))), (3, .int (hh + 1)), (2, .int (hoI L rest n)), (0, .ref (g.2.1 0)), (5, .int (hoI L rest n)), (6, .int (nI n))]) hx hb dX1_heightOf_80 hl (k := 3) rfl (nI_inc _) (by decide) rfl (fun ls hl => ?_)
            refine lv_goto (tgt := 12) hx hb dX1_heightOf_83 (by decide) ?_
            exact ih12 (i12 + 1) (hoI L rest n) (hh + 1) (by omega) (by rw [← hq]; simp only [hoO, if_neg c_20]) _ _ I _ (lv_sub hl [3, 2, 1, 0] rfl)
          | succ k29 ih29 =>
            intro i29  e29  H locs I ls hl
            refine lv_iload hx hb dX1_heightOf_29 (lv_at hl 5 rfl) ?_
            refine lv_aload_n hx hb dX1_heightOf_31 rfl (lv_at hl 0 rfl) ?_
            refine g1_n S I dX1_heightOf_32 ?_
            refine lv_icmp_ge (tgt := 74) hx hb dX1_heightOf_35 (by decide) (fun c_35 => absurd c_35 (nI_ge (by omega) (by omega))) (fun c_35 => ?_)
            refine lv_iload_n hx hb dX1_heightOf_38 rfl (lv_at hl 1 rfl) ?_
            refine lv_iload hx hb dX1_heightOf_39 (lv_at hl 5 rfl) ?_
            refine lv_ishr hx hb dX1_heightOf_41 ?_
            refine lv_iconst (v := 1) hx hb dX1_heightOf_42 (by decide) ?_
            refine lv_iand hx hb dX1_heightOf_43 ?_
            refine lv_if_eq (tgt := 68) hx hb dX1_heightOf_44 (by decide) (fun c_44 => ?_) (fun c_44 => ?_)
            · refine lv_iinc (v := nI (i29 + 1)) (lv' := [(6, .int (nI (i29 + 1))), (0, .ref (g.2.1 0)), (2, .int rest), (3, .int hh), (4, .int (nI i12)), (5, .int (hoI L rest i29))]) hx hb dX1_heightOf_68 hl (k := 5) rfl (nI_inc _) (by decide) rfl (fun ls hl => ?_)
              refine lv_goto (tgt := 29) hx hb dX1_heightOf_71 (by decide) ?_
              have e_1 : hoI L rest (i29 + 1) = hoI L rest i29 := by simp only [hoI, if_neg c_16, if_neg c_20, if_neg c_35, if_pos c_44]
              exact ih29 (i29 + 1)  (by omega)  _ _ (by first | (rw [e_1]; exact I) | exact I | (simp only [e_1]; exact I)) _ (by first | (rw [e_1]; exact lv_sub hl [1, 2, 3, 4, 5, 0] rfl) | exact lv_sub hl [1, 2, 3, 4, 5, 0] rfl | (simp only [e_1]; exact lv_sub hl [1, 2, 3, 4, 5, 0] rfl))
            · refine lv_aload_n hx hb dX1_heightOf_47 rfl (lv_at hl 0 rfl) ?_
              refine g1_L S I dX1_heightOf_48 ?_
              refine lv_iload hx hb dX1_heightOf_51 (lv_at hl 5 rfl) ?_
              refine a1_ldL S I (k := i29) (by omega) dX1_heightOf_53 ?_
              refine lv_iload_n hx hb dX1_heightOf_54 rfl (lv_at hl 1 rfl) ?_
              refine lv_iand hx hb dX1_heightOf_55 ?_
              refine lv_if_eq (tgt := 68) hx hb dX1_heightOf_56 (by decide) (fun c_56 => ?_) (fun c_56 => ?_)
              · refine lv_iinc (v := nI (i29 + 1)) (lv' := [(6, .int (nI (i29 + 1))), (0, .ref (g.2.1 0)), (2, .int rest), (3, .int hh), (4, .int (nI i12)), (5, .int (hoI L rest i29))]) hx hb dX1_heightOf_68 hl (k := 5) rfl (nI_inc _) (by decide) rfl (fun ls hl => ?_)
                refine lv_goto (tgt := 29) hx hb dX1_heightOf_71 (by decide) ?_
                have e_1 : hoI L rest (i29 + 1) = hoI L rest i29 := by simp only [hoI, if_neg c_16, if_neg c_20, if_neg c_35, if_neg c_44, if_pos c_56]
                exact ih29 (i29 + 1)  (by omega)  _ _ (by first | (rw [e_1]; exact I) | exact I | (simp only [e_1]; exact I)) _ (by first | (rw [e_1]; exact lv_sub hl [1, 2, 3, 4, 5, 0] rfl) | exact lv_sub hl [1, 2, 3, 4, 5, 0] rfl | (simp only [e_1]; exact lv_sub hl [1, 2, 3, 4, 5, 0] rfl))
              · refine lv_iload hx hb dX1_heightOf_59 (lv_at hl 4 rfl) ?_
                refine lv_iconst (v := 1) hx hb dX1_heightOf_61 (by decide) ?_
                refine lv_iload hx hb dX1_heightOf_62 (lv_at hl 5 rfl) ?_
                refine lv_ishl hx hb dX1_heightOf_64 ?_
                refine lv_ior hx hb dX1_heightOf_65 ?_
                refine lv_istore (lv' := [(5, .int ((hoI L rest i29) ||| ((1 : Int32) <<< ((nI i29) &&& 31)))), (0, .ref (g.2.1 0)), (2, .int rest), (3, .int hh), (4, .int (nI i12)), (6, .int (nI i29))]) hx hb dX1_heightOf_66 hl (by decide) rfl (fun ls hl => ?_)
                refine lv_iinc (v := nI (i29 + 1)) (lv' := [(6, .int (nI (i29 + 1))), (5, .int ((hoI L rest i29) ||| ((1 : Int32) <<< ((nI i29) &&& 31)))), (0, .ref (g.2.1 0)), (2, .int rest), (3, .int hh), (4, .int (nI i12))]) hx hb dX1_heightOf_68 hl (k := 5) rfl (nI_inc _) (by decide) rfl (fun ls hl => ?_)
                refine lv_goto (tgt := 29) hx hb dX1_heightOf_71 (by decide) ?_
                have e_1 : hoI L rest (i29 + 1) = (hoI L rest i29) ||| ((1 : Int32) <<< ((nI i29) &&& 31)) := by simp only [hoI, if_neg c_16, if_neg c_20, if_neg c_35, if_neg c_44, if_neg c_56]
                exact ih29 (i29 + 1)  (by omega)  _ _ (by first | (rw [e_1]; exact I) | exact I | (simp only [e_1]; exact I)) _ (by first | (rw [e_1]; exact lv_sub hl [2, 3, 4, 5, 1, 0] rfl) | exact lv_sub hl [2, 3, 4, 5, 1, 0] rfl | (simp only [e_1]; exact lv_sub hl [2, 3, 4, 5, 1, 0] rfl))
        exact lp29 n 0  (by omega)  _ _ I _ (lv_sub hl [2, 3, 4, 5, 1, 0] rfl)
  exact lp12 9 0 (L k) 1 (by omega) rfl _ _ I _ (lv_sub hl [3, 2, 1, 0] rfl)
end
section
set_option maxHeartbeats 4000000 in
set_option maxRecDepth 100000 in
theorem mX1_isReady (l : Launch) (g : Geo) (n : Nat) (F L : Nat → Int32) (pt : Int32) (N lb : Nat → Int32) (hn : n ≤ 9) (v op : Int32) : MI (x1 g) l yX1_isReady cX1_isReady 4 .boolean 0 [.ref (g.2.1 0), .int v, .int op] (n, F, L, pt, N, lb) (fun r u' => r = xRdy n L v op ∧ u' = (n, F, L, pt, N, lb)) := by
  refine MI_of (by decide) (Nat.le_of_ble_eq_true rfl) ?_
  intro p e s m args below meth c Q S kret ls hl I
  have hx := S.1
  have hb := S.2.1
  have hl : lv_has ls 4 [(0, .ref (g.2.1 0)), (1, .int v), (2, .int op)] := hl
  refine lv_iconst (v := nI 0) hx hb dX1_isReady_0 (by decide) ?_
  refine lv_istore_n (lv' := [(3, .int (nI 0)), (0, .ref (g.2.1 0)), (1, .int v), (2, .int op)]) hx hb dX1_isReady_1 rfl hl (by decide) rfl (fun ls hl => ?_)
  have lp2 : ∀ (k2 i2 : Nat), i2 + k2 = n → (∀ j, j < i2 → (tb op (nI j) = 0 ∨ tb (L j) v = 0)) → ∀ (H : Heap) (locs : List Loc), XI (x1 g) s (n, F, L, pt, N, lb) H locs → ∀ ls : Array Slot, lv_has ls 4 [(0, .ref (g.2.1 0)), (1, .int v), (2, .int op), (3, .int (nI i2))] → W p l e (rmd 0) s m args below meth c H locs 0 0 Q (F0 m 2 ls []) := by
    intro k2
    induction k2 with
    | zero =>
      intro i2  e2 hq H locs I ls hl
      have e2 : i2 = n := by omega
      rw [e2] at hl hq
      refine lv_iload_n hx hb dX1_isReady_2 rfl (lv_at hl 3 rfl) ?_
      refine lv_aload_n hx hb dX1_isReady_3 rfl (lv_at hl 0 rfl) ?_
      refine g1_n S I dX1_isReady_4 ?_
      refine lv_icmp_ge (tgt := 39) hx hb dX1_isReady_7 (by decide) (fun c_7 => ?_) (fun c_7 => absurd (nI_le (by omega) (by omega)) c_7)
      refine lv_iconst (v := 1) hx hb dX1_isReady_39 (by decide) ?_
      exact kret _ _ _ _ _ _ dX1_isReady_40 rfl ⟨by unfold xRdy; rw [if_pos hq], rfl⟩ I
    | succ k2 ih2 =>
      intro i2  e2 hq H locs I ls hl
      refine lv_iload_n hx hb dX1_isReady_2 rfl (lv_at hl 3 rfl) ?_
      refine lv_aload_n hx hb dX1_isReady_3 rfl (lv_at hl 0 rfl) ?_
      refine g1_n S I dX1_isReady_4 ?_
      refine lv_icmp_ge (tgt := 39) hx hb dX1_isReady_7 (by decide) (fun c_7 => absurd c_7 (nI_ge (by omega) (by omega))) (fun c_7 => ?_)
      refine lv_iload_n hx hb dX1_isReady_10 rfl (lv_at hl 2 rfl) ?_
      refine lv_iload_n hx hb dX1_isReady_11 rfl (lv_at hl 3 rfl) ?_
      refine lv_ishr hx hb dX1_isReady_12 ?_
      refine lv_iconst (v := 1) hx hb dX1_isReady_13 (by decide) ?_
      refine lv_iand hx hb dX1_isReady_14 ?_
      refine lv_if_eq (tgt := 33) hx hb dX1_isReady_15 (by decide) (fun c_15 => ?_) (fun c_15 => ?_)
      · refine lv_iinc (v := nI (i2 + 1)) (lv' := [(3, .int (nI (i2 + 1))), (0, .ref (g.2.1 0)), (1, .int v), (2, .int op)]) hx hb dX1_isReady_33 hl (k := 3) rfl (nI_inc _) (by decide) rfl (fun ls hl => ?_)
        refine lv_goto (tgt := 2) hx hb dX1_isReady_36 (by decide) ?_
        exact ih2 (i2 + 1)  (by omega) (lt_s hq (by first | exact Or.inl c_15 | exact Or.inr c_28)) _ _ I _ (lv_sub hl [1, 2, 3, 0] rfl)
      · refine lv_aload_n hx hb dX1_isReady_18 rfl (lv_at hl 0 rfl) ?_
        refine g1_L S I dX1_isReady_19 ?_
        refine lv_iload_n hx hb dX1_isReady_22 rfl (lv_at hl 3 rfl) ?_
        refine a1_ldL S I (k := i2) (by omega) dX1_isReady_23 ?_
        refine lv_iload_n hx hb dX1_isReady_24 rfl (lv_at hl 1 rfl) ?_
        refine lv_ishr hx hb dX1_isReady_25 ?_
        refine lv_iconst (v := 1) hx hb dX1_isReady_26 (by decide) ?_
        refine lv_iand hx hb dX1_isReady_27 ?_
        refine lv_if_eq (tgt := 33) hx hb dX1_isReady_28 (by decide) (fun c_28 => ?_) (fun c_28 => ?_)
        · refine lv_iinc (v := nI (i2 + 1)) (lv' := [(3, .int (nI (i2 + 1))), (0, .ref (g.2.1 0)), (1, .int v), (2, .int op)]) hx hb dX1_isReady_33 hl (k := 3) rfl (nI_inc _) (by decide) rfl (fun ls hl => ?_)
          refine lv_goto (tgt := 2) hx hb dX1_isReady_36 (by decide) ?_
          exact ih2 (i2 + 1)  (by omega) (lt_s hq (by first | exact Or.inl c_15 | exact Or.inr c_28)) _ _ I _ (lv_sub hl [1, 2, 3, 0] rfl)
        · refine lv_iconst (v := 0) hx hb dX1_isReady_31 (by decide) ?_
          exact kret _ _ _ _ _ _ dX1_isReady_32 rfl ⟨by unfold xRdy; rw [if_neg (fun h => (h _ (by omega)).elim c_15 c_28)], rfl⟩ I
  exact lp2 n 0  (by omega) lt_0 _ _ I _ (lv_sub hl [1, 2, 3, 0] rfl)
set_option maxHeartbeats 4000000 in
set_option maxRecDepth 100000 in
theorem mX1_bestReady (l : Launch) (g : Geo) (n : Nat) (F L : Nat → Int32) (pt : Int32) (N lb : Nat → Int32) (hn : n ≤ 9) (dn sl : Int32) : MI (x1 g) l yX1_bestReady cX1_bestReady 6 .int 1 [.ref (g.2.1 0), .int dn, .int sl] (n, F, L, pt, N, lb) (fun r u' => r = xBest n L lb pt dn sl ∧ u' = (n, F, L, pt, N, lb)) := by
  refine MI_of (by decide) (Nat.le_of_ble_eq_true rfl) ?_
  intro p e s m args below meth c Q S kret ls hl I
  have hx := S.1
  have hb := S.2.1
  have hl : lv_has ls 6 [(0, .ref (g.2.1 0)), (1, .int dn), (2, .int sl)] := hl
  refine lv_aload_n hx hb dX1_bestReady_0 rfl (lv_at hl 0 rfl) ?_
  refine g1_pt S I dX1_bestReady_1 ?_
  refine lv_iload_n hx hb dX1_bestReady_4 rfl (lv_at hl 1 rfl) ?_
  refine lv_iconst (v := (-1)) hx hb dX1_bestReady_5 (by decide) ?_
  refine lv_ixor hx hb dX1_bestReady_6 ?_
  refine lv_iand hx hb dX1_bestReady_7 ?_
  refine lv_istore_n (lv' := [(3, .int (pt &&& (dn ^^^ (-1)))), (0, .ref (g.2.1 0)), (1, .int dn), (2, .int sl)]) hx hb dX1_bestReady_8 rfl hl (by decide) rfl (fun ls hl => ?_)
  refine lv_iconst (v := (-1)) hx hb dX1_bestReady_9 (by decide) ?_
  refine lv_istore (lv' := [(4, .int (-1)), (3, .int (pt &&& (dn ^^^ (-1)))), (0, .ref (g.2.1 0)), (1, .int dn), (2, .int sl)]) hx hb dX1_bestReady_10 hl (by decide) rfl (fun ls hl => ?_)
  refine lv_iconst (v := nI 0) hx hb dX1_bestReady_12 (by decide) ?_
  refine lv_istore (lv' := [(5, .int (nI 0)), (4, .int (-1)), (3, .int (pt &&& (dn ^^^ (-1)))), (0, .ref (g.2.1 0)), (1, .int dn), (2, .int sl)]) hx hb dX1_bestReady_13 hl (by decide) rfl (fun ls hl => ?_)
  have lp15 : ∀ (k15 i15 : Nat), i15 + k15 = n → ∀ (H : Heap) (locs : List Loc), XI (x1 g) s (n, F, L, pt, N, lb) H locs → ∀ ls : Array Slot, lv_has ls 6 [(0, .ref (g.2.1 0)), (2, .int sl), (3, .int (pt &&& (dn ^^^ (-1)))), (4, .int (brI n L lb (pt &&& (dn ^^^ (-1))) sl i15)), (5, .int (nI i15))] → W p l e (rmd 1) s m args below meth c H locs 0 0 Q (F0 m 15 ls []) := by
    intro k15
    induction k15 with
    | zero =>
      intro i15  e15  H locs I ls hl
      have e15 : i15 = n := by omega
      rw [e15] at hl
      refine lv_iload hx hb dX1_bestReady_15 (lv_at hl 4 rfl) ?_
      refine lv_aload_n hx hb dX1_bestReady_17 rfl (lv_at hl 0 rfl) ?_
      refine g1_n S I dX1_bestReady_18 ?_
      refine lv_icmp_ge (tgt := 87) hx hb dX1_bestReady_21 (by decide) (fun c_21 => ?_) (fun c_21 => absurd (nI_le (by omega) (by omega)) c_21)
      refine lv_iload hx hb dX1_bestReady_87 (lv_at hl 3 rfl) ?_
      exact kret _ _ _ _ _ _ dX1_bestReady_89 rfl ⟨rfl, rfl⟩ I
    | succ k15 ih15 =>
      intro i15  e15  H locs I ls hl
      refine lv_iload hx hb dX1_bestReady_15 (lv_at hl 4 rfl) ?_
      refine lv_aload_n hx hb dX1_bestReady_17 rfl (lv_at hl 0 rfl) ?_
      refine g1_n S I dX1_bestReady_18 ?_
      refine lv_icmp_ge (tgt := 87) hx hb dX1_bestReady_21 (by decide) (fun c_21 => absurd c_21 (nI_ge (by omega) (by omega))) (fun c_21 => ?_)
      refine lv_iload_n hx hb dX1_bestReady_24 rfl (lv_at hl 2 rfl) ?_
      refine lv_iload hx hb dX1_bestReady_25 (lv_at hl 4 rfl) ?_
      refine lv_ishr hx hb dX1_bestReady_27 ?_
      refine lv_iconst (v := 1) hx hb dX1_bestReady_28 (by decide) ?_
      refine lv_iand hx hb dX1_bestReady_29 ?_
      refine lv_if_eq (tgt := 81) hx hb dX1_bestReady_30 (by decide) (fun c_30 => ?_) (fun c_30 => ?_)
      · refine lv_iinc (v := nI (i15 + 1)) (lv' := [(5, .int (nI (i15 + 1))), (0, .ref (g.2.1 0)), (2, .int sl), (3, .int (pt &&& (dn ^^^ (-1)))), (4, .int (brI n L lb (pt &&& (dn ^^^ (-1))) sl i15))]) hx hb dX1_bestReady_81 hl (k := 4) rfl (nI_inc _) (by decide) rfl (fun ls hl => ?_)
        refine lv_goto (tgt := 15) hx hb dX1_bestReady_84 (by decide) ?_
        have e_1 : brI n L lb (pt &&& (dn ^^^ (-1))) sl (i15 + 1) = brI n L lb (pt &&& (dn ^^^ (-1))) sl i15 := by simp only [brI, if_neg c_21, if_pos c_30]
        exact ih15 (i15 + 1)  (by omega)  _ _ (by first | (rw [e_1]; exact I) | exact I | (simp only [e_1]; exact I)) _ (by first | (rw [e_1]; exact lv_sub hl [1, 2, 3, 4, 0] rfl) | exact lv_sub hl [1, 2, 3, 4, 0] rfl | (simp only [e_1]; exact lv_sub hl [1, 2, 3, 4, 0] rfl))
      · refine lv_iload_n hx hb dX1_bestReady_33 rfl (lv_at hl 1 rfl) ?_
        refine lv_iload hx hb dX1_bestReady_34 (lv_at hl 4 rfl) ?_
        refine lv_ishr hx hb dX1_bestReady_36 ?_
        refine lv_iconst (v := 1) hx hb dX1_bestReady_37 (by decide) ?_
        refine lv_iand hx hb dX1_bestReady_38 ?_
        refine lv_if_ne (tgt := 81) hx hb dX1_bestReady_39 (by decide) (fun c_39 => ?_) (fun c_39 => ?_)
        · refine lv_iinc (v := nI (i15 + 1)) (lv' := [(5, .int (nI (i15 + 1))), (0, .ref (g.2.1 0)), (2, .int sl), (3, .int (pt &&& (dn ^^^ (-1)))), (4, .int (brI n L lb (pt &&& (dn ^^^ (-1))) sl i15))]) hx hb dX1_bestReady_81 hl (k := 4) rfl (nI_inc _) (by decide) rfl (fun ls hl => ?_)
          refine lv_goto (tgt := 15) hx hb dX1_bestReady_84 (by decide) ?_
          have e_1 : brI n L lb (pt &&& (dn ^^^ (-1))) sl (i15 + 1) = brI n L lb (pt &&& (dn ^^^ (-1))) sl i15 := by simp only [brI, if_neg c_21, if_neg c_30, if_neg c_39]
          exact ih15 (i15 + 1)  (by omega)  _ _ (by first | (rw [e_1]; exact I) | exact I | (simp only [e_1]; exact I)) _ (by first | (rw [e_1]; exact lv_sub hl [1, 2, 3, 4, 0] rfl) | exact lv_sub hl [1, 2, 3, 4, 0] rfl | (simp only [e_1]; exact lv_sub hl [1, 2, 3, 4, 0] rfl))
        · refine lv_aload_n hx hb dX1_bestReady_42 rfl (lv_at hl 0 rfl) ?_
          refine lv_iload hx hb dX1_bestReady_43 (lv_at hl 4 rfl) ?_
          refine lv_iload_n hx hb dX1_bestReady_45 rfl (lv_at hl 2 rfl) ?_
          refine c1_i (As := [.int (nI i15), .int (pt &&& (dn ^^^ (-1)))]) (rest := []) S I (mX1_isReady l g n F L pt N lb (by omega) (nI i15) (pt &&& (dn ^^^ (-1)))) (cw1_isReady S.2.2.2.2 (by decide)) rfl hl.1 rfl (Nat.le_of_ble_eq_true rfl) dX1_bestReady_46 (fun r u' H locs hp I => ?_)
          obtain ⟨rfl, rfl⟩ := hp
          refine lv_if_ne (tgt := 55) hx hb dX1_bestReady_49 (by decide) (fun c_49 => ?_) (fun c_49 => ?_)
          · refine lv_iload hx hb dX1_bestReady_55 (lv_at hl 3 rfl) ?_
            refine lv_if_lt (tgt := 77) hx hb dX1_bestReady_57 (by decide) (fun c_57 => ?_) (fun c_57 => ?_)
            · refine lv_iload hx hb dX1_bestReady_77 (lv_at hl 4 rfl) ?_
              refine lv_istore (lv' := [(4, .int (nI i15)), (0, .ref (g.2.1 0)), (2, .int sl), (3, .int (pt &&& (dn ^^^ (-1)))), (5, .int (nI i15))]) hx hb dX1_bestReady_79 hl (by decide) rfl (fun ls hl => ?_)
              refine lv_iinc (v := nI (i15 + 1)) (lv' := [(5, .int (nI (i15 + 1))), (4, .int (nI i15)), (0, .ref (g.2.1 0)), (2, .int sl), (3, .int (pt &&& (dn ^^^ (-1))))]) hx hb dX1_bestReady_81 hl (k := 4) rfl (nI_inc _) (by decide) rfl (fun ls hl => ?_)
              refine lv_goto (tgt := 15) hx hb dX1_bestReady_84 (by decide) ?_
              have e_1 : brI n L lb (pt &&& (dn ^^^ (-1))) sl (i15 + 1) = nI i15 := by simp only [brI, if_neg c_21, if_neg c_30, if_pos c_39, if_neg c_49, if_pos c_57]
              exact ih15 (i15 + 1)  (by omega)  _ _ (by first | (rw [e_1]; exact I) | exact I | (simp only [e_1]; exact I)) _ (by first | (rw [e_1]; exact lv_sub hl [2, 3, 4, 1, 0] rfl) | exact lv_sub hl [2, 3, 4, 1, 0] rfl | (simp only [e_1]; exact lv_sub hl [2, 3, 4, 1, 0] rfl))
            · refine lv_aload_n hx hb dX1_bestReady_60 rfl (lv_at hl 0 rfl) ?_
              refine g1_lb S I dX1_bestReady_61 ?_
              refine lv_iload hx hb dX1_bestReady_64 (lv_at hl 4 rfl) ?_
              refine a1_ldlb S I (k := i15) (by omega) dX1_bestReady_66 ?_
              refine lv_aload_n hx hb dX1_bestReady_67 rfl (lv_at hl 0 rfl) ?_
              refine g1_lb S I dX1_bestReady_68 ?_
              refine lv_iload hx hb dX1_bestReady_71 (lv_at hl 3 rfl) ?_
              refine a1_rdlb S I (brI_in c_57 (by omega)) dX1_bestReady_73 ?_
              refine lv_icmp_le (tgt := 81) hx hb dX1_bestReady_74 (by decide) (fun c_74 => ?_) (fun c_74 => ?_)
              · refine lv_iinc (v := nI (i15 + 1)) (lv' := [(5, .int (nI (i15 + 1))), (0, .ref (g.2.1 0)), (2, .int sl), (3, .int (pt &&& (dn ^^^ (-1)))), (4, .int (brI n L lb (pt &&& (dn ^^^ (-1))) sl i15))]) hx hb dX1_bestReady_81 hl (k := 4) rfl (nI_inc _) (by decide) rfl (fun ls hl => ?_)
                refine lv_goto (tgt := 15) hx hb dX1_bestReady_84 (by decide) ?_
                have e_1 : brI n L lb (pt &&& (dn ^^^ (-1))) sl (i15 + 1) = brI n L lb (pt &&& (dn ^^^ (-1))) sl i15 := by simp only [brI, if_neg c_21, if_neg c_30, if_pos c_39, if_neg c_49, if_neg c_57, if_pos c_74]
                exact ih15 (i15 + 1)  (by omega)  _ _ (by first | (rw [e_1]; exact I) | exact I | (simp only [e_1]; exact I)) _ (by first | (rw [e_1]; exact lv_sub hl [1, 2, 3, 4, 0] rfl) | exact lv_sub hl [1, 2, 3, 4, 0] rfl | (simp only [e_1]; exact lv_sub hl [1, 2, 3, 4, 0] rfl))
              · refine lv_iload hx hb dX1_bestReady_77 (lv_at hl 4 rfl) ?_
                refine lv_istore (lv' := [(4, .int (nI i15)), (0, .ref (g.2.1 0)), (2, .int sl), (3, .int (pt &&& (dn ^^^ (-1)))), (5, .int (nI i15))]) hx hb dX1_bestReady_79 hl (by decide) rfl (fun ls hl => ?_)
                refine lv_iinc (v := nI (i15 + 1)) (lv' := [(5, .int (nI (i15 + 1))), (4, .int (nI i15)), (0, .ref (g.2.1 0)), (2, .int sl), (3, .int (pt &&& (dn ^^^ (-1))))]) hx hb dX1_bestReady_81 hl (k := 4) rfl (nI_inc _) (by decide) rfl (fun ls hl => ?_)
                refine lv_goto (tgt := 15) hx hb dX1_bestReady_84 (by decide) ?_
                have e_1 : brI n L lb (pt &&& (dn ^^^ (-1))) sl (i15 + 1) = nI i15 := by simp only [brI, if_neg c_21, if_neg c_30, if_pos c_39, if_neg c_49, if_neg c_57, if_neg c_74]
                exact ih15 (i15 + 1)  (by omega)  _ _ (by first | (rw [e_1]; exact I) | exact I | (simp only [e_1]; exact I)) _ (by first | (rw [e_1]; exact lv_sub hl [2, 3, 4, 1, 0] rfl) | exact lv_sub hl [2, 3, 4, 1, 0] rfl | (simp only [e_1]; exact lv_sub hl [2, 3, 4, 1, 0] rfl))
          · refine lv_goto (tgt := 81) hx hb dX1_bestReady_52 (by decide) ?_
            refine lv_iinc (v := nI (i15 + 1)) (lv' := [(5, .int (nI (i15 + 1))), (0, .ref (g.2.1 0)), (2, .int sl), (3, .int (pt &&& (dn ^^^ (-1)))), (4, .int (brI n L lb (pt &&& (dn ^^^ (-1))) sl i15))]) hx hb dX1_bestReady_81 hl (k := 4) rfl (nI_inc _) (by decide) rfl (fun ls hl => ?_)
            refine lv_goto (tgt := 15) hx hb dX1_bestReady_84 (by decide) ?_
            have e_1 : brI n L lb (pt &&& (dn ^^^ (-1))) sl (i15 + 1) = brI n L lb (pt &&& (dn ^^^ (-1))) sl i15 := by simp only [brI, if_neg c_21, if_neg c_30, if_pos c_39, if_pos c_49]
            exact ih15 (i15 + 1)  (by omega)  _ _ (by first | (rw [e_1]; exact I) | exact I | (simp only [e_1]; exact I)) _ (by first | (rw [e_1]; exact lv_sub hl [1, 2, 3, 4, 0] rfl) | exact lv_sub hl [1, 2, 3, 4, 0] rfl | (simp only [e_1]; exact lv_sub hl [1, 2, 3, 4, 0] rfl))
  exact lp15 n 0  (by omega)  _ _ I _ (lv_sub hl [3, 5, 2, 1, 0] rfl)
set_option maxHeartbeats 4000000 in
set_option maxRecDepth 100000 in
theorem mX1_lengthOnList (l : Launch) (g : Geo) (n : Nat) (F L : Nat → Int32) (pt : Int32) (N lb : Nat → Int32) (hn : n ≤ 9) (mm : Nat) (hm : mm ≤ 9) : MI (x1 g) l yX1_lengthOnList cX1_lengthOnList 7 .int 2 [.ref (g.2.1 0), .int (nI mm)] (n, F, L, pt, N, lb) (fun r u' => r = xLen n L lb pt mm ∧ u' = (n, F, L, pt, N, lb)) := by
  refine MI_of (by decide) (Nat.le_of_ble_eq_true rfl) ?_
  intro p e s m args below meth c Q S kret ls hl I
  have hx := S.1
  have hb := S.2.1
  have hl : lv_has ls 7 [(0, .ref (g.2.1 0)), (1, .int (nI mm))] := hl
  refine lv_iconst (v := 0) hx hb dX1_lengthOnList_0 (by decide) ?_
  refine lv_istore_n (lv' := [(2, .int 0), (0, .ref (g.2.1 0)), (1, .int (nI mm))]) hx hb dX1_lengthOnList_1 rfl hl (by decide) rfl (fun ls hl => ?_)
  refine lv_iconst (v := nI 0) hx hb dX1_lengthOnList_2 (by decide) ?_
  refine lv_istore_n (lv' := [(3, .int (nI 0)), (2, .int 0), (0, .ref (g.2.1 0)), (1, .int (nI mm))]) hx hb dX1_lengthOnList_3 rfl hl (by decide) rfl (fun ls hl => ?_)
  have lp4 : ∀ (k4 i4 : Nat) (dn : Int32), i4 + k4 = 9 → (loO n L lb pt mm k4 dn i4 = xLen n L lb pt mm) → ∀ (H : Heap) (locs : List Loc), XI (x1 g) s (n, F, L, pt, N, lb) H locs → ∀ ls : Array Slot, lv_has ls 7 [(0, .ref (g.2.1 0)), (1, .int (nI mm)), (2, .int dn), (3, .int (nI i4))] → W p l e (rmd 2) s m args below meth c H locs 0 0 Q (F0 m 4 ls []) := by
    intro k4
    induction k4 with
    | zero =>
      intro i4 dn e4 hq H locs I ls hl
      have e4 : i4 = 9 := by omega
      rw [e4] at hl hq
      refine lv_iload_n hx hb dX1_lengthOnList_4 rfl (lv_at hl 2 rfl) ?_
      refine lv_aload_n hx hb dX1_lengthOnList_5 rfl (lv_at hl 0 rfl) ?_
      refine g1_pt S I dX1_lengthOnList_6 ?_
      refine lv_icmp_eq (tgt := 70) hx hb dX1_lengthOnList_9 (by decide) (fun c_9 => ?_) (fun c_9 => ?_)
      · refine lv_iload_n hx hb dX1_lengthOnList_70 rfl (lv_at hl 3 rfl) ?_
        exact kret _ _ _ _ _ _ dX1_lengthOnList_71 rfl ⟨by first | exact hq | (rw [← hq]; simp only [loO, if_pos c_9]), rfl⟩ I
      · refine lv_iload_n hx hb dX1_lengthOnList_12 rfl (lv_at hl 3 rfl) ?_
        refine lv_bipush (v := nI 9) hx hb dX1_lengthOnList_13 (by decide) ?_
        refine lv_icmp_ge (tgt := 70) hx hb dX1_lengthOnList_15 (by decide) (fun c_15 => ?_) (fun c_15 => absurd (nI_le (by omega) (by omega)) c_15)
        refine lv_iload_n hx hb dX1_lengthOnList_70 rfl (lv_at hl 3 rfl) ?_
        exact kret _ _ _ _ _ _ dX1_lengthOnList_71 rfl ⟨by first | exact hq | (rw [← hq]; simp only [loO, if_neg c_9, if_pos c_15]), rfl⟩ I
    | succ k4 ih4 =>
      intro i4 dn e4 hq H locs I ls hl
      refine lv_iload_n hx hb dX1_lengthOnList_4 rfl (lv_at hl 2 rfl) ?_
      refine lv_aload_n hx hb dX1_lengthOnList_5 rfl (lv_at hl 0 rfl) ?_
      refine g1_pt S I dX1_lengthOnList_6 ?_
      refine lv_icmp_eq (tgt := 70) hx hb dX1_lengthOnList_9 (by decide) (fun c_9 => ?_) (fun c_9 => ?_)
      · refine lv_iload_n hx hb dX1_lengthOnList_70 rfl (lv_at hl 3 rfl) ?_
        exact kret _ _ _ _ _ _ dX1_lengthOnList_71 rfl ⟨by first | exact hq | (rw [← hq]; simp only [loO, if_pos c_9]), rfl⟩ I
      · refine lv_iload_n hx hb dX1_lengthOnList_12 rfl (lv_at hl 3 rfl) ?_
        refine lv_bipush (v := nI 9) hx hb dX1_lengthOnList_13 (by decide) ?_
        refine lv_icmp_ge (tgt := 70) hx hb dX1_lengthOnList_15 (by decide) (fun c_15 => absurd c_15 (nI_ge (by omega) (by omega))) (fun c_15 => ?_)
        refine lv_iconst (v := 0) hx hb dX1_lengthOnList_18 (by decide) ?_
        refine lv_istore (lv' := [(4, .int 0), (0, .ref (g.2.1 0)), (1, .int (nI mm)), (2, .int dn), (3, .int (nI i4))]) hx hb dX1_lengthOnList_19 hl (by decide) rfl (fun ls hl => ?_)
        refine lv_iconst (v := nI 0) hx hb dX1_lengthOnList_21 (by decide) ?_
        refine lv_istore (lv' := [(5, .int (nI 0)), (4, .int 0), (0, .ref (g.2.1 0)), (1, .int (nI mm)), (2, .int dn), (3, .int (nI i4))]) hx hb dX1_lengthOnList_22 hl (by decide) rfl (fun ls hl => ?_)
        have lp24 : ∀ (k24 i24 : Nat), i24 + k24 = mm → ∀ (H : Heap) (locs : List Loc), XI (x1 g) s (n, F, L, pt, N, lb) H locs → ∀ ls : Array Slot, lv_has ls 7 [(0, .ref (g.2.1 0)), (1, .int (nI mm)), (2, .int dn), (3, .int (nI i4)), (4, .int (loI n L lb pt dn i24)), (5, .int (nI i24))] → W p l e (rmd 2) s m args below meth c H locs 0 0 Q (F0 m 24 ls []) := by
          intro k24
          induction k24 with
          | zero =>
            intro i24  e24  H locs I ls hl
            have e24 : i24 = mm := by omega
            rw [e24] at hl
            refine lv_iload hx hb dX1_lengthOnList_24 (lv_at hl 5 rfl) ?_
            refine lv_iload_n hx hb dX1_lengthOnList_26 rfl (lv_at hl 1 rfl) ?_
            refine lv_icmp_ge (tgt := 59) hx hb dX1_lengthOnList_27 (by decide) (fun c_27 => ?_) (fun c_27 => absurd (nI_le (by omega) (by omega)) c_27)
            refine lv_iload_n hx hb dX1_lengthOnList_59 rfl (lv_at hl 2 rfl) ?_
            refine lv_iload hx hb dX1_lengthOnList_60 (lv_at hl 4 rfl) ?_
            refine lv_ior hx hb dX1_lengthOnList_62 ?_
            refine lv_istore_n (lv' := [(2, .int (dn ||| (loI n L lb pt dn mm))), (0, .ref (g.2.1 0)), (1, .int (nI mm)), (3, .int (nI i4)), (4, .int (loI n L lb pt dn mm)), (5, .int (nI mm))]) hx hb dX1_lengthOnList_63 rfl hl (by decide) rfl (fun ls hl => ?_)
            refine lv_iinc (v := nI (i4 + 1)) (lv' := [(3, .int (nI (i4 + 1))), (2, .int (dn ||| (loI n L lb pt dn mm))), (0, .ref (g.2.1 0)), (1, .int (nI mm)), (4, .int (loI n L lb pt dn mm)), (5, .int (nI mm))]) hx hb dX1_lengthOnList_64 hl (k := 3) rfl (nI_inc _) (by decide) rfl (fun ls hl => ?_)
            refine lv_goto (tgt := 4) hx hb dX1_lengthOnList_67 (by decide) ?_
            exact ih4 (i4 + 1) (dn ||| (loI n L lb pt dn mm)) (by omega) (by rw [← hq]; simp only [loO, if_neg c_9]) _ _ I _ (lv_sub hl [2, 3, 1, 0] rfl)
          | succ k24 ih24 =>
            intro i24  e24  H locs I ls hl
            refine lv_iload hx hb dX1_lengthOnList_24 (lv_at hl 5 rfl) ?_
            refine lv_iload_n hx hb dX1_lengthOnList_26 rfl (lv_at hl 1 rfl) ?_
            refine lv_icmp_ge (tgt := 59) hx hb dX1_lengthOnList_27 (by decide) (fun c_27 => absurd c_27 (nI_ge (by omega) (by omega))) (fun c_27 => ?_)
            refine lv_aload_n hx hb dX1_lengthOnList_30 rfl (lv_at hl 0 rfl) ?_
            refine lv_iload_n hx hb dX1_lengthOnList_31 rfl (lv_at hl 2 rfl) ?_
            refine lv_iload hx hb dX1_lengthOnList_32 (lv_at hl 4 rfl) ?_
            refine c1_i (As := [.int dn, .int (loI n L lb pt dn i24)]) (rest := []) S I (mX1_bestReady l g n F L pt N lb (by omega) dn (loI n L lb pt dn i24)) (cw1_bestReady S.2.2.2.2 (by decide)) rfl hl.1 rfl (Nat.le_of_ble_eq_true rfl) dX1_lengthOnList_34 (fun r u' H locs hp I => ?_)
            obtain ⟨rfl, rfl⟩ := hp
            refine lv_istore (lv' := [(6, .int (xBest n L lb pt dn (loI n L lb pt dn i24))), (0, .ref (g.2.1 0)), (1, .int (nI mm)), (2, .int dn), (3, .int (nI i4)), (4, .int (loI n L lb pt dn i24)), (5, .int (nI i24))]) hx hb dX1_lengthOnList_37 hl (by decide) rfl (fun ls hl => ?_)
            refine lv_iload hx hb dX1_lengthOnList_39 (lv_at hl 0 rfl) ?_
            refine lv_if_lt (tgt := 53) hx hb dX1_lengthOnList_41 (by decide) (fun c_41 => ?_) (fun c_41 => ?_)
            · refine lv_iinc (v := nI (i24 + 1)) (lv' := [(5, .int (nI (i24 + 1))), (6, .int (xBest n L lb pt dn (loI n L lb pt dn i24))), (0, .ref (g.2.1 0)), (1, .int (nI mm)), (2, .int dn), (3, .int (nI i4)), (4, .int (loI n L lb pt dn i24))]) hx hb dX1_lengthOnList_53 hl (k := 6) rfl (nI_inc _) (by decide) rfl (fun ls hl => ?_)
              refine lv_goto (tgt := 24) hx hb dX1_lengthOnList_56 (by decide) ?_
              have e_1 : loI n L lb pt dn (i24 + 1) = loI n L lb pt dn i24 := by simp only [loI, if_neg c_9, if_neg c_15, if_neg c_27, if_pos c_41]
              exact ih24 (i24 + 1)  (by omega)  _ _ (by first | (rw [e_1]; exact I) | exact I | (simp only [e_1]; exact I)) _ (by first | (rw [e_1]; exact lv_sub hl [2, 3, 4, 5, 6, 0] rfl) | exact lv_sub hl [2, 3, 4, 5, 6, 0] rfl | (simp only [e_1]; exact lv_sub hl [2, 3, 4, 5, 6, 0] rfl))
            · refine lv_iload hx hb dX1_lengthOnList_44 (lv_at hl 5 rfl) ?_
              refine lv_iconst (v := 1) hx hb dX1_lengthOnList_46 (by decide) ?_
              refine lv_iload hx hb dX1_lengthOnList_47 (lv_at hl 0 rfl) ?_
              refine lv_ishl hx hb dX1_lengthOnList_49 ?_
              refine lv_ior hx hb dX1_lengthOnList_50 ?_
              refine lv_istore (lv' := [(4, .int ((loI n L lb pt dn i24) ||| ((1 : Int32) <<< ((xBest n L lb pt dn (loI n L lb pt dn i24)) &&& 31)))), (6, .int (xBest n L lb pt dn (loI n L lb pt dn i24))), (0, .ref (g.2.1 0)), (1, .int (nI mm)), (2, .int dn), (3, .int (nI i4)), (5, .int (nI i24))]) hx hb dX1_lengthOnList_51 hl (by decide) rfl (fun ls hl => ?_)
              refine lv_iinc (v := nI (i24 + 1)) (lv' := [(5, .int (nI (i24 + 1))), (4, .int ((loI n L lb pt dn i24) ||| ((1 : Int32) <<< ((xBest n L lb pt dn (loI n L lb pt dn i24)) &&& 31)))), (6, .int (xBest n L lb pt dn (loI n L lb pt dn i24))), (0, .ref (g.2.1 0)), (1, .int (nI mm)), (2, .int dn), (3, .int (nI i4))]) hx hb dX1_lengthOnList_53 hl (k := 6) rfl (nI_inc _) (by decide) rfl (fun ls hl => ?_)
              refine lv_goto (tgt := 24) hx hb dX1_lengthOnList_56 (by decide) ?_
              have e_1 : loI n L lb pt dn (i24 + 1) = (loI n L lb pt dn i24) ||| ((1 : Int32) <<< ((xBest n L lb pt dn (loI n L lb pt dn i24)) &&& 31)) := by simp only [loI, if_neg c_9, if_neg c_15, if_neg c_27, if_neg c_41]
              exact ih24 (i24 + 1)  (by omega)  _ _ (by first | (rw [e_1]; exact I) | exact I | (simp only [e_1]; exact I)) _ (by first | (rw [e_1]; exact lv_sub hl [3, 4, 5, 6, 1, 0] rfl) | exact lv_sub hl [3, 4, 5, 6, 1, 0] rfl | (simp only [e_1]; exact lv_sub hl [3, 4, 5, 6, 1, 0] rfl))
        exact lp24 mm 0  (by omega)  _ _ I _ (lv_sub hl [2, 3, 4, 5, 1, 0] rfl)
  exact lp4 9 0 0 (by omega) rfl _ _ I _ (lv_sub hl [2, 3, 1, 0] rfl)
end
section
set_option maxHeartbeats 4000000 in
set_option maxRecDepth 100000 in
theorem mX1_labelList (l : Launch) (g : Geo) (n : Nat) (F L : Nat → Int32) (pt : Int32) (N lb : Nat → Int32) (hn : n ≤ 9) (st : Int32) : MI (x1 g) l yX1_labelList cX1_labelList 4 .int 0 [.ref (g.2.1 0), .int st] (n, F, L, pt, N, lb) (fun r u' => r = xLab n lb st ∧ u' = (n, F, L, pt, N, lb)) := by
  refine MI_of (by decide) (Nat.le_of_ble_eq_true rfl) ?_
  intro p e s m args below meth c Q S kret ls hl I
  have hx := S.1
  have hb := S.2.1
  have hl : lv_has ls 4 [(0, .ref (g.2.1 0)), (1, .int st)] := hl
  refine lv_iconst (v := 0) hx hb dX1_labelList_0 (by decide) ?_
  refine lv_istore_n (lv' := [(2, .int 0), (0, .ref (g.2.1 0)), (1, .int st)]) hx hb dX1_labelList_1 rfl hl (by decide) rfl (fun ls hl => ?_)
  refine lv_iconst (v := nI 0) hx hb dX1_labelList_2 (by decide) ?_
  refine lv_istore_n (lv' := [(3, .int (nI 0)), (2, .int 0), (0, .ref (g.2.1 0)), (1, .int st)]) hx hb dX1_labelList_3 rfl hl (by decide) rfl (fun ls hl => ?_)
  have lp4 : ∀ (k4 i4 : Nat), i4 + k4 = n → (∀ j, j < i4 → (tb st (nI j) = 0 ∨ ¬ lb j = 0)) → ∀ (H : Heap) (locs : List Loc), XI (x1 g) s (n, F, L, pt, N, lb) H locs → ∀ ls : Array Slot, lv_has ls 4 [(0, .ref (g.2.1 0)), (1, .int st), (2, .int (laI lb st i4)), (3, .int (nI i4))] → W p l e (rmd 0) s m args below meth c H locs 0 0 Q (F0 m 4 ls []) := by
    intro k4
    induction k4 with
    | zero =>
      intro i4  e4 hq H locs I ls hl
      have e4 : i4 = n := by omega
      rw [e4] at hl hq
      refine lv_iload_n hx hb dX1_labelList_4 rfl (lv_at hl 3 rfl) ?_
      refine lv_aload_n hx hb dX1_labelList_5 rfl (lv_at hl 0 rfl) ?_
      refine g1_n S I dX1_labelList_6 ?_
      refine lv_icmp_ge (tgt := 51) hx hb dX1_labelList_9 (by decide) (fun c_9 => ?_) (fun c_9 => absurd (nI_le (by omega) (by omega)) c_9)
      refine lv_iload_n hx hb dX1_labelList_51 rfl (lv_at hl 2 rfl) ?_
      exact kret _ _ _ _ _ _ dX1_labelList_52 rfl ⟨by unfold xLab; rw [if_pos hq], rfl⟩ I
    | succ k4 ih4 =>
      intro i4  e4 hq H locs I ls hl
      refine lv_iload_n hx hb dX1_labelList_4 rfl (lv_at hl 3 rfl) ?_
      refine lv_aload_n hx hb dX1_labelList_5 rfl (lv_at hl 0 rfl) ?_
      refine g1_n S I dX1_labelList_6 ?_
      refine lv_icmp_ge (tgt := 51) hx hb dX1_labelList_9 (by decide) (fun c_9 => absurd c_9 (nI_ge (by omega) (by omega))) (fun c_9 => ?_)
      refine lv_iload_n hx hb dX1_labelList_12 rfl (lv_at hl 1 rfl) ?_
      refine lv_iload_n hx hb dX1_labelList_13 rfl (lv_at hl 3 rfl) ?_
      refine lv_ishr hx hb dX1_labelList_14 ?_
      refine lv_iconst (v := 1) hx hb dX1_labelList_15 (by decide) ?_
      refine lv_iand hx hb dX1_labelList_16 ?_
      refine lv_if_ne (tgt := 23) hx hb dX1_labelList_17 (by decide) (fun c_17 => ?_) (fun c_17 => ?_)
      · refine lv_aload_n hx hb dX1_labelList_23 rfl (lv_at hl 0 rfl) ?_
        refine g1_lb S I dX1_labelList_24 ?_
        refine lv_iload_n hx hb dX1_labelList_27 rfl (lv_at hl 3 rfl) ?_
        refine a1_ldlb S I (k := i4) (by omega) dX1_labelList_28 ?_
        refine lv_if_ne (tgt := 34) hx hb dX1_labelList_29 (by decide) (fun c_29 => ?_) (fun c_29 => ?_)
        · refine lv_iload_n hx hb dX1_labelList_34 rfl (lv_at hl 2 rfl) ?_
          refine lv_iconst (v := 1) hx hb dX1_labelList_35 (by decide) ?_
          refine lv_aload_n hx hb dX1_labelList_36 rfl (lv_at hl 0 rfl) ?_
          refine g1_lb S I dX1_labelList_37 ?_
          refine lv_iload_n hx hb dX1_labelList_40 rfl (lv_at hl 3 rfl) ?_
          refine a1_ldlb S I (k := i4) (by omega) dX1_labelList_41 ?_
          refine lv_ishl hx hb dX1_labelList_42 ?_
          refine lv_ior hx hb dX1_labelList_43 ?_
          refine lv_istore_n (lv' := [(2, .int ((laI lb st i4) ||| ((1 : Int32) <<< ((lb i4) &&& 31)))), (0, .ref (g.2.1 0)), (1, .int st), (3, .int (nI i4))]) hx hb dX1_labelList_44 rfl hl (by decide) rfl (fun ls hl => ?_)
          refine lv_iinc (v := nI (i4 + 1)) (lv' := [(3, .int (nI (i4 + 1))), (2, .int ((laI lb st i4) ||| ((1 : Int32) <<< ((lb i4) &&& 31)))), (0, .ref (g.2.1 0)), (1, .int st)]) hx hb dX1_labelList_45 hl (k := 3) rfl (nI_inc _) (by decide) rfl (fun ls hl => ?_)
          refine lv_goto (tgt := 4) hx hb dX1_labelList_48 (by decide) ?_
          have e_1 : laI lb st (i4 + 1) = (laI lb st i4) ||| ((1 : Int32) <<< ((lb i4) &&& 31)) := by simp only [laI, if_neg c_9, if_neg c_17, if_neg c_29]
          exact ih4 (i4 + 1)  (by omega) (lt_s hq (by first | exact Or.inl c_17 | exact Or.inr c_29)) _ _ (by first | (rw [e_1]; exact I) | exact I | (simp only [e_1]; exact I)) _ (by first | (rw [e_1]; exact lv_sub hl [2, 3, 1, 0] rfl) | exact lv_sub hl [2, 3, 1, 0] rfl | (simp only [e_1]; exact lv_sub hl [2, 3, 1, 0] rfl))
        · refine lv_iconst (v := (-1)) hx hb dX1_labelList_32 (by decide) ?_
          exact kret _ _ _ _ _ _ dX1_labelList_33 rfl ⟨by unfold xLab; rw [if_neg (fun h => (h _ (by omega)).elim c_17 (fun q => q c_29))], rfl⟩ I
      · refine lv_goto (tgt := 45) hx hb dX1_labelList_20 (by decide) ?_
        refine lv_iinc (v := nI (i4 + 1)) (lv' := [(3, .int (nI (i4 + 1))), (0, .ref (g.2.1 0)), (1, .int st), (2, .int (laI lb st i4))]) hx hb dX1_labelList_45 hl (k := 3) rfl (nI_inc _) (by decide) rfl (fun ls hl => ?_)
        refine lv_goto (tgt := 4) hx hb dX1_labelList_48 (by decide) ?_
        have e_1 : laI lb st (i4 + 1) = laI lb st i4 := by simp only [laI, if_neg c_9, if_pos c_17]
        exact ih4 (i4 + 1)  (by omega) (lt_s hq (by first | exact Or.inl c_17 | exact Or.inr c_29)) _ _ (by first | (rw [e_1]; exact I) | exact I | (simp only [e_1]; exact I)) _ (by first | (rw [e_1]; exact lv_sub hl [1, 2, 3, 0] rfl) | exact lv_sub hl [1, 2, 3, 0] rfl | (simp only [e_1]; exact lv_sub hl [1, 2, 3, 0] rfl))
  exact lp4 n 0  (by omega) lt_0 _ _ I _ (lv_sub hl [2, 3, 1, 0] rfl)
set_option maxHeartbeats 4000000 in
set_option maxRecDepth 100000 in
theorem mX1_labelByHeights (l : Launch) (g : Geo) (n : Nat) (F L : Nat → Int32) (pt : Int32) (N lb : Nat → Int32) (hn : n ≤ 9) : MV (x1 g) l yX1_labelByHeights cX1_labelByHeights 2 1 [.ref (g.2.1 0)] (n, F, L, pt, N, lb) (fun u' => u' = (n, F, L, pt, N, lhB n L lb n)) := by
  refine MV_of (by decide) (Nat.le_of_ble_eq_true rfl) ?_
  intro p e s m args below meth c Q S kret ls hl I
  have hx := S.1
  have hb := S.2.1
  have hl : lv_has ls 2 [(0, .ref (g.2.1 0))] := hl
  refine lv_iconst (v := nI 0) hx hb dX1_labelByHeights_0 (by decide) ?_
  refine lv_istore_n (lv' := [(1, .int (nI 0)), (0, .ref (g.2.1 0))]) hx hb dX1_labelByHeights_1 rfl hl (by decide) rfl (fun ls hl => ?_)
  have lp2 : ∀ (k2 i2 : Nat), i2 + k2 = n → ∀ (H : Heap) (locs : List Loc), XI (x1 g) s (n, F, L, pt, N, (lhB n L lb i2)) H locs → ∀ ls : Array Slot, lv_has ls 2 [(0, .ref (g.2.1 0)), (1, .int (nI i2))] → W p l e (rmd 1) s m args below meth c H locs 0 0 Q (F0 m 2 ls []) := by
    intro k2
    induction k2 with
    | zero =>
      intro i2  e2  H locs I ls hl
      have e2 : i2 = n := by omega
      rw [e2] at I hl
      refine lv_iload_n hx hb dX1_labelByHeights_2 rfl (lv_at hl 1 rfl) ?_
      refine lv_aload_n hx hb dX1_labelByHeights_3 rfl (lv_at hl 0 rfl) ?_
      refine g1_n S I dX1_labelByHeights_4 ?_
      refine lv_icmp_ge (tgt := 28) hx hb dX1_labelByHeights_7 (by decide) (fun c_7 => ?_) (fun c_7 => absurd (nI_le (by omega) (by omega)) c_7)
      exact kret _ _ _ _ _ dX1_labelByHeights_28 rfl I
    | succ k2 ih2 =>
      intro i2  e2  H locs I ls hl
      refine lv_iload_n hx hb dX1_labelByHeights_2 rfl (lv_at hl 1 rfl) ?_
      refine lv_aload_n hx hb dX1_labelByHeights_3 rfl (lv_at hl 0 rfl) ?_
      refine g1_n S I dX1_labelByHeights_4 ?_
      refine lv_icmp_ge (tgt := 28) hx hb dX1_labelByHeights_7 (by decide) (fun c_7 => absurd c_7 (nI_ge (by omega) (by omega))) (fun c_7 => ?_)
      refine lv_aload_n hx hb dX1_labelByHeights_10 rfl (lv_at hl 0 rfl) ?_
      refine g1_lb S I dX1_labelByHeights_11 ?_
      refine lv_iload_n hx hb dX1_labelByHeights_14 rfl (lv_at hl 1 rfl) ?_
      refine lv_aload_n hx hb dX1_labelByHeights_15 rfl (lv_at hl 0 rfl) ?_
      refine lv_iload_n hx hb dX1_labelByHeights_16 rfl (lv_at hl 1 rfl) ?_
      refine c1_i (As := [.int (nI i2)]) (rest := [.int (nI i2), .ref (g.2.1 4)]) S I (mX1_heightOf l g n F L pt N (lhB n L lb i2) (by omega) i2 (by omega)) (cw1_heightOf S.2.2.2.2 (by decide)) rfl hl.1 rfl (Nat.le_of_ble_eq_true rfl) dX1_labelByHeights_17 (fun r u' H locs hp I => ?_)
      obtain ⟨rfl, rfl⟩ := hp
      refine lv_i2b (v := (xHt n L i2).toInt8.toInt32) hx hb dX1_labelByHeights_20 rfl ?_
      refine a1_stlb S I (k := i2) (v' := (xHt n L i2).toInt8.toInt32) (pk_vb _) (by omega) dX1_labelByHeights_21 (fun H locs I => ?_)
      refine lv_iinc (v := nI (i2 + 1)) (lv' := [(1, .int (nI (i2 + 1))), (0, .ref (g.2.1 0))]) hx hb dX1_labelByHeights_22 hl (k := 1) rfl (nI_inc _) (by decide) rfl (fun ls hl => ?_)
      refine lv_goto (tgt := 2) hx hb dX1_labelByHeights_25 (by decide) ?_
      have e_1 : lhB n L lb (i2 + 1) = (upd (lhB n L lb i2) i2 ((xHt n L i2).toInt8.toInt32)) := by simp only [lhB, if_neg c_7]
      exact ih2 (i2 + 1)  (by omega)  _ _ (by first | (rw [e_1]; exact I) | exact I | (simp only [e_1]; exact I)) _ (by first | (rw [e_1]; exact lv_sub hl [1, 0] rfl) | exact lv_sub hl [1, 0] rfl | (simp only [e_1]; exact lv_sub hl [1, 0] rfl))
  exact lp2 n 0  (by omega)  _ _ I _ (lv_sub hl [1, 0] rfl)
set_option maxHeartbeats 4000000 in
set_option maxRecDepth 100000 in
theorem mX1_labelByLists (l : Launch) (g : Geo) (n : Nat) (F L : Nat → Int32) (pt : Int32) (N lb : Nat → Int32) (hn : n ≤ 9) : MV (x1 g) l yX1_labelByLists cX1_labelByLists 6 1 [.ref (g.2.1 0)] (n, F, L, pt, N, lb) (fun u' => u' = (n, F, L, pt, llN n L pt N n, xLbl n L pt N lb)) := by
  refine MV_of (by decide) (Nat.le_of_ble_eq_true rfl) ?_
  intro p e s m args below meth c Q S kret ls hl I
  have hx := S.1
  have hb := S.2.1
  have hl : lv_has ls 6 [(0, .ref (g.2.1 0))] := hl
  refine lv_iconst (v := nI 0) hx hb dX1_labelByLists_0 (by decide) ?_
  refine lv_istore_n (lv' := [(1, .int (nI 0)), (0, .ref (g.2.1 0))]) hx hb dX1_labelByLists_1 rfl hl (by decide) rfl (fun ls hl => ?_)
  have lp2 : ∀ (k2 i2 : Nat), i2 + k2 = n → ∀ (H : Heap) (locs : List Loc), XI (x1 g) s (n, F, L, pt, (llN n L pt N i2), (llB lb i2)) H locs → ∀ ls : Array Slot, lv_has ls 6 [(0, .ref (g.2.1 0)), (1, .int (nI i2))] → W p l e (rmd 1) s m args below meth c H locs 0 0 Q (F0 m 2 ls []) := by
    intro k2
    induction k2 with
    | zero =>
      intro i2  e2  H locs I ls hl
      have e2 : i2 = n := by omega
      rw [e2] at I hl
      refine lv_iload_n hx hb dX1_labelByLists_2 rfl (lv_at hl 1 rfl) ?_
      refine lv_aload_n hx hb dX1_labelByLists_3 rfl (lv_at hl 0 rfl) ?_
      refine g1_n S I dX1_labelByLists_4 ?_
      refine lv_icmp_ge (tgt := 50) hx hb dX1_labelByLists_7 (by decide) (fun c_7 => ?_) (fun c_7 => absurd (nI_le (by omega) (by omega)) c_7)
      refine lv_iconst (v := nI (0 + 1)) hx hb dX1_labelByLists_50 (by decide) ?_
      refine lv_istore_n (lv' := [(1, .int (nI (0 + 1))), (0, .ref (g.2.1 0))]) hx hb dX1_labelByLists_51 rfl hl (by decide) rfl (fun ls hl => ?_)
      have lp52 : ∀ (k52 i52 : Nat), i52 + k52 = 9 → ∀ (H : Heap) (locs : List Loc), XI (x1 g) s (n, F, L, pt, (llN n L pt N n), (llO n pt (llN n L pt N n) (llB lb n) i52)) H locs → ∀ ls : Array Slot, lv_has ls 6 [(0, .ref (g.2.1 0)), (1, .int (nI (i52 + 1)))] → W p l e (rmd 1) s m args below meth c H locs 0 0 Q (F0 m 52 ls []) := by
        intro k52
        induction k52 with
        | zero =>
          intro i52  e52  H locs I ls hl
          have e52 : i52 = 9 := by omega
          rw [e52] at I hl
          refine lv_iload_n hx hb dX1_labelByLists_52 rfl (lv_at hl 1 rfl) ?_
          refine lv_bipush (v := nI 9) hx hb dX1_labelByLists_53 (by decide) ?_
          refine lv_icmp_gt (tgt := 160) hx hb dX1_labelByLists_55 (by decide) (fun c_55 => ?_) (fun c_55 => absurd (nI_lt (by omega) (by omega)) c_55)
          exact kret _ _ _ _ _ dX1_labelByLists_160 rfl I
        | succ k52 ih52 =>
          intro i52  e52  H locs I ls hl
          refine lv_iload_n hx hb dX1_labelByLists_52 rfl (lv_at hl 1 rfl) ?_
          refine lv_bipush (v := nI 9) hx hb dX1_labelByLists_53 (by decide) ?_
          refine lv_icmp_gt (tgt := 160) hx hb dX1_labelByLists_55 (by decide) (fun c_55 => absurd c_55 (nI_nlt (by omega) (by omega))) (fun c_55 => ?_)
          refine lv_iconst (v := (-1)) hx hb dX1_labelByLists_58 (by decide) ?_
          refine lv_istore_n (lv' := [(2, .int (-1)), (0, .ref (g.2.1 0)), (1, .int (nI (i52 + 1)))]) hx hb dX1_labelByLists_59 rfl hl (by decide) rfl (fun ls hl => ?_)
          refine lv_iconst (v := 0) hx hb dX1_labelByLists_60 (by decide) ?_
          refine lv_istore_n (lv' := [(3, .int 0), (2, .int (-1)), (0, .ref (g.2.1 0)), (1, .int (nI (i52 + 1)))]) hx hb dX1_labelByLists_61 rfl hl (by decide) rfl (fun ls hl => ?_)
          refine lv_iconst (v := nI 0) hx hb dX1_labelByLists_62 (by decide) ?_
          refine lv_istore (lv' := [(4, .int (nI 0)), (3, .int 0), (2, .int (-1)), (0, .ref (g.2.1 0)), (1, .int (nI (i52 + 1)))]) hx hb dX1_labelByLists_63 hl (by decide) rfl (fun ls hl => ?_)
          have lp65 : ∀ (k65 i65 : Nat), i65 + k65 = n → ∀ (H : Heap) (locs : List Loc), XI (x1 g) s (n, F, L, pt, (llN n L pt N n), (llO n pt (llN n L pt N n) (llB lb n) i52)) H locs → ∀ ls : Array Slot, lv_has ls 6 [(0, .ref (g.2.1 0)), (1, .int (nI (i52 + 1))), (2, .int ((llI n pt (llN n L pt N n) (llO n pt (llN n L pt N n) (llB lb n) i52) i65).1)), (3, .int ((llI n pt (llN n L pt N n) (llO n pt (llN n L pt N n) (llB lb n) i52) i65).2)), (4, .int (nI i65))] → W p l e (rmd 1) s m args below meth c H locs 0 0 Q (F0 m 65 ls []) := by
            intro k65
            induction k65 with
            | zero =>
              intro i65  e65  H locs I ls hl
              have e65 : i65 = n := by omega
              rw [e65] at hl
              refine lv_iload hx hb dX1_labelByLists_65 (lv_at hl 4 rfl) ?_
              refine lv_aload_n hx hb dX1_labelByLists_67 rfl (lv_at hl 0 rfl) ?_
              refine g1_n S I dX1_labelByLists_68 ?_
              refine lv_icmp_ge (tgt := 142) hx hb dX1_labelByLists_71 (by decide) (fun c_71 => ?_) (fun c_71 => absurd (nI_le (by omega) (by omega)) c_71)
              refine lv_iload_n hx hb dX1_labelByLists_142 rfl (lv_at hl 2 rfl) ?_
              refine lv_if_lt (tgt := 154) hx hb dX1_labelByLists_143 (by decide) (fun c_143 => ?_) (fun c_143 => ?_)
              · refine lv_iinc (v := nI ((i52 + 1) + 1)) (lv' := [(1, .int (nI ((i52 + 1) + 1))), (0, .ref (g.2.1 0)), (2, .int ((llI n pt (llN n L pt N n) (llO n pt (llN n L pt N n) (llB lb n) i52) n).1)), (3, .int ((llI n pt (llN n L pt N n) (llO n pt (llN n L pt N n) (llB lb n) i52) n).2)), (4, .int (nI n))]) hx hb dX1_labelByLists_154 hl (k := 1) rfl (nI_inc _) (by decide) rfl (fun ls hl => ?_)
                refine lv_goto (tgt := 52) hx hb dX1_labelByLists_157 (by decide) ?_
                have e_1 : llO n pt (llN n L pt N n) (llB lb n) (i52 + 1) = (llO n pt (llN n L pt N n) (llB lb n) i52) := by simp only [llO, if_pos c_7, if_neg c_55, if_pos c_71, if_pos c_143]
                exact ih52 (i52 + 1)  (by omega)  _ _ (by first | (rw [e_1]; exact I) | exact I | (simp only [e_1]; exact I)) _ (by first | (rw [e_1]; exact lv_sub hl [1, 0] rfl) | exact lv_sub hl [1, 0] rfl | (simp only [e_1]; exact lv_sub hl [1, 0] rfl))
              · refine lv_aload_n hx hb dX1_labelByLists_146 rfl (lv_at hl 0 rfl) ?_
                refine g1_lb S I dX1_labelByLists_147 ?_
                refine lv_iload_n hx hb dX1_labelByLists_150 rfl (lv_at hl 2 rfl) ?_
                refine lv_iload_n hx hb dX1_labelByLists_151 rfl (lv_at hl 1 rfl) ?_
                refine lv_i2b (v := (nI (i52 + 1)).toInt8.toInt32) hx hb dX1_labelByLists_152 rfl ?_
                refine a1_wrlb S I (v' := (nI (i52 + 1)).toInt8.toInt32) (pk_vb _) (llI_in c_143 (by omega)) dX1_labelByLists_153 (fun H locs I => ?_)
                refine lv_iinc (v := nI ((i52 + 1) + 1)) (lv' := [(1, .int (nI ((i52 + 1) + 1))), (0, .ref (g.2.1 0)), (2, .int ((llI n pt (llN n L pt N n) (llO n pt (llN n L pt N n) (llB lb n) i52) n).1)), (3, .int ((llI n pt (llN n L pt N n) (llO n pt (llN n L pt N n) (llB lb n) i52) n).2)), (4, .int (nI n))]) hx hb dX1_labelByLists_154 hl (k := 1) rfl (nI_inc _) (by decide) rfl (fun ls hl => ?_)
                refine lv_goto (tgt := 52) hx hb dX1_labelByLists_157 (by decide) ?_
                have e_1 : llO n pt (llN n L pt N n) (llB lb n) (i52 + 1) = (upd (llO n pt (llN n L pt N n) (llB lb n) i52) ((llI n pt (llN n L pt N n) (llO n pt (llN n L pt N n) (llB lb n) i52) n).1).toNatClampNeg ((nI (i52 + 1)).toInt8.toInt32)) := by simp only [llO, if_pos c_7, if_neg c_55, if_pos c_71, if_neg c_143]
                exact ih52 (i52 + 1)  (by omega)  _ _ (by first | (rw [e_1]; exact I) | exact I | (simp only [e_1]; exact I)) _ (by first | (rw [e_1]; exact lv_sub hl [1, 0] rfl) | exact lv_sub hl [1, 0] rfl | (simp only [e_1]; exact lv_sub hl [1, 0] rfl))
            | succ k65 ih65 =>
              intro i65  e65  H locs I ls hl
              refine lv_iload hx hb dX1_labelByLists_65 (lv_at hl 4 rfl) ?_
              refine lv_aload_n hx hb dX1_labelByLists_67 rfl (lv_at hl 0 rfl) ?_
              refine g1_n S I dX1_labelByLists_68 ?_
              refine lv_icmp_ge (tgt := 142) hx hb dX1_labelByLists_71 (by decide) (fun c_71 => absurd c_71 (nI_ge (by omega) (by omega))) (fun c_71 => ?_)
              refine lv_aload_n hx hb dX1_labelByLists_74 rfl (lv_at hl 0 rfl) ?_
              refine g1_pt S I dX1_labelByLists_75 ?_
              refine lv_iload hx hb dX1_labelByLists_78 (lv_at hl 4 rfl) ?_
              refine lv_ishr hx hb dX1_labelByLists_80 ?_
              refine lv_iconst (v := 1) hx hb dX1_labelByLists_81 (by decide) ?_
              refine lv_iand hx hb dX1_labelByLists_82 ?_
              refine lv_if_eq (tgt := 136) hx hb dX1_labelByLists_83 (by decide) (fun c_83 => ?_) (fun c_83 => ?_)
              · refine lv_iinc (v := nI (i65 + 1)) (lv' := [(4, .int (nI (i65 + 1))), (0, .ref (g.2.1 0)), (1, .int (nI (i52 + 1))), (2, .int ((llI n pt (llN n L pt N n) (llO n pt (llN n L pt N n) (llB lb n) i52) i65).1)), (3, .int ((llI n pt (llN n L pt N n) (llO n pt (llN n L pt N n) (llB lb n) i52) i65).2))]) hx hb dX1_labelByLists_136 hl (k := 4) rfl (nI_inc _) (by decide) rfl (fun ls hl => ?_)
                refine lv_goto (tgt := 65) hx hb dX1_labelByLists_139 (by decide) ?_
                have e_1 : (llI n pt (llN n L pt N n) (llO n pt (llN n L pt N n) (llB lb n) i52) (i65 + 1)).1 = (llI n pt (llN n L pt N n) (llO n pt (llN n L pt N n) (llB lb n) i52) i65).1 := by simp only [llI, if_pos c_7, if_neg c_55, if_neg c_71, if_pos c_83]
                have e_2 : (llI n pt (llN n L pt N n) (llO n pt (llN n L pt N n) (llB lb n) i52) (i65 + 1)).2 = (llI n pt (llN n L pt N n) (llO n pt (llN n L pt N n) (llB lb n) i52) i65).2 := by simp only [llI, if_pos c_7, if_neg c_55, if_neg c_71, if_pos c_83]
                exact ih65 (i65 + 1)  (by omega)  _ _ (by first | (rw [e_1, e_2]; exact I) | exact I | (simp only [e_1, e_2]; exact I)) _ (by first | (rw [e_1, e_2]; exact lv_sub hl [1, 2, 3, 4, 0] rfl) | exact lv_sub hl [1, 2, 3, 4, 0] rfl | (simp only [e_1, e_2]; exact lv_sub hl [1, 2, 3, 4, 0] rfl))
              · refine lv_aload_n hx hb dX1_labelByLists_86 rfl (lv_at hl 0 rfl) ?_
                refine g1_lb S I dX1_labelByLists_87 ?_
                refine lv_iload hx hb dX1_labelByLists_90 (lv_at hl 4 rfl) ?_
                refine a1_ldlb S I (k := i65) (by omega) dX1_labelByLists_92 ?_
                refine lv_if_eq (tgt := 99) hx hb dX1_labelByLists_93 (by decide) (fun c_93 => ?_) (fun c_93 => ?_)
                · refine lv_aload_n hx hb dX1_labelByLists_99 rfl (lv_at hl 0 rfl) ?_
                  refine lv_aload_n hx hb dX1_labelByLists_100 rfl (lv_at hl 0 rfl) ?_
                  refine g1_N S I dX1_labelByLists_101 ?_
                  refine lv_iload hx hb dX1_labelByLists_104 (lv_at hl 4 rfl) ?_
                  refine a1_ldN S I (k := i65) (by omega) dX1_labelByLists_106 ?_
                  refine c1_i (As := [.int ((llN n L pt N n) i65)]) (rest := []) S I (mX1_labelList l g n F L pt (llN n L pt N n) (llO n pt (llN n L pt N n) (llB lb n) i52) (by omega) ((llN n L pt N n) i65)) (cw1_labelList S.2.2.2.2 (by decide)) rfl hl.1 rfl (Nat.le_of_ble_eq_true rfl) dX1_labelByLists_107 (fun r u' H locs hp I => ?_)
                  obtain ⟨rfl, rfl⟩ := hp
                  refine lv_istore (lv' := [(5, .int (xLab n (llO n pt (llN n L pt N n) (llB lb n) i52) ((llN n L pt N n) i65))), (0, .ref (g.2.1 0)), (1, .int (nI (i52 + 1))), (2, .int ((llI n pt (llN n L pt N n) (llO n pt (llN n L pt N n) (llB lb n) i52) i65).1)), (3, .int ((llI n pt (llN n L pt N n) (llO n pt (llN n L pt N n) (llB lb n) i52) i65).2)), (4, .int (nI i65))]) hx hb dX1_labelByLists_110 hl (by decide) rfl (fun ls hl => ?_)
                  refine lv_iload hx hb dX1_labelByLists_112 (lv_at hl 0 rfl) ?_
                  refine lv_if_lt (tgt := 136) hx hb dX1_labelByLists_114 (by decide) (fun c_114 => ?_) (fun c_114 => ?_)
                  · refine lv_iinc (v := nI (i65 + 1)) (lv' := [(4, .int (nI (i65 + 1))), (5, .int (xLab n (llO n pt (llN n L pt N n) (llB lb n) i52) ((llN n L pt N n) i65))), (0, .ref (g.2.1 0)), (1, .int (nI (i52 + 1))), (2, .int ((llI n pt (llN n L pt N n) (llO n pt (llN n L pt N n) (llB lb n) i52) i65).1)), (3, .int ((llI n pt (llN n L pt N n) (llO n pt (llN n L pt N n) (llB lb n) i52) i65).2))]) hx hb dX1_labelByLists_136 hl (k := 5) rfl (nI_inc _) (by decide) rfl (fun ls hl => ?_)
                    refine lv_goto (tgt := 65) hx hb dX1_labelByLists_139 (by decide) ?_
                    have e_1 : (llI n pt (llN n L pt N n) (llO n pt (llN n L pt N n) (llB lb n) i52) (i65 + 1)).1 = (llI n pt (llN n L pt N n) (llO n pt (llN n L pt N n) (llB lb n) i52) i65).1 := by simp only [llI, if_pos c_7, if_neg c_55, if_neg c_71, if_neg c_83, if_pos c_93, if_pos c_114]
                    have e_2 : (llI n pt (llN n L pt N n) (llO n pt (llN n L pt N n) (llB lb n) i52) (i65 + 1)).2 = (llI n pt (llN n L pt N n) (llO n pt (llN n L pt N n) (llB lb n) i52) i65).2 := by simp only [llI, if_pos c_7, if_neg c_55, if_neg c_71, if_neg c_83, if_pos c_93, if_pos c_114]
                    exact ih65 (i65 + 1)  (by omega)  _ _ (by first | (rw [e_1, e_2]; exact I) | exact I | (simp only [e_1, e_2]; exact I)) _ (by first | (rw [e_1, e_2]; exact lv_sub hl [2, 3, 4, 5, 0] rfl) | exact lv_sub hl [2, 3, 4, 5, 0] rfl | (simp only [e_1, e_2]; exact lv_sub hl [2, 3, 4, 5, 0] rfl))
                  · refine lv_iload_n hx hb dX1_labelByLists_117 rfl (lv_at hl 3 rfl) ?_
                    refine lv_if_lt (tgt := 130) hx hb dX1_labelByLists_118 (by decide) (fun c_118 => ?_) (fun c_118 => ?_)
                    · refine lv_iload hx hb dX1_labelByLists_130 (lv_at hl 5 rfl) ?_
                      refine lv_istore_n (lv' := [(2, .int (nI i65)), (5, .int (xLab n (llO n pt (llN n L pt N n) (llB lb n) i52) ((llN n L pt N n) i65))), (0, .ref (g.2.1 0)), (1, .int (nI (i52 + 1))), (3, .int ((llI n pt (llN n L pt N n) (llO n pt (llN n L pt N n) (llB lb n) i52) i65).2)), (4, .int (nI i65))]) hx hb dX1_labelByLists_132 rfl hl (by decide) rfl (fun ls hl => ?_)
                      refine lv_iload hx hb dX1_labelByLists_133 (lv_at hl 1 rfl) ?_
                      refine lv_istore_n (lv' := [(3, .int (xLab n (llO n pt (llN n L pt N n) (llB lb n) i52) ((llN n L pt N n) i65))), (2, .int (nI i65)), (5, .int (xLab n (llO n pt (llN n L pt N n) (llB lb n) i52) ((llN n L pt N n) i65))), (0, .ref (g.2.1 0)), (1, .int (nI (i52 + 1))), (4, .int (nI i65))]) hx hb dX1_labelByLists_135 rfl hl (by decide) rfl (fun ls hl => ?_)
                      refine lv_iinc (v := nI (i65 + 1)) (lv' := [(4, .int (nI (i65 + 1))), (3, .int (xLab n (llO n pt (llN n L pt N n) (llB lb n) i52) ((llN n L pt N n) i65))), (2, .int (nI i65)), (5, .int (xLab n (llO n pt (llN n L pt N n) (llB lb n) i52) ((llN n L pt N n) i65))), (0, .ref (g.2.1 0)), (1, .int (nI (i52 + 1)))]) hx hb dX1_labelByLists_136 hl (k := 5) rfl (nI_inc _) (by decide) rfl (fun ls hl => ?_)
                      refine lv_goto (tgt := 65) hx hb dX1_labelByLists_139 (by decide) ?_
                      have e_1 : (llI n pt (llN n L pt N n) (llO n pt (llN n L pt N n) (llB lb n) i52) (i65 + 1)).1 = nI i65 := by simp only [llI, if_pos c_7, if_neg c_55, if_neg c_71, if_neg c_83, if_pos c_93, if_neg c_114, if_pos c_118]
                      have e_2 : (llI n pt (llN n L pt N n) (llO n pt (llN n L pt N n) (llB lb n) i52) (i65 + 1)).2 = xLab n (llO n pt (llN n L pt N n) (llB lb n) i52) ((llN n L pt N n) i65) := by simp only [llI, if_pos c_7, if_neg c_55, if_neg c_71, if_neg c_83, if_pos c_93, if_neg c_114, if_pos c_118]
                      exact ih65 (i65 + 1)  (by omega)  _ _ (by first | (rw [e_1, e_2]; exact I) | exact I | (simp only [e_1, e_2]; exact I)) _ (by first | (rw [e_1, e_2]; exact lv_sub hl [4, 5, 2, 1, 0] rfl) | exact lv_sub hl [4, 5, 2, 1, 0] rfl | (simp only [e_1, e_2]; exact lv_sub hl [4, 5, 2, 1, 0] rfl))
                    · refine lv_iload hx hb dX1_labelByLists_121 (lv_at hl 0 rfl) ?_
                      refine lv_iload_n hx hb dX1_labelByLists_123 rfl (lv_at hl 4 rfl) ?_
                      refine lv_icmp_lt (tgt := 130) hx hb dX1_labelByLists_124 (by decide) (fun c_124 => ?_) (fun c_124 => ?_)
                      · refine lv_iload hx hb dX1_labelByLists_130 (lv_at hl 5 rfl) ?_
                        refine lv_istore_n (lv' := [(2, .int (nI i65)), (5, .int (xLab n (llO n pt (llN n L pt N n) (llB lb n) i52) ((llN n L pt N n) i65))), (0, .ref (g.2.1 0)), (1, .int (nI (i52 + 1))), (3, .int ((llI n pt (llN n L pt N n) (llO n pt (llN n L pt N n) (llB lb n) i52) i65).2)), (4, .int (nI i65))]) hx hb dX1_labelByLists_132 rfl hl (by decide) rfl (fun ls hl => ?_)
                        refine lv_iload hx hb dX1_labelByLists_133 (lv_at hl 1 rfl) ?_
                        refine lv_istore_n (lv' := [(3, .int (xLab n (llO n pt (llN n L pt N n) (llB lb n) i52) ((llN n L pt N n) i65))), (2, .int (nI i65)), (5, .int (xLab n (llO n pt (llN n L pt N n) (llB lb n) i52) ((llN n L pt N n) i65))), (0, .ref (g.2.1 0)), (1, .int (nI (i52 + 1))), (4, .int (nI i65))]) hx hb dX1_labelByLists_135 rfl hl (by decide) rfl (fun ls hl => ?_)
                        refine lv_iinc (v := nI (i65 + 1)) (lv' := [(4, .int (nI (i65 + 1))), (3, .int (xLab n (llO n pt (llN n L pt N n) (llB lb n) i52) ((llN n L pt N n) i65))), (2, .int (nI i65)), (5, .int (xLab n (llO n pt (llN n L pt N n) (llB lb n) i52) ((llN n L pt N n) i65))), (0, .ref (g.2.1 0)), (1, .int (nI (i52 + 1)))]) hx hb dX1_labelByLists_136 hl (k := 5) rfl (nI_inc _) (by decide) rfl (fun ls hl => ?_)
                        refine lv_goto (tgt := 65) hx hb dX1_labelByLists_139 (by decide) ?_
                        have e_1 : (llI n pt (llN n L pt N n) (llO n pt (llN n L pt N n) (llB lb n) i52) (i65 + 1)).1 = nI i65 := by simp only [llI, if_pos c_7, if_neg c_55, if_neg c_71, if_neg c_83, if_pos c_93, if_neg c_114, if_neg c_118, if_pos c_124]
                        have e_2 : (llI n pt (llN n L pt N n) (llO n pt (llN n L pt N n) (llB lb n) i52) (i65 + 1)).2 = xLab n (llO n pt (llN n L pt N n) (llB lb n) i52) ((llN n L pt N n) i65) := by simp only [llI, if_pos c_7, if_neg c_55, if_neg c_71, if_neg c_83, if_pos c_93, if_neg c_114, if_neg c_118, if_pos c_124]
                        exact ih65 (i65 + 1)  (by omega)  _ _ (by first | (rw [e_1, e_2]; exact I) | exact I | (simp only [e_1, e_2]; exact I)) _ (by first | (rw [e_1, e_2]; exact lv_sub hl [4, 5, 2, 1, 0] rfl) | exact lv_sub hl [4, 5, 2, 1, 0] rfl | (simp only [e_1, e_2]; exact lv_sub hl [4, 5, 2, 1, 0] rfl))
                      · refine lv_goto (tgt := 136) hx hb dX1_labelByLists_127 (by decide) ?_
                        refine lv_iinc (v := nI (i65 + 1)) (lv' := [(4, .int (nI (i65 + 1))), (5, .int (xLab n (llO n pt (llN n L pt N n) (llB lb n) i52) ((llN n L pt N n) i65))), (0, .ref (g.2.1 0)), (1, .int (nI (i52 + 1))), (2, .int ((llI n pt (llN n L pt N n) (llO n pt (llN n L pt N n) (llB lb n) i52) i65).1)), (3, .int ((llI n pt (llN n L pt N n) (llO n pt (llN n L pt N n) (llB lb n) i52) i65).2))]) hx hb dX1_labelByLists_136 hl (k := 5) rfl (nI_inc _) (by decide) rfl (fun ls hl => ?_)
                        refine lv_goto (tgt := 65) hx hb dX1_labelByLists_139 (by decide) ?_
                        have e_1 : (llI n pt (llN n L pt N n) (llO n pt (llN n L pt N n) (llB lb n) i52) (i65 + 1)).1 = (llI n pt (llN n L pt N n) (llO n pt (llN n L pt N n) (llB lb n) i52) i65).1 := by simp only [llI, if_pos c_7, if_neg c_55, if_neg c_71, if_neg c_83, if_pos c_93, if_neg c_114, if_neg c_118, if_neg c_124]
                        have e_2 : (llI n pt (llN n L pt N n) (llO n pt (llN n L pt N n) (llB lb n) i52) (i65 + 1)).2 = (llI n pt (llN n L pt N n) (llO n pt (llN n L pt N n) (llB lb n) i52) i65).2 := by simp only [llI, if_pos c_7, if_neg c_55, if_neg c_71, if_neg c_83, if_pos c_93, if_neg c_114, if_neg c_118, if_neg c_124]
                        exact ih65 (i65 + 1)  (by omega)  _ _ (by first | (rw [e_1, e_2]; exact I) | exact I | (simp only [e_1, e_2]; exact I)) _ (by first | (rw [e_1, e_2]; exact lv_sub hl [2, 3, 4, 5, 0] rfl) | exact lv_sub hl [2, 3, 4, 5, 0] rfl | (simp only [e_1, e_2]; exact lv_sub hl [2, 3, 4, 5, 0] rfl))
                · refine lv_goto (tgt := 136) hx hb dX1_labelByLists_96 (by decide) ?_
                  refine lv_iinc (v := nI (i65 + 1)) (lv' := [(4, .int (nI (i65 + 1))), (0, .ref (g.2.1 0)), (1, .int (nI (i52 + 1))), (2, .int ((llI n pt (llN n L pt N n) (llO n pt (llN n L pt N n) (llB lb n) i52) i65).1)), (3, .int ((llI n pt (llN n L pt N n) (llO n pt (llN n L pt N n) (llB lb n) i52) i65).2))]) hx hb dX1_labelByLists_136 hl (k := 4) rfl (nI_inc _) (by decide) rfl (fun ls hl => ?_)
                  refine lv_goto (tgt := 65) hx hb dX1_labelByLists_139 (by decide) ?_
                  have e_1 : (llI n pt (llN n L pt N n) (llO n pt (llN n L pt N n) (llB lb n) i52) (i65 + 1)).1 = (llI n pt (llN n L pt N n) (llO n pt (llN n L pt N n) (llB lb n) i52) i65).1 := by simp only [llI, if_pos c_7, if_neg c_55, if_neg c_71, if_neg c_83, if_neg c_93]
                  have e_2 : (llI n pt (llN n L pt N n) (llO n pt (llN n L pt N n) (llB lb n) i52) (i65 + 1)).2 = (llI n pt (llN n L pt N n) (llO n pt (llN n L pt N n) (llB lb n) i52) i65).2 := by simp only [llI, if_pos c_7, if_neg c_55, if_neg c_71, if_neg c_83, if_neg c_93]
                  exact ih65 (i65 + 1)  (by omega)  _ _ (by first | (rw [e_1, e_2]; exact I) | exact I | (simp only [e_1, e_2]; exact I)) _ (by first | (rw [e_1, e_2]; exact lv_sub hl [1, 2, 3, 4, 0] rfl) | exact lv_sub hl [1, 2, 3, 4, 0] rfl | (simp only [e_1, e_2]; exact lv_sub hl [1, 2, 3, 4, 0] rfl))
          exact lp65 n 0  (by omega)  _ _ I _ (lv_sub hl [3, 4, 2, 1, 0] rfl)
      exact lp52 9 0  (by omega)  _ _ I _ (lv_sub hl [1, 0] rfl)
    | succ k2 ih2 =>
      intro i2  e2  H locs I ls hl
      refine lv_iload_n hx hb dX1_labelByLists_2 rfl (lv_at hl 1 rfl) ?_
      refine lv_aload_n hx hb dX1_labelByLists_3 rfl (lv_at hl 0 rfl) ?_
      refine g1_n S I dX1_labelByLists_4 ?_
      refine lv_icmp_ge (tgt := 50) hx hb dX1_labelByLists_7 (by decide) (fun c_7 => absurd c_7 (nI_ge (by omega) (by omega))) (fun c_7 => ?_)
      refine lv_aload_n hx hb dX1_labelByLists_10 rfl (lv_at hl 0 rfl) ?_
      refine g1_lb S I dX1_labelByLists_11 ?_
      refine lv_iload_n hx hb dX1_labelByLists_14 rfl (lv_at hl 1 rfl) ?_
      refine lv_iconst (v := 0) hx hb dX1_labelByLists_15 (by decide) ?_
      refine a1_stlb S I (k := i2) (v' := 0) (by first | rfl | decide) (by omega) dX1_labelByLists_16 (fun H locs I => ?_)
      refine lv_aload_n hx hb dX1_labelByLists_17 rfl (lv_at hl 0 rfl) ?_
      refine g1_N S I dX1_labelByLists_18 ?_
      refine lv_iload_n hx hb dX1_labelByLists_21 rfl (lv_at hl 1 rfl) ?_
      refine lv_aload_n hx hb dX1_labelByLists_22 rfl (lv_at hl 0 rfl) ?_
      refine lv_iload_n hx hb dX1_labelByLists_23 rfl (lv_at hl 1 rfl) ?_
      refine lv_aload_n hx hb dX1_labelByLists_24 rfl (lv_at hl 0 rfl) ?_
      refine g1_L S I dX1_labelByLists_25 ?_
      refine lv_iload_n hx hb dX1_labelByLists_28 rfl (lv_at hl 1 rfl) ?_
      refine a1_ldL S I (k := i2) (by omega) dX1_labelByLists_29 ?_
      refine lv_aload_n hx hb dX1_labelByLists_30 rfl (lv_at hl 0 rfl) ?_
      refine g1_pt S I dX1_labelByLists_31 ?_
      refine lv_iand hx hb dX1_labelByLists_34 ?_
      refine c1_i (As := [.int (nI i2), .int ((L i2) &&& pt)]) (rest := [.int (nI i2), .ref (g.2.1 3)]) S I (mX1_immediate l g n F L pt (llN n L pt N i2) (upd (llB lb i2) i2 0) (by omega) (nI i2) ((L i2) &&& pt)) (cw1_immediate S.2.2.2.2 (by decide)) rfl hl.1 rfl (Nat.le_of_ble_eq_true rfl) dX1_labelByLists_35 (fun r u' H locs hp I => ?_)
      obtain ⟨rfl, rfl⟩ := hp
      refine lv_aload_n hx hb dX1_labelByLists_38 rfl (lv_at hl 0 rfl) ?_
      refine g1_pt S I dX1_labelByLists_39 ?_
      refine lv_iand hx hb dX1_labelByLists_42 ?_
      refine a1_stN S I (k := i2) (by omega) dX1_labelByLists_43 (fun H locs I => ?_)
      refine lv_iinc (v := nI (i2 + 1)) (lv' := [(1, .int (nI (i2 + 1))), (0, .ref (g.2.1 0))]) hx hb dX1_labelByLists_44 hl (k := 1) rfl (nI_inc _) (by decide) rfl (fun ls hl => ?_)
      refine lv_goto (tgt := 2) hx hb dX1_labelByLists_47 (by decide) ?_
      have e_1 : llB lb (i2 + 1) = (upd (llB lb i2) i2 0) := by simp only [llB, llN, if_neg c_7]
      have e_2 : llN n L pt N (i2 + 1) = (upd (llN n L pt N i2) i2 ((xImm n L ((L i2) &&& pt)) &&& pt)) := by simp only [llB, llN, if_neg c_7]
      exact ih2 (i2 + 1)  (by omega)  _ _ (by first | (rw [e_1, e_2]; exact I) | exact I | (simp only [e_1, e_2]; exact I)) _ (by first | (rw [e_1, e_2]; exact lv_sub hl [1, 0] rfl) | exact lv_sub hl [1, 0] rfl | (simp only [e_1, e_2]; exact lv_sub hl [1, 0] rfl))
  exact lp2 n 0  (by omega)  _ _ I _ (lv_sub hl [1, 0] rfl)
end
section
set_option maxHeartbeats 4000000 in
set_option maxRecDepth 100000 in
theorem mX1_addTask_full (l : Launch) (g : Geo) (n : Nat) (F L : Nat → Int32) (pt : Int32) (N lb : Nat → Int32) (hn : n ≤ 9) (h9 : 9 ≤ n) : MI (x1 g) l yX1_addTask cX1_addTask 1 .int 1 [.ref (g.2.1 0)] (n, F, L, pt, N, lb) (fun r u' => r = -3 ∧ u' = (n, F, L, pt, N, lb)) := by
  refine MI_of (by decide) (Nat.le_of_ble_eq_true rfl) ?_
  intro p e s m args below meth c Q S kret ls hl I
  have hx := S.1
  have hb := S.2.1
  have hl : lv_has ls 1 [(0, .ref (g.2.1 0))] := hl
  refine lv_aload_n hx hb dX1_addTask_0 rfl (lv_at hl 0 rfl) ?_
  refine g1_n S I dX1_addTask_1 ?_
  refine lv_bipush (v := nI 9) hx hb dX1_addTask_4 (by decide) ?_
  refine lv_icmp_lt (tgt := 12) hx hb dX1_addTask_6 (by decide) (fun c_6 => absurd c_6 (nI_nlt (by omega) (by omega))) (fun c_6 => ?_)
  refine lv_bipush (v := (-3)) hx hb dX1_addTask_9 (by decide) ?_
  exact kret _ _ _ _ _ _ dX1_addTask_11 rfl ⟨rfl, rfl⟩ I
set_option maxHeartbeats 4000000 in
set_option maxRecDepth 100000 in
theorem mX1_addTask (l : Launch) (g : Geo) (n : Nat) (F L : Nat → Int32) (pt : Int32) (N lb : Nat → Int32) (hn : n ≤ 9) (h9 : n < 9) : MI (x1 g) l yX1_addTask cX1_addTask 1 .int 1 [.ref (g.2.1 0)] (n, F, L, pt, N, lb) (fun r u' => r = nI n ∧ u' = (n + 1, upd F n 0, xClose (n + 1) (upd F n 0) L, pt, N, lb)) := by
  refine MI_of (by decide) (Nat.le_of_ble_eq_true rfl) ?_
  intro p e s m args below meth c Q S kret ls hl I
  have hx := S.1
  have hb := S.2.1
  have hl : lv_has ls 1 [(0, .ref (g.2.1 0))] := hl
  refine lv_aload_n hx hb dX1_addTask_0 rfl (lv_at hl 0 rfl) ?_
  refine g1_n S I dX1_addTask_1 ?_
  refine lv_bipush (v := nI 9) hx hb dX1_addTask_4 (by decide) ?_
  refine lv_icmp_lt (tgt := 12) hx hb dX1_addTask_6 (by decide) (fun c_6 => ?_) (fun c_6 => absurd (nI_lt (by omega) (by omega)) c_6)
  refine lv_aload_n hx hb dX1_addTask_12 rfl (lv_at hl 0 rfl) ?_
  refine g1_F S I dX1_addTask_13 ?_
  refine lv_aload_n hx hb dX1_addTask_16 rfl (lv_at hl 0 rfl) ?_
  refine g1_n S I dX1_addTask_17 ?_
  refine lv_iconst (v := 0) hx hb dX1_addTask_20 (by decide) ?_
  refine a1_stF S I (k := n) (by omega) dX1_addTask_21 (fun H locs I => ?_)
  refine lv_aload_n hx hb dX1_addTask_22 rfl (lv_at hl 0 rfl) ?_
  refine lv_dup hx hb dX1_addTask_23 rfl ?_
  refine g1_n S I dX1_addTask_24 ?_
  refine lv_iconst (v := 1) hx hb dX1_addTask_27 (by decide) ?_
  refine lv_iadd hx hb dX1_addTask_28 ?_
  refine p1_n (n' := (n + 1)) S I (nI_1 n) dX1_addTask_29 (fun H locs I => ?_)
  refine lv_aload_n hx hb dX1_addTask_32 rfl (lv_at hl 0 rfl) ?_
  refine c1_v (As := []) (rest := []) S I (mX1_closeOrders l g (n + 1) (upd F n 0) L pt N lb (by omega) ) (cw1_closeOrders S.2.2.2.2 (by decide)) rfl hl.1 rfl (Nat.le_of_ble_eq_true rfl) dX1_addTask_33 (fun u' H locs hp I => ?_)
  subst hp
  refine lv_aload_n hx hb dX1_addTask_36 rfl (lv_at hl 0 rfl) ?_
  refine g1_n S I dX1_addTask_37 ?_
  refine lv_iconst (v := 1) hx hb dX1_addTask_40 (by decide) ?_
  refine lv_isub hx hb dX1_addTask_41 ?_
  refine x_top (v := nI n) (nI_pred n) ?_
  exact kret _ _ _ _ _ _ dX1_addTask_42 rfl ⟨rfl, rfl⟩ I
set_option maxHeartbeats 4000000 in
set_option maxRecDepth 100000 in
theorem mX1_removeTask_bad (l : Launch) (g : Geo) (n : Nat) (F L : Nat → Int32) (pt : Int32) (N lb : Nat → Int32) (hn : n ≤ 9) (v : Int32) (hT : v < 0 ∨ nI n ≤ v) : MI (x1 g) l yX1_removeTask cX1_removeTask 4 .int 1 [.ref (g.2.1 0), .int v] (n, F, L, pt, N, lb) (fun r u' => r = -1 ∧ u' = (n, F, L, pt, N, lb)) := by
  refine MI_of (by decide) (Nat.le_of_ble_eq_true rfl) ?_
  intro p e s m args below meth c Q S kret ls hl I
  have hx := S.1
  have hb := S.2.1
  have hl : lv_has ls 4 [(0, .ref (g.2.1 0)), (1, .int v)] := hl
  have hT0 : xT n v = 0 := xT_out hT
  refine lv_aload_n hx hb dX1_removeTask_0 rfl (lv_at hl 0 rfl) ?_
  refine lv_iload_n hx hb dX1_removeTask_1 rfl (lv_at hl 1 rfl) ?_
  refine c1_i (As := [.int v]) (rest := []) S I (mX1_isTask l g n F L pt N lb (by omega) v) (cw1_isTask S.2.2.2.2 (by decide)) rfl hl.1 rfl (Nat.le_of_ble_eq_true rfl) dX1_removeTask_2 (fun r u' H locs hp I => ?_)
  obtain ⟨rfl, rfl⟩ := hp
  refine lv_if_ne (tgt := 10) hx hb dX1_removeTask_5 (by decide) (fun c_5 => absurd hT0 c_5) (fun c_5 => ?_)
  refine lv_iconst (v := (-1)) hx hb dX1_removeTask_8 (by decide) ?_
  exact kret _ _ _ _ _ _ dX1_removeTask_9 rfl ⟨rfl, rfl⟩ I
set_option maxHeartbeats 4000000 in
set_option maxRecDepth 100000 in
theorem mX1_removeTask (l : Launch) (g : Geo) (n : Nat) (F L : Nat → Int32) (pt : Int32) (N lb : Nat → Int32) (hn : n ≤ 9) (k : Nat) (hk : k < n) : MI (x1 g) l yX1_removeTask cX1_removeTask 4 .int 1 [.ref (g.2.1 0), .int (nI k)] (n, F, L, pt, N, lb) (fun r u' => r = nI (n - 1) ∧ u' = (n - 1, xRem n F k, xClose (n - 1) (xRem n F k) L, pt, N, lb)) := by
  refine MI_of (by decide) (Nat.le_of_ble_eq_true rfl) ?_
  intro p e s m args below meth c Q S kret ls hl I
  have hx := S.1
  have hb := S.2.1
  have hl : lv_has ls 4 [(0, .ref (g.2.1 0)), (1, .int (nI k))] := hl
  have hT1 : ¬ xT n (nI k) = 0 := xT_in hk hn
  refine lv_aload_n hx hb dX1_removeTask_0 rfl (lv_at hl 0 rfl) ?_
  refine lv_iload_n hx hb dX1_removeTask_1 rfl (lv_at hl 1 rfl) ?_
  refine c1_i (As := [.int (nI k)]) (rest := []) S I (mX1_isTask l g n F L pt N lb (by omega) (nI k)) (cw1_isTask S.2.2.2.2 (by decide)) rfl hl.1 rfl (Nat.le_of_ble_eq_true rfl) dX1_removeTask_2 (fun r u' H locs hp I => ?_)
  obtain ⟨rfl, rfl⟩ := hp
  refine lv_if_ne (tgt := 10) hx hb dX1_removeTask_5 (by decide) (fun c_5 => ?_) (fun c_5 => absurd c_5 hT1)
  refine lv_aload_n hx hb dX1_removeTask_10 rfl (lv_at hl 0 rfl) ?_
  refine lv_dup hx hb dX1_removeTask_11 rfl ?_
  refine g1_n S I dX1_removeTask_12 ?_
  refine lv_iconst (v := 1) hx hb dX1_removeTask_15 (by decide) ?_
  refine lv_isub hx hb dX1_removeTask_16 ?_
  refine p1_n (n' := (n - 1)) S I (nI_prd (by omega)) dX1_removeTask_17 (fun H locs I => ?_)
  refine lv_iload_n hx hb dX1_removeTask_20 rfl (lv_at hl 1 rfl) ?_
  refine lv_istore_n (lv' := [(2, .int (nI k)), (0, .ref (g.2.1 0)), (1, .int (nI k))]) hx hb dX1_removeTask_21 rfl hl (by decide) rfl (fun ls hl => ?_)
  have lp22 : ∀ (k22 i22 : Nat), i22 + k22 = n - 1 - k → ∀ (H : Heap) (locs : List Loc), XI (x1 g) s ((n - 1), (rmF F k i22), L, pt, N, lb) H locs → ∀ ls : Array Slot, lv_has ls 4 [(0, .ref (g.2.1 0)), (1, .int (nI k)), (2, .int (nI (k + i22)))] → W p l e (rmd 1) s m args below meth c H locs 0 0 Q (F0 m 22 ls []) := by
    intro k22
    induction k22 with
    | zero =>
      intro i22  e22  H locs I ls hl
      have e22 : i22 = n - 1 - k := by omega
      rw [e22] at I hl
      refine lv_iload_n hx hb dX1_removeTask_22 rfl (lv_at hl 2 rfl) ?_
      refine lv_aload_n hx hb dX1_removeTask_23 rfl (lv_at hl 0 rfl) ?_
      refine g1_n S I dX1_removeTask_24 ?_
      refine lv_icmp_ge (tgt := 50) hx hb dX1_removeTask_27 (by decide) (fun c_27 => ?_) (fun c_27 => absurd (nI_le (by omega) (by omega)) c_27)
      refine lv_iconst (v := 1) hx hb dX1_removeTask_50 (by decide) ?_
      refine lv_iload_n hx hb dX1_removeTask_51 rfl (lv_at hl 1 rfl) ?_
      refine lv_ishl hx hb dX1_removeTask_52 ?_
      refine lv_iconst (v := 1) hx hb dX1_removeTask_53 (by decide) ?_
      refine lv_isub hx hb dX1_removeTask_54 ?_
      refine lv_istore_n (lv' := [(2, .int (((1 : Int32) <<< ((nI k) &&& 31)) - 1)), (0, .ref (g.2.1 0)), (1, .int (nI k))]) hx hb dX1_removeTask_55 rfl hl (by decide) rfl (fun ls hl => ?_)
      refine lv_iconst (v := nI 0) hx hb dX1_removeTask_56 (by decide) ?_
      refine lv_istore_n (lv' := [(3, .int (nI 0)), (2, .int (((1 : Int32) <<< ((nI k) &&& 31)) - 1)), (0, .ref (g.2.1 0)), (1, .int (nI k))]) hx hb dX1_removeTask_57 rfl hl (by decide) rfl (fun ls hl => ?_)
      have lp58 : ∀ (k58 i58 : Nat), i58 + k58 = n - 1 → ∀ (H : Heap) (locs : List Loc), XI (x1 g) s ((n - 1), (rlF (xLow k) (rmF F k (n - 1 - k)) i58), L, pt, N, lb) H locs → ∀ ls : Array Slot, lv_has ls 4 [(0, .ref (g.2.1 0)), (2, .int (xLow k)), (3, .int (nI i58))] → W p l e (rmd 1) s m args below meth c H locs 0 0 Q (F0 m 58 ls []) := by
        intro k58
        induction k58 with
        | zero =>
          intro i58  e58  H locs I ls hl
          have e58 : i58 = n - 1 := by omega
          rw [e58] at I hl
          refine lv_iload_n hx hb dX1_removeTask_58 rfl (lv_at hl 2 rfl) ?_
          refine lv_aload_n hx hb dX1_removeTask_59 rfl (lv_at hl 0 rfl) ?_
          refine g1_n S I dX1_removeTask_60 ?_
          refine lv_icmp_ge (tgt := 99) hx hb dX1_removeTask_63 (by decide) (fun c_63 => ?_) (fun c_63 => absurd (nI_le (by omega) (by omega)) c_63)
          refine lv_aload_n hx hb dX1_removeTask_99 rfl (lv_at hl 0 rfl) ?_
          refine c1_v (As := []) (rest := []) S I (mX1_closeOrders l g (n - 1) (rlF (xLow k) (rmF F k (n - 1 - k)) (n - 1)) L pt N lb (by omega) ) (cw1_closeOrders S.2.2.2.2 (by decide)) rfl hl.1 rfl (Nat.le_of_ble_eq_true rfl) dX1_removeTask_100 (fun u' H locs hp I => ?_)
          subst hp
          refine lv_aload_n hx hb dX1_removeTask_103 rfl (lv_at hl 0 rfl) ?_
          refine g1_n S I dX1_removeTask_104 ?_
          exact kret _ _ _ _ _ _ dX1_removeTask_107 rfl ⟨rfl, rfl⟩ I
        | succ k58 ih58 =>
          intro i58  e58  H locs I ls hl
          refine lv_iload_n hx hb dX1_removeTask_58 rfl (lv_at hl 2 rfl) ?_
          refine lv_aload_n hx hb dX1_removeTask_59 rfl (lv_at hl 0 rfl) ?_
          refine g1_n S I dX1_removeTask_60 ?_
          refine lv_icmp_ge (tgt := 99) hx hb dX1_removeTask_63 (by decide) (fun c_63 => absurd c_63 (nI_ge (by omega) (by omega))) (fun c_63 => ?_)
          refine lv_aload_n hx hb dX1_removeTask_66 rfl (lv_at hl 0 rfl) ?_
          refine g1_F S I dX1_removeTask_67 ?_
          refine lv_iload_n hx hb dX1_removeTask_70 rfl (lv_at hl 2 rfl) ?_
          refine lv_aload_n hx hb dX1_removeTask_71 rfl (lv_at hl 0 rfl) ?_
          refine g1_F S I dX1_removeTask_72 ?_
          refine lv_iload_n hx hb dX1_removeTask_75 rfl (lv_at hl 2 rfl) ?_
          refine a1_ldF S I (k := i58) (by omega) dX1_removeTask_76 ?_
          refine lv_iload_n hx hb dX1_removeTask_77 rfl (lv_at hl 1 rfl) ?_
          refine lv_iand hx hb dX1_removeTask_78 ?_
          refine lv_aload_n hx hb dX1_removeTask_79 rfl (lv_at hl 0 rfl) ?_
          refine g1_F S I dX1_removeTask_80 ?_
          refine lv_iload_n hx hb dX1_removeTask_83 rfl (lv_at hl 2 rfl) ?_
          refine a1_ldF S I (k := i58) (by omega) dX1_removeTask_84 ?_
          refine lv_iconst (v := 1) hx hb dX1_removeTask_85 (by decide) ?_
          refine lv_ishr hx hb dX1_removeTask_86 ?_
          refine lv_iload_n hx hb dX1_removeTask_87 rfl (lv_at hl 1 rfl) ?_
          refine lv_iconst (v := (-1)) hx hb dX1_removeTask_88 (by decide) ?_
          refine lv_ixor hx hb dX1_removeTask_89 ?_
          refine lv_iand hx hb dX1_removeTask_90 ?_
          refine lv_ior hx hb dX1_removeTask_91 ?_
          refine a1_stF S I (k := i58) (by omega) dX1_removeTask_92 (fun H locs I => ?_)
          refine lv_iinc (v := nI (i58 + 1)) (lv' := [(3, .int (nI (i58 + 1))), (0, .ref (g.2.1 0)), (2, .int (xLow k))]) hx hb dX1_removeTask_93 hl (k := 2) rfl (nI_inc _) (by decide) rfl (fun ls hl => ?_)
          refine lv_goto (tgt := 58) hx hb dX1_removeTask_96 (by decide) ?_
          have e_1 : rlF (xLow k) (rmF F k (n - 1 - k)) (i58 + 1) = (upd (rlF (xLow k) (rmF F k (n - 1 - k)) i58) i58 ((((rlF (xLow k) (rmF F k (n - 1 - k)) i58) i58) &&& (xLow k)) ||| ((((rlF (xLow k) (rmF F k (n - 1 - k)) i58) i58) >>> (1 &&& 31)) &&& ((xLow k) ^^^ (-1))))) := by simp only [rlF, if_neg c_5, if_pos c_27, if_neg c_63]
          exact ih58 (i58 + 1)  (by omega)  _ _ (by first | (rw [e_1]; exact I) | exact I | (simp only [e_1]; exact I)) _ (by first | (rw [e_1]; exact lv_sub hl [1, 2, 0] rfl) | exact lv_sub hl [1, 2, 0] rfl | (simp only [e_1]; exact lv_sub hl [1, 2, 0] rfl))
      exact lp58 (n - 1) 0  (by omega)  _ _ I _ (lv_sub hl [2, 1, 0] rfl)
    | succ k22 ih22 =>
      intro i22  e22  H locs I ls hl
      refine lv_iload_n hx hb dX1_removeTask_22 rfl (lv_at hl 2 rfl) ?_
      refine lv_aload_n hx hb dX1_removeTask_23 rfl (lv_at hl 0 rfl) ?_
      refine g1_n S I dX1_removeTask_24 ?_
      refine lv_icmp_ge (tgt := 50) hx hb dX1_removeTask_27 (by decide) (fun c_27 => absurd c_27 (nI_ge (by omega) (by omega))) (fun c_27 => ?_)
      refine lv_aload_n hx hb dX1_removeTask_30 rfl (lv_at hl 0 rfl) ?_
      refine g1_F S I dX1_removeTask_31 ?_
      refine lv_iload_n hx hb dX1_removeTask_34 rfl (lv_at hl 2 rfl) ?_
      refine lv_aload_n hx hb dX1_removeTask_35 rfl (lv_at hl 0 rfl) ?_
      refine g1_F S I dX1_removeTask_36 ?_
      refine lv_iload_n hx hb dX1_removeTask_39 rfl (lv_at hl 2 rfl) ?_
      refine lv_iconst (v := 1) hx hb dX1_removeTask_40 (by decide) ?_
      refine lv_iadd hx hb dX1_removeTask_41 ?_
      refine x_top (v := nI (k + i22 + 1)) (nI_1 _) ?_
      refine a1_ldF S I (k := (k + i22 + 1)) (by omega) dX1_removeTask_42 ?_
      refine a1_stF S I (k := (k + i22)) (by omega) dX1_removeTask_43 (fun H locs I => ?_)
      refine lv_iinc (v := nI ((k + i22) + 1)) (lv' := [(2, .int (nI ((k + i22) + 1))), (0, .ref (g.2.1 0)), (1, .int (nI k))]) hx hb dX1_removeTask_44 hl (k := 2) rfl (nI_inc _) (by decide) rfl (fun ls hl => ?_)
      refine lv_goto (tgt := 22) hx hb dX1_removeTask_47 (by decide) ?_
      have e_1 : rmF F k (i22 + 1) = (upd (rmF F k i22) (k + i22) ((rmF F k i22) (k + i22 + 1))) := by simp only [rmF, if_neg c_5, if_neg c_27]
      exact ih22 (i22 + 1)  (by omega)  _ _ (by first | (rw [e_1]; exact I) | exact I | (simp only [e_1]; exact I)) _ (by first | (rw [e_1]; exact lv_sub hl [1, 2, 0] rfl) | exact lv_sub hl [1, 2, 0] rfl | (simp only [e_1]; exact lv_sub hl [1, 2, 0] rfl))
  exact lp22 (n - 1 - k) 0  (by omega)  _ _ I _ (lv_sub hl [1, 2, 0] rfl)
set_option maxHeartbeats 4000000 in
set_option maxRecDepth 100000 in
theorem mX1_addOrder_bad1 (l : Launch) (g : Geo) (n : Nat) (F L : Nat → Int32) (pt : Int32) (N lb : Nat → Int32) (hn : n ≤ 9) (v w : Int32) (hT : v < 0 ∨ nI n ≤ v) : MI (x1 g) l yX1_addOrder cX1_addOrder 5 .int 1 [.ref (g.2.1 0), .int v, .int w] (n, F, L, pt, N, lb) (fun r u' => r = -1 ∧ u' = (n, F, L, pt, N, lb)) := by
  refine MI_of (by decide) (Nat.le_of_ble_eq_true rfl) ?_
  intro p e s m args below meth c Q S kret ls hl I
  have hx := S.1
  have hb := S.2.1
  have hl : lv_has ls 5 [(0, .ref (g.2.1 0)), (1, .int v), (2, .int w)] := hl
  have hT0 : xT n v = 0 := xT_out hT
  refine lv_aload_n hx hb dX1_addOrder_0 rfl (lv_at hl 0 rfl) ?_
  refine lv_iload_n hx hb dX1_addOrder_1 rfl (lv_at hl 1 rfl) ?_
  refine c1_i (As := [.int v]) (rest := []) S I (mX1_isTask l g n F L pt N lb (by omega) v) (cw1_isTask S.2.2.2.2 (by decide)) rfl hl.1 rfl (Nat.le_of_ble_eq_true rfl) dX1_addOrder_2 (fun r u' H locs hp I => ?_)
  obtain ⟨rfl, rfl⟩ := hp
  refine lv_if_eq (tgt := 16) hx hb dX1_addOrder_5 (by decide) (fun c_5 => ?_) (fun c_5 => absurd hT0 c_5)
  refine lv_iconst (v := (-1)) hx hb dX1_addOrder_16 (by decide) ?_
  exact kret _ _ _ _ _ _ dX1_addOrder_17 rfl ⟨rfl, rfl⟩ I
set_option maxHeartbeats 4000000 in
set_option maxRecDepth 100000 in
theorem mX1_addOrder_bad2 (l : Launch) (g : Geo) (n : Nat) (F L : Nat → Int32) (pt : Int32) (N lb : Nat → Int32) (hn : n ≤ 9) (k : Nat) (hk : k < n) (v : Int32) (hT : v < 0 ∨ nI n ≤ v) : MI (x1 g) l yX1_addOrder cX1_addOrder 5 .int 1 [.ref (g.2.1 0), .int (nI k), .int v] (n, F, L, pt, N, lb) (fun r u' => r = -1 ∧ u' = (n, F, L, pt, N, lb)) := by
  refine MI_of (by decide) (Nat.le_of_ble_eq_true rfl) ?_
  intro p e s m args below meth c Q S kret ls hl I
  have hx := S.1
  have hb := S.2.1
  have hl : lv_has ls 5 [(0, .ref (g.2.1 0)), (1, .int (nI k)), (2, .int v)] := hl
  have hT0 : xT n v = 0 := xT_out hT
  have hT1 : ¬ xT n (nI k) = 0 := xT_in hk hn
  refine lv_aload_n hx hb dX1_addOrder_0 rfl (lv_at hl 0 rfl) ?_
  refine lv_iload_n hx hb dX1_addOrder_1 rfl (lv_at hl 1 rfl) ?_
  refine c1_i (As := [.int (nI k)]) (rest := []) S I (mX1_isTask l g n F L pt N lb (by omega) (nI k)) (cw1_isTask S.2.2.2.2 (by decide)) rfl hl.1 rfl (Nat.le_of_ble_eq_true rfl) dX1_addOrder_2 (fun r u' H locs hp I => ?_)
  obtain ⟨rfl, rfl⟩ := hp
  refine lv_if_eq (tgt := 16) hx hb dX1_addOrder_5 (by decide) (fun c_5 => absurd c_5 hT1) (fun c_5 => ?_)
  refine lv_aload_n hx hb dX1_addOrder_8 rfl (lv_at hl 0 rfl) ?_
  refine lv_iload_n hx hb dX1_addOrder_9 rfl (lv_at hl 2 rfl) ?_
  refine c1_i (As := [.int v]) (rest := []) S I (mX1_isTask l g n F L pt N lb (by omega) v) (cw1_isTask S.2.2.2.2 (by decide)) rfl hl.1 rfl (Nat.le_of_ble_eq_true rfl) dX1_addOrder_10 (fun r u' H locs hp I => ?_)
  obtain ⟨rfl, rfl⟩ := hp
  refine lv_if_ne (tgt := 18) hx hb dX1_addOrder_13 (by decide) (fun c_13 => absurd hT0 c_13) (fun c_13 => ?_)
  refine lv_iconst (v := (-1)) hx hb dX1_addOrder_16 (by decide) ?_
  exact kret _ _ _ _ _ _ dX1_addOrder_17 rfl ⟨rfl, rfl⟩ I
set_option maxHeartbeats 4000000 in
set_option maxRecDepth 100000 in
theorem mX1_addOrder (l : Launch) (g : Geo) (n : Nat) (F L : Nat → Int32) (pt : Int32) (N lb : Nat → Int32) (hn : n ≤ 9) (k : Nat) (hk : k < n) (j : Nat) (hj : j < n) : MI (x1 g) l yX1_addOrder cX1_addOrder 5 .int 1 [.ref (g.2.1 0), .int (nI k), .int (nI j)] (n, F, L, pt, N, lb) (fun r u' => r = (xAO n F L pt N lb k j).1 ∧ u' = (xAO n F L pt N lb k j).2) := by
  refine MI_of (by decide) (Nat.le_of_ble_eq_true rfl) ?_
  intro p e s m args below meth c Q S kret ls hl I
  have hx := S.1
  have hb := S.2.1
  have hl : lv_has ls 5 [(0, .ref (g.2.1 0)), (1, .int (nI k)), (2, .int (nI j))] := hl
  have hT1 : ¬ xT n (nI k) = 0 := xT_in hk hn
  have hT2 : ¬ xT n (nI j) = 0 := xT_in hj hn
  refine lv_aload_n hx hb dX1_addOrder_0 rfl (lv_at hl 0 rfl) ?_
  refine lv_iload_n hx hb dX1_addOrder_1 rfl (lv_at hl 1 rfl) ?_
  refine c1_i (As := [.int (nI k)]) (rest := []) S I (mX1_isTask l g n F L pt N lb (by omega) (nI k)) (cw1_isTask S.2.2.2.2 (by decide)) rfl hl.1 rfl (Nat.le_of_ble_eq_true rfl) dX1_addOrder_2 (fun r u' H locs hp I => ?_)
  obtain ⟨rfl, rfl⟩ := hp
  refine lv_if_eq (tgt := 16) hx hb dX1_addOrder_5 (by decide) (fun c_5 => absurd c_5 hT1) (fun c_5 => ?_)
  refine lv_aload_n hx hb dX1_addOrder_8 rfl (lv_at hl 0 rfl) ?_
  refine lv_iload_n hx hb dX1_addOrder_9 rfl (lv_at hl 2 rfl) ?_
  refine c1_i (As := [.int (nI j)]) (rest := []) S I (mX1_isTask l g n F L pt N lb (by omega) (nI j)) (cw1_isTask S.2.2.2.2 (by decide)) rfl hl.1 rfl (Nat.le_of_ble_eq_true rfl) dX1_addOrder_10 (fun r u' H locs hp I => ?_)
  obtain ⟨rfl, rfl⟩ := hp
  refine lv_if_ne (tgt := 18) hx hb dX1_addOrder_13 (by decide) (fun c_13 => ?_) (fun c_13 => absurd c_13 hT2)
  refine lv_iload_n hx hb dX1_addOrder_18 rfl (lv_at hl 1 rfl) ?_
  refine lv_iload_n hx hb dX1_addOrder_19 rfl (lv_at hl 2 rfl) ?_
  refine lv_icmp_eq (tgt := 36) hx hb dX1_addOrder_20 (by decide) (fun c_20 => ?_) (fun c_20 => ?_)
  · refine lv_bipush (v := (-4)) hx hb dX1_addOrder_36 (by decide) ?_
    exact kret _ _ _ _ _ _ dX1_addOrder_38 rfl ⟨by simp only [xAO, if_neg c_5, if_neg c_13, if_pos c_20], by simp only [xAO, if_neg c_5, if_neg c_13, if_pos c_20]⟩ I
  · refine lv_aload_n hx hb dX1_addOrder_23 rfl (lv_at hl 0 rfl) ?_
    refine g1_L S I dX1_addOrder_24 ?_
    refine lv_iload_n hx hb dX1_addOrder_27 rfl (lv_at hl 2 rfl) ?_
    refine a1_ldL S I (k := j) (by omega) dX1_addOrder_28 ?_
    refine lv_iload_n hx hb dX1_addOrder_29 rfl (lv_at hl 1 rfl) ?_
    refine lv_ishr hx hb dX1_addOrder_30 ?_
    refine lv_iconst (v := 1) hx hb dX1_addOrder_31 (by decide) ?_
    refine lv_iand hx hb dX1_addOrder_32 ?_
    refine lv_if_eq (tgt := 39) hx hb dX1_addOrder_33 (by decide) (fun c_33 => ?_) (fun c_33 => ?_)
    · refine lv_aload_n hx hb dX1_addOrder_39 rfl (lv_at hl 0 rfl) ?_
      refine g1_F S I dX1_addOrder_40 ?_
      refine lv_iload_n hx hb dX1_addOrder_43 rfl (lv_at hl 1 rfl) ?_
      refine a1_ldF S I (k := k) (by omega) dX1_addOrder_44 ?_
      refine lv_iload_n hx hb dX1_addOrder_45 rfl (lv_at hl 2 rfl) ?_
      refine lv_ishr hx hb dX1_addOrder_46 ?_
      refine lv_iconst (v := 1) hx hb dX1_addOrder_47 (by decide) ?_
      refine lv_iand hx hb dX1_addOrder_48 ?_
      refine lv_if_eq (tgt := 54) hx hb dX1_addOrder_49 (by decide) (fun c_49 => ?_) (fun c_49 => ?_)
      · refine lv_aload_n hx hb dX1_addOrder_54 rfl (lv_at hl 0 rfl) ?_
        refine g1_F S I dX1_addOrder_55 ?_
        refine lv_iload_n hx hb dX1_addOrder_58 rfl (lv_at hl 1 rfl) ?_
        refine lv_dup2_11 hx hb dX1_addOrder_59 rfl rfl ?_
        refine a1_ldF S I (k := k) (by omega) dX1_addOrder_60 ?_
        refine lv_iconst (v := 1) hx hb dX1_addOrder_61 (by decide) ?_
        refine lv_iload_n hx hb dX1_addOrder_62 rfl (lv_at hl 2 rfl) ?_
        refine lv_ishl hx hb dX1_addOrder_63 ?_
        refine lv_ior hx hb dX1_addOrder_64 ?_
        refine a1_stF S I (k := k) (by omega) dX1_addOrder_65 (fun H locs I => ?_)
        refine lv_aload_n hx hb dX1_addOrder_66 rfl (lv_at hl 0 rfl) ?_
        refine g1_L S I dX1_addOrder_67 ?_
        refine lv_iload_n hx hb dX1_addOrder_70 rfl (lv_at hl 2 rfl) ?_
        refine a1_ldL S I (k := j) (by omega) dX1_addOrder_71 ?_
        refine lv_iconst (v := 1) hx hb dX1_addOrder_72 (by decide) ?_
        refine lv_iload_n hx hb dX1_addOrder_73 rfl (lv_at hl 2 rfl) ?_
        refine lv_ishl hx hb dX1_addOrder_74 ?_
        refine lv_ior hx hb dX1_addOrder_75 ?_
        refine lv_istore_n (lv' := [(3, .int ((L j) ||| ((1 : Int32) <<< ((nI j) &&& 31)))), (0, .ref (g.2.1 0)), (1, .int (nI k)), (2, .int (nI j))]) hx hb dX1_addOrder_76 rfl hl (by decide) rfl (fun ls hl => ?_)
        refine lv_iconst (v := nI 0) hx hb dX1_addOrder_77 (by decide) ?_
        refine lv_istore (lv' := [(4, .int (nI 0)), (3, .int ((L j) ||| ((1 : Int32) <<< ((nI j) &&& 31)))), (0, .ref (g.2.1 0)), (1, .int (nI k)), (2, .int (nI j))]) hx hb dX1_addOrder_78 hl (by decide) rfl (fun ls hl => ?_)
        have lp80 : ∀ (k80 i80 : Nat), i80 + k80 = n → ∀ (H : Heap) (locs : List Loc), XI (x1 g) s (n, (upd F k ((F k) ||| ((1 : Int32) <<< ((nI j) &&& 31)))), (aoL k (L j ||| xBit j) L i80), pt, N, lb) H locs → ∀ ls : Array Slot, lv_has ls 5 [(0, .ref (g.2.1 0)), (1, .int (nI k)), (3, .int (L j ||| xBit j)), (4, .int (nI i80))] → W p l e (rmd 1) s m args below meth c H locs 0 0 Q (F0 m 80 ls []) := by
          intro k80
          induction k80 with
          | zero =>
            intro i80  e80  H locs I ls hl
            have e80 : i80 = n := by omega
            rw [e80] at I hl
            refine lv_iload hx hb dX1_addOrder_80 (lv_at hl 3 rfl) ?_
            refine lv_aload_n hx hb dX1_addOrder_82 rfl (lv_at hl 0 rfl) ?_
            refine g1_n S I dX1_addOrder_83 ?_
            refine lv_icmp_ge (tgt := 126) hx hb dX1_addOrder_86 (by decide) (fun c_86 => ?_) (fun c_86 => absurd (nI_le (by omega) (by omega)) c_86)
            refine lv_iconst (v := 1) hx hb dX1_addOrder_126 (by decide) ?_
            exact kret _ _ _ _ _ _ dX1_addOrder_127 rfl ⟨by simp only [xAO, if_neg c_5, if_neg c_13, if_neg c_20, if_pos c_33, if_pos c_49, if_pos c_86], by simp only [xAO, if_neg c_5, if_neg c_13, if_neg c_20, if_pos c_33, if_pos c_49, if_pos c_86]⟩ I
          | succ k80 ih80 =>
            intro i80  e80  H locs I ls hl
            refine lv_iload hx hb dX1_addOrder_80 (lv_at hl 3 rfl) ?_
            refine lv_aload_n hx hb dX1_addOrder_82 rfl (lv_at hl 0 rfl) ?_
            refine g1_n S I dX1_addOrder_83 ?_
            refine lv_icmp_ge (tgt := 126) hx hb dX1_addOrder_86 (by decide) (fun c_86 => absurd c_86 (nI_ge (by omega) (by omega))) (fun c_86 => ?_)
            refine lv_iload hx hb dX1_addOrder_89 (lv_at hl 3 rfl) ?_
            refine lv_iload_n hx hb dX1_addOrder_91 rfl (lv_at hl 1 rfl) ?_
            refine lv_icmp_eq (tgt := 109) hx hb dX1_addOrder_92 (by decide) (fun c_92 => ?_) (fun c_92 => ?_)
            · refine lv_aload_n hx hb dX1_addOrder_109 rfl (lv_at hl 0 rfl) ?_
              refine g1_L S I dX1_addOrder_110 ?_
              refine lv_iload hx hb dX1_addOrder_113 (lv_at hl 3 rfl) ?_
              refine lv_dup2_11 hx hb dX1_addOrder_115 rfl rfl ?_
              refine a1_ldL S I (k := i80) (by omega) dX1_addOrder_116 ?_
              refine lv_iload_n hx hb dX1_addOrder_117 rfl (lv_at hl 2 rfl) ?_
              refine lv_ior hx hb dX1_addOrder_118 ?_
              refine a1_stL S I (k := i80) (by omega) dX1_addOrder_119 (fun H locs I => ?_)
              refine lv_iinc (v := nI (i80 + 1)) (lv' := [(4, .int (nI (i80 + 1))), (0, .ref (g.2.1 0)), (1, .int (nI k)), (3, .int (L j ||| xBit j))]) hx hb dX1_addOrder_120 hl (k := 3) rfl (nI_inc _) (by decide) rfl (fun ls hl => ?_)
              refine lv_goto (tgt := 80) hx hb dX1_addOrder_123 (by decide) ?_
              have e_1 : aoL k (L j ||| xBit j) L (i80 + 1) = (upd (aoL k (L j ||| xBit j) L i80) i80 (((aoL k (L j ||| xBit j) L i80) i80) ||| (L j ||| xBit j))) := by simp only [aoL, if_neg c_5, if_neg c_13, if_neg c_20, if_pos c_33, if_pos c_49, if_neg c_86, if_pos c_92]
              exact ih80 (i80 + 1)  (by omega)  _ _ (by first | (rw [e_1]; exact I) | exact I | (simp only [e_1]; exact I)) _ (by first | (rw [e_1]; exact lv_sub hl [1, 2, 3, 0] rfl) | exact lv_sub hl [1, 2, 3, 0] rfl | (simp only [e_1]; exact lv_sub hl [1, 2, 3, 0] rfl))
            · refine lv_aload_n hx hb dX1_addOrder_95 rfl (lv_at hl 0 rfl) ?_
              refine g1_L S I dX1_addOrder_96 ?_
              refine lv_iload hx hb dX1_addOrder_99 (lv_at hl 3 rfl) ?_
              refine a1_ldL S I (k := i80) (by omega) dX1_addOrder_101 ?_
              refine lv_iload_n hx hb dX1_addOrder_102 rfl (lv_at hl 1 rfl) ?_
              refine lv_ishr hx hb dX1_addOrder_103 ?_
              refine lv_iconst (v := 1) hx hb dX1_addOrder_104 (by decide) ?_
              refine lv_iand hx hb dX1_addOrder_105 ?_
              refine lv_if_eq (tgt := 120) hx hb dX1_addOrder_106 (by decide) (fun c_106 => ?_) (fun c_106 => ?_)
              · refine lv_iinc (v := nI (i80 + 1)) (lv' := [(4, .int (nI (i80 + 1))), (0, .ref (g.2.1 0)), (1, .int (nI k)), (3, .int (L j ||| xBit j))]) hx hb dX1_addOrder_120 hl (k := 3) rfl (nI_inc _) (by decide) rfl (fun ls hl => ?_)
                refine lv_goto (tgt := 80) hx hb dX1_addOrder_123 (by decide) ?_
                have e_1 : aoL k (L j ||| xBit j) L (i80 + 1) = (aoL k (L j ||| xBit j) L i80) := by simp only [aoL, if_neg c_5, if_neg c_13, if_neg c_20, if_pos c_33, if_pos c_49, if_neg c_86, if_neg c_92, if_pos c_106]
                exact ih80 (i80 + 1)  (by omega)  _ _ (by first | (rw [e_1]; exact I) | exact I | (simp only [e_1]; exact I)) _ (by first | (rw [e_1]; exact lv_sub hl [1, 2, 3, 0] rfl) | exact lv_sub hl [1, 2, 3, 0] rfl | (simp only [e_1]; exact lv_sub hl [1, 2, 3, 0] rfl))
              · refine lv_aload_n hx hb dX1_addOrder_109 rfl (lv_at hl 0 rfl) ?_
                refine g1_L S I dX1_addOrder_110 ?_
                refine lv_iload hx hb dX1_addOrder_113 (lv_at hl 3 rfl) ?_
                refine lv_dup2_11 hx hb dX1_addOrder_115 rfl rfl ?_
                refine a1_ldL S I (k := i80) (by omega) dX1_addOrder_116 ?_
                refine lv_iload_n hx hb dX1_addOrder_117 rfl (lv_at hl 2 rfl) ?_
                refine lv_ior hx hb dX1_addOrder_118 ?_
                refine a1_stL S I (k := i80) (by omega) dX1_addOrder_119 (fun H locs I => ?_)
                refine lv_iinc (v := nI (i80 + 1)) (lv' := [(4, .int (nI (i80 + 1))), (0, .ref (g.2.1 0)), (1, .int (nI k)), (3, .int (L j ||| xBit j))]) hx hb dX1_addOrder_120 hl (k := 3) rfl (nI_inc _) (by decide) rfl (fun ls hl => ?_)
                refine lv_goto (tgt := 80) hx hb dX1_addOrder_123 (by decide) ?_
                have e_1 : aoL k (L j ||| xBit j) L (i80 + 1) = (upd (aoL k (L j ||| xBit j) L i80) i80 (((aoL k (L j ||| xBit j) L i80) i80) ||| (L j ||| xBit j))) := by simp only [aoL, if_neg c_5, if_neg c_13, if_neg c_20, if_pos c_33, if_pos c_49, if_neg c_86, if_neg c_92, if_neg c_106]
                exact ih80 (i80 + 1)  (by omega)  _ _ (by first | (rw [e_1]; exact I) | exact I | (simp only [e_1]; exact I)) _ (by first | (rw [e_1]; exact lv_sub hl [1, 2, 3, 0] rfl) | exact lv_sub hl [1, 2, 3, 0] rfl | (simp only [e_1]; exact lv_sub hl [1, 2, 3, 0] rfl))
        exact lp80 n 0  (by omega)  _ _ I _ (lv_sub hl [2, 3, 1, 0] rfl)
      · refine lv_iconst (v := 0) hx hb dX1_addOrder_52 (by decide) ?_
        exact kret _ _ _ _ _ _ dX1_addOrder_53 rfl ⟨by simp only [xAO, if_neg c_5, if_neg c_13, if_neg c_20, if_pos c_33, if_neg c_49], by simp only [xAO, if_neg c_5, if_neg c_13, if_neg c_20, if_pos c_33, if_neg c_49]⟩ I
    · refine lv_bipush (v := (-4)) hx hb dX1_addOrder_36 (by decide) ?_
      exact kret _ _ _ _ _ _ dX1_addOrder_38 rfl ⟨by simp only [xAO, if_neg c_5, if_neg c_13, if_neg c_20, if_neg c_33], by simp only [xAO, if_neg c_5, if_neg c_13, if_neg c_20, if_neg c_33]⟩ I
set_option maxHeartbeats 4000000 in
set_option maxRecDepth 100000 in
theorem mX1_removeOrder_bad1 (l : Launch) (g : Geo) (n : Nat) (F L : Nat → Int32) (pt : Int32) (N lb : Nat → Int32) (hn : n ≤ 9) (v w : Int32) (hT : v < 0 ∨ nI n ≤ v) : MI (x1 g) l yX1_removeOrder cX1_removeOrder 3 .int 1 [.ref (g.2.1 0), .int v, .int w] (n, F, L, pt, N, lb) (fun r u' => r = -1 ∧ u' = (n, F, L, pt, N, lb)) := by
  refine MI_of (by decide) (Nat.le_of_ble_eq_true rfl) ?_
  intro p e s m args below meth c Q S kret ls hl I
  have hx := S.1
  have hb := S.2.1
  have hl : lv_has ls 3 [(0, .ref (g.2.1 0)), (1, .int v), (2, .int w)] := hl
  have hT0 : xT n v = 0 := xT_out hT
  refine lv_aload_n hx hb dX1_removeOrder_0 rfl (lv_at hl 0 rfl) ?_
  refine lv_iload_n hx hb dX1_removeOrder_1 rfl (lv_at hl 1 rfl) ?_
  refine c1_i (As := [.int v]) (rest := []) S I (mX1_isTask l g n F L pt N lb (by omega) v) (cw1_isTask S.2.2.2.2 (by decide)) rfl hl.1 rfl (Nat.le_of_ble_eq_true rfl) dX1_removeOrder_2 (fun r u' H locs hp I => ?_)
  obtain ⟨rfl, rfl⟩ := hp
  refine lv_if_eq (tgt := 16) hx hb dX1_removeOrder_5 (by decide) (fun c_5 => ?_) (fun c_5 => absurd hT0 c_5)
  refine lv_iconst (v := (-1)) hx hb dX1_removeOrder_16 (by decide) ?_
  exact kret _ _ _ _ _ _ dX1_removeOrder_17 rfl ⟨rfl, rfl⟩ I
set_option maxHeartbeats 4000000 in
set_option maxRecDepth 100000 in
theorem mX1_removeOrder_bad2 (l : Launch) (g : Geo) (n : Nat) (F L : Nat → Int32) (pt : Int32) (N lb : Nat → Int32) (hn : n ≤ 9) (k : Nat) (hk : k < n) (v : Int32) (hT : v < 0 ∨ nI n ≤ v) : MI (x1 g) l yX1_removeOrder cX1_removeOrder 3 .int 1 [.ref (g.2.1 0), .int (nI k), .int v] (n, F, L, pt, N, lb) (fun r u' => r = -1 ∧ u' = (n, F, L, pt, N, lb)) := by
  refine MI_of (by decide) (Nat.le_of_ble_eq_true rfl) ?_
  intro p e s m args below meth c Q S kret ls hl I
  have hx := S.1
  have hb := S.2.1
  have hl : lv_has ls 3 [(0, .ref (g.2.1 0)), (1, .int (nI k)), (2, .int v)] := hl
  have hT0 : xT n v = 0 := xT_out hT
  have hT1 : ¬ xT n (nI k) = 0 := xT_in hk hn
  refine lv_aload_n hx hb dX1_removeOrder_0 rfl (lv_at hl 0 rfl) ?_
  refine lv_iload_n hx hb dX1_removeOrder_1 rfl (lv_at hl 1 rfl) ?_
  refine c1_i (As := [.int (nI k)]) (rest := []) S I (mX1_isTask l g n F L pt N lb (by omega) (nI k)) (cw1_isTask S.2.2.2.2 (by decide)) rfl hl.1 rfl (Nat.le_of_ble_eq_true rfl) dX1_removeOrder_2 (fun r u' H locs hp I => ?_)
  obtain ⟨rfl, rfl⟩ := hp
  refine lv_if_eq (tgt := 16) hx hb dX1_removeOrder_5 (by decide) (fun c_5 => absurd c_5 hT1) (fun c_5 => ?_)
  refine lv_aload_n hx hb dX1_removeOrder_8 rfl (lv_at hl 0 rfl) ?_
  refine lv_iload_n hx hb dX1_removeOrder_9 rfl (lv_at hl 2 rfl) ?_
  refine c1_i (As := [.int v]) (rest := []) S I (mX1_isTask l g n F L pt N lb (by omega) v) (cw1_isTask S.2.2.2.2 (by decide)) rfl hl.1 rfl (Nat.le_of_ble_eq_true rfl) dX1_removeOrder_10 (fun r u' H locs hp I => ?_)
  obtain ⟨rfl, rfl⟩ := hp
  refine lv_if_ne (tgt := 18) hx hb dX1_removeOrder_13 (by decide) (fun c_13 => absurd hT0 c_13) (fun c_13 => ?_)
  refine lv_iconst (v := (-1)) hx hb dX1_removeOrder_16 (by decide) ?_
  exact kret _ _ _ _ _ _ dX1_removeOrder_17 rfl ⟨rfl, rfl⟩ I
set_option maxHeartbeats 4000000 in
set_option maxRecDepth 100000 in
theorem mX1_removeOrder (l : Launch) (g : Geo) (n : Nat) (F L : Nat → Int32) (pt : Int32) (N lb : Nat → Int32) (hn : n ≤ 9) (k : Nat) (hk : k < n) (j : Nat) (hj : j < n) : MI (x1 g) l yX1_removeOrder cX1_removeOrder 3 .int 1 [.ref (g.2.1 0), .int (nI k), .int (nI j)] (n, F, L, pt, N, lb) (fun r u' => r = (xRO n F L pt N lb k j).1 ∧ u' = (xRO n F L pt N lb k j).2) := by
  refine MI_of (by decide) (Nat.le_of_ble_eq_true rfl) ?_
  intro p e s m args below meth c Q S kret ls hl I
  have hx := S.1
  have hb := S.2.1
  have hl : lv_has ls 3 [(0, .ref (g.2.1 0)), (1, .int (nI k)), (2, .int (nI j))] := hl
  have hT1 : ¬ xT n (nI k) = 0 := xT_in hk hn
  have hT2 : ¬ xT n (nI j) = 0 := xT_in hj hn
  refine lv_aload_n hx hb dX1_removeOrder_0 rfl (lv_at hl 0 rfl) ?_
  refine lv_iload_n hx hb dX1_removeOrder_1 rfl (lv_at hl 1 rfl) ?_
  refine c1_i (As := [.int (nI k)]) (rest := []) S I (mX1_isTask l g n F L pt N lb (by omega) (nI k)) (cw1_isTask S.2.2.2.2 (by decide)) rfl hl.1 rfl (Nat.le_of_ble_eq_true rfl) dX1_removeOrder_2 (fun r u' H locs hp I => ?_)
  obtain ⟨rfl, rfl⟩ := hp
  refine lv_if_eq (tgt := 16) hx hb dX1_removeOrder_5 (by decide) (fun c_5 => absurd c_5 hT1) (fun c_5 => ?_)
  refine lv_aload_n hx hb dX1_removeOrder_8 rfl (lv_at hl 0 rfl) ?_
  refine lv_iload_n hx hb dX1_removeOrder_9 rfl (lv_at hl 2 rfl) ?_
  refine c1_i (As := [.int (nI j)]) (rest := []) S I (mX1_isTask l g n F L pt N lb (by omega) (nI j)) (cw1_isTask S.2.2.2.2 (by decide)) rfl hl.1 rfl (Nat.le_of_ble_eq_true rfl) dX1_removeOrder_10 (fun r u' H locs hp I => ?_)
  obtain ⟨rfl, rfl⟩ := hp
  refine lv_if_ne (tgt := 18) hx hb dX1_removeOrder_13 (by decide) (fun c_13 => ?_) (fun c_13 => absurd c_13 hT2)
  refine lv_aload_n hx hb dX1_removeOrder_18 rfl (lv_at hl 0 rfl) ?_
  refine g1_F S I dX1_removeOrder_19 ?_
  refine lv_iload_n hx hb dX1_removeOrder_22 rfl (lv_at hl 1 rfl) ?_
  refine a1_ldF S I (k := k) (by omega) dX1_removeOrder_23 ?_
  refine lv_iload_n hx hb dX1_removeOrder_24 rfl (lv_at hl 2 rfl) ?_
  refine lv_ishr hx hb dX1_removeOrder_25 ?_
  refine lv_iconst (v := 1) hx hb dX1_removeOrder_26 (by decide) ?_
  refine lv_iand hx hb dX1_removeOrder_27 ?_
  refine lv_if_ne (tgt := 33) hx hb dX1_removeOrder_28 (by decide) (fun c_28 => ?_) (fun c_28 => ?_)
  · refine lv_aload_n hx hb dX1_removeOrder_33 rfl (lv_at hl 0 rfl) ?_
    refine g1_F S I dX1_removeOrder_34 ?_
    refine lv_iload_n hx hb dX1_removeOrder_37 rfl (lv_at hl 1 rfl) ?_
    refine lv_dup2_11 hx hb dX1_removeOrder_38 rfl rfl ?_
    refine a1_ldF S I (k := k) (by omega) dX1_removeOrder_39 ?_
    refine lv_iconst (v := 1) hx hb dX1_removeOrder_40 (by decide) ?_
    refine lv_iload_n hx hb dX1_removeOrder_41 rfl (lv_at hl 2 rfl) ?_
    refine lv_ishl hx hb dX1_removeOrder_42 ?_
    refine lv_iconst (v := (-1)) hx hb dX1_removeOrder_43 (by decide) ?_
    refine lv_ixor hx hb dX1_removeOrder_44 ?_
    refine lv_iand hx hb dX1_removeOrder_45 ?_
    refine a1_stF S I (k := k) (by omega) dX1_removeOrder_46 (fun H locs I => ?_)
    refine lv_aload_n hx hb dX1_removeOrder_47 rfl (lv_at hl 0 rfl) ?_
    refine c1_v (As := []) (rest := []) S I (mX1_closeOrders l g n (upd F k ((F k) &&& (((1 : Int32) <<< ((nI j) &&& 31)) ^^^ (-1)))) L pt N lb (by omega) ) (cw1_closeOrders S.2.2.2.2 (by decide)) rfl hl.1 rfl (Nat.le_of_ble_eq_true rfl) dX1_removeOrder_48 (fun u' H locs hp I => ?_)
    subst hp
    refine lv_iconst (v := 1) hx hb dX1_removeOrder_51 (by decide) ?_
    exact kret _ _ _ _ _ _ dX1_removeOrder_52 rfl ⟨by simp only [xRO, if_neg c_5, if_neg c_13, if_neg c_28], by simp only [xRO, if_neg c_5, if_neg c_13, if_neg c_28]⟩ I
  · refine lv_iconst (v := 0) hx hb dX1_removeOrder_31 (by decide) ?_
    exact kret _ _ _ _ _ _ dX1_removeOrder_32 rfl ⟨by simp only [xRO, if_neg c_5, if_neg c_13, if_pos c_28], by simp only [xRO, if_neg c_5, if_neg c_13, if_pos c_28]⟩ I
set_option maxHeartbeats 4000000 in
set_option maxRecDepth 100000 in
theorem mX1_after_bad1 (l : Launch) (g : Geo) (n : Nat) (F L : Nat → Int32) (pt : Int32) (N lb : Nat → Int32) (hn : n ≤ 9) (v w : Int32) (hT : v < 0 ∨ nI n ≤ v) : MI (x1 g) l yX1_after cX1_after 3 .boolean 1 [.ref (g.2.1 0), .int v, .int w] (n, F, L, pt, N, lb) (fun r u' => r = 0 ∧ u' = (n, F, L, pt, N, lb)) := by
  refine MI_of (by decide) (Nat.le_of_ble_eq_true rfl) ?_
  intro p e s m args below meth c Q S kret ls hl I
  have hx := S.1
  have hb := S.2.1
  have hl : lv_has ls 3 [(0, .ref (g.2.1 0)), (1, .int v), (2, .int w)] := hl
  have hT0 : xT n v = 0 := xT_out hT
  refine lv_aload_n hx hb dX1_after_0 rfl (lv_at hl 0 rfl) ?_
  refine lv_iload_n hx hb dX1_after_1 rfl (lv_at hl 1 rfl) ?_
  refine c1_i (As := [.int v]) (rest := []) S I (mX1_isTask l g n F L pt N lb (by omega) v) (cw1_isTask S.2.2.2.2 (by decide)) rfl hl.1 rfl (Nat.le_of_ble_eq_true rfl) dX1_after_2 (fun r u' H locs hp I => ?_)
  obtain ⟨rfl, rfl⟩ := hp
  refine lv_if_eq (tgt := 33) hx hb dX1_after_5 (by decide) (fun c_5 => ?_) (fun c_5 => absurd hT0 c_5)
  refine lv_iconst (v := 0) hx hb dX1_after_33 (by decide) ?_
  exact kret _ _ _ _ _ _ dX1_after_34 rfl ⟨rfl, rfl⟩ I
set_option maxHeartbeats 4000000 in
set_option maxRecDepth 100000 in
theorem mX1_after_bad2 (l : Launch) (g : Geo) (n : Nat) (F L : Nat → Int32) (pt : Int32) (N lb : Nat → Int32) (hn : n ≤ 9) (k : Nat) (hk : k < n) (v : Int32) (hT : v < 0 ∨ nI n ≤ v) : MI (x1 g) l yX1_after cX1_after 3 .boolean 1 [.ref (g.2.1 0), .int (nI k), .int v] (n, F, L, pt, N, lb) (fun r u' => r = 0 ∧ u' = (n, F, L, pt, N, lb)) := by
  refine MI_of (by decide) (Nat.le_of_ble_eq_true rfl) ?_
  intro p e s m args below meth c Q S kret ls hl I
  have hx := S.1
  have hb := S.2.1
  have hl : lv_has ls 3 [(0, .ref (g.2.1 0)), (1, .int (nI k)), (2, .int v)] := hl
  have hT0 : xT n v = 0 := xT_out hT
  have hT1 : ¬ xT n (nI k) = 0 := xT_in hk hn
  refine lv_aload_n hx hb dX1_after_0 rfl (lv_at hl 0 rfl) ?_
  refine lv_iload_n hx hb dX1_after_1 rfl (lv_at hl 1 rfl) ?_
  refine c1_i (As := [.int (nI k)]) (rest := []) S I (mX1_isTask l g n F L pt N lb (by omega) (nI k)) (cw1_isTask S.2.2.2.2 (by decide)) rfl hl.1 rfl (Nat.le_of_ble_eq_true rfl) dX1_after_2 (fun r u' H locs hp I => ?_)
  obtain ⟨rfl, rfl⟩ := hp
  refine lv_if_eq (tgt := 33) hx hb dX1_after_5 (by decide) (fun c_5 => absurd c_5 hT1) (fun c_5 => ?_)
  refine lv_aload_n hx hb dX1_after_8 rfl (lv_at hl 0 rfl) ?_
  refine lv_iload_n hx hb dX1_after_9 rfl (lv_at hl 2 rfl) ?_
  refine c1_i (As := [.int v]) (rest := []) S I (mX1_isTask l g n F L pt N lb (by omega) v) (cw1_isTask S.2.2.2.2 (by decide)) rfl hl.1 rfl (Nat.le_of_ble_eq_true rfl) dX1_after_10 (fun r u' H locs hp I => ?_)
  obtain ⟨rfl, rfl⟩ := hp
  refine lv_if_eq (tgt := 33) hx hb dX1_after_13 (by decide) (fun c_13 => ?_) (fun c_13 => absurd hT0 c_13)
  refine lv_iconst (v := 0) hx hb dX1_after_33 (by decide) ?_
  exact kret _ _ _ _ _ _ dX1_after_34 rfl ⟨rfl, rfl⟩ I
set_option maxHeartbeats 4000000 in
set_option maxRecDepth 100000 in
theorem mX1_after (l : Launch) (g : Geo) (n : Nat) (F L : Nat → Int32) (pt : Int32) (N lb : Nat → Int32) (hn : n ≤ 9) (k : Nat) (hk : k < n) (j : Nat) (hj : j < n) : MI (x1 g) l yX1_after cX1_after 3 .boolean 1 [.ref (g.2.1 0), .int (nI k), .int (nI j)] (n, F, L, pt, N, lb) (fun r u' => r = (if tb (L k) (nI j) = 0 then 0 else 1) ∧ u' = (n, F, L, pt, N, lb)) := by
  refine MI_of (by decide) (Nat.le_of_ble_eq_true rfl) ?_
  intro p e s m args below meth c Q S kret ls hl I
  have hx := S.1
  have hb := S.2.1
  have hl : lv_has ls 3 [(0, .ref (g.2.1 0)), (1, .int (nI k)), (2, .int (nI j))] := hl
  have hT1 : ¬ xT n (nI k) = 0 := xT_in hk hn
  have hT2 : ¬ xT n (nI j) = 0 := xT_in hj hn
  refine lv_aload_n hx hb dX1_after_0 rfl (lv_at hl 0 rfl) ?_
  refine lv_iload_n hx hb dX1_after_1 rfl (lv_at hl 1 rfl) ?_
  refine c1_i (As := [.int (nI k)]) (rest := []) S I (mX1_isTask l g n F L pt N lb (by omega) (nI k)) (cw1_isTask S.2.2.2.2 (by decide)) rfl hl.1 rfl (Nat.le_of_ble_eq_true rfl) dX1_after_2 (fun r u' H locs hp I => ?_)
  obtain ⟨rfl, rfl⟩ := hp
  refine lv_if_eq (tgt := 33) hx hb dX1_after_5 (by decide) (fun c_5 => absurd c_5 hT1) (fun c_5 => ?_)
  refine lv_aload_n hx hb dX1_after_8 rfl (lv_at hl 0 rfl) ?_
  refine lv_iload_n hx hb dX1_after_9 rfl (lv_at hl 2 rfl) ?_
  refine c1_i (As := [.int (nI j)]) (rest := []) S I (mX1_isTask l g n F L pt N lb (by omega) (nI j)) (cw1_isTask S.2.2.2.2 (by decide)) rfl hl.1 rfl (Nat.le_of_ble_eq_true rfl) dX1_after_10 (fun r u' H locs hp I => ?_)
  obtain ⟨rfl, rfl⟩ := hp
  refine lv_if_eq (tgt := 33) hx hb dX1_after_13 (by decide) (fun c_13 => absurd c_13 hT2) (fun c_13 => ?_)
  refine lv_aload_n hx hb dX1_after_16 rfl (lv_at hl 0 rfl) ?_
  refine g1_L S I dX1_after_17 ?_
  refine lv_iload_n hx hb dX1_after_20 rfl (lv_at hl 1 rfl) ?_
  refine a1_ldL S I (k := k) (by omega) dX1_after_21 ?_
  refine lv_iload_n hx hb dX1_after_22 rfl (lv_at hl 2 rfl) ?_
  refine lv_ishr hx hb dX1_after_23 ?_
  refine lv_iconst (v := 1) hx hb dX1_after_24 (by decide) ?_
  refine lv_iand hx hb dX1_after_25 ?_
  refine lv_if_eq (tgt := 33) hx hb dX1_after_26 (by decide) (fun c_26 => ?_) (fun c_26 => ?_)
  · refine lv_iconst (v := 0) hx hb dX1_after_33 (by decide) ?_
    exact kret _ _ _ _ _ _ dX1_after_34 rfl ⟨by rw [if_pos c_26], rfl⟩ I
  · refine lv_iconst (v := 1) hx hb dX1_after_29 (by decide) ?_
    refine lv_goto (tgt := 34) hx hb dX1_after_30 (by decide) ?_
    exact kret _ _ _ _ _ _ dX1_after_34 rfl ⟨by rw [if_neg c_26], rfl⟩ I
set_option maxHeartbeats 4000000 in
set_option maxRecDepth 100000 in
theorem mX1_height_bad (l : Launch) (g : Geo) (n : Nat) (F L : Nat → Int32) (pt : Int32) (N lb : Nat → Int32) (hn : n ≤ 9) (v : Int32) (hT : v < 0 ∨ nI n ≤ v) : MI (x1 g) l yX1_height cX1_height 2 .int 1 [.ref (g.2.1 0), .int v] (n, F, L, pt, N, lb) (fun r u' => r = -1 ∧ u' = (n, F, L, pt, N, lb)) := by
  refine MI_of (by decide) (Nat.le_of_ble_eq_true rfl) ?_
  intro p e s m args below meth c Q S kret ls hl I
  have hx := S.1
  have hb := S.2.1
  have hl : lv_has ls 2 [(0, .ref (g.2.1 0)), (1, .int v)] := hl
  have hT0 : xT n v = 0 := xT_out hT
  refine lv_aload_n hx hb dX1_height_0 rfl (lv_at hl 0 rfl) ?_
  refine lv_iload_n hx hb dX1_height_1 rfl (lv_at hl 1 rfl) ?_
  refine c1_i (As := [.int v]) (rest := []) S I (mX1_isTask l g n F L pt N lb (by omega) v) (cw1_isTask S.2.2.2.2 (by decide)) rfl hl.1 rfl (Nat.le_of_ble_eq_true rfl) dX1_height_2 (fun r u' H locs hp I => ?_)
  obtain ⟨rfl, rfl⟩ := hp
  refine lv_if_ne (tgt := 10) hx hb dX1_height_5 (by decide) (fun c_5 => absurd hT0 c_5) (fun c_5 => ?_)
  refine lv_iconst (v := (-1)) hx hb dX1_height_8 (by decide) ?_
  exact kret _ _ _ _ _ _ dX1_height_9 rfl ⟨rfl, rfl⟩ I
set_option maxHeartbeats 4000000 in
set_option maxRecDepth 100000 in
theorem mX1_height (l : Launch) (g : Geo) (n : Nat) (F L : Nat → Int32) (pt : Int32) (N lb : Nat → Int32) (hn : n ≤ 9) (k : Nat) (hk : k < n) : MI (x1 g) l yX1_height cX1_height 2 .int 1 [.ref (g.2.1 0), .int (nI k)] (n, F, L, pt, N, lb) (fun r u' => r = xHt n L k ∧ u' = (n, F, L, pt, N, lb)) := by
  refine MI_of (by decide) (Nat.le_of_ble_eq_true rfl) ?_
  intro p e s m args below meth c Q S kret ls hl I
  have hx := S.1
  have hb := S.2.1
  have hl : lv_has ls 2 [(0, .ref (g.2.1 0)), (1, .int (nI k))] := hl
  have hT1 : ¬ xT n (nI k) = 0 := xT_in hk hn
  refine lv_aload_n hx hb dX1_height_0 rfl (lv_at hl 0 rfl) ?_
  refine lv_iload_n hx hb dX1_height_1 rfl (lv_at hl 1 rfl) ?_
  refine c1_i (As := [.int (nI k)]) (rest := []) S I (mX1_isTask l g n F L pt N lb (by omega) (nI k)) (cw1_isTask S.2.2.2.2 (by decide)) rfl hl.1 rfl (Nat.le_of_ble_eq_true rfl) dX1_height_2 (fun r u' H locs hp I => ?_)
  obtain ⟨rfl, rfl⟩ := hp
  refine lv_if_ne (tgt := 10) hx hb dX1_height_5 (by decide) (fun c_5 => ?_) (fun c_5 => absurd c_5 hT1)
  refine lv_aload_n hx hb dX1_height_10 rfl (lv_at hl 0 rfl) ?_
  refine lv_iload_n hx hb dX1_height_11 rfl (lv_at hl 1 rfl) ?_
  refine c1_i (As := [.int (nI k)]) (rest := []) S I (mX1_heightOf l g n F L pt N lb (by omega) k (by omega)) (cw1_heightOf S.2.2.2.2 (by decide)) rfl hl.1 rfl (Nat.le_of_ble_eq_true rfl) dX1_height_12 (fun r u' H locs hp I => ?_)
  obtain ⟨rfl, rfl⟩ := hp
  exact kret _ _ _ _ _ _ dX1_height_15 rfl ⟨rfl, rfl⟩ I
set_option maxHeartbeats 4000000 in
set_option maxRecDepth 100000 in
theorem mX1_superfluous (l : Launch) (g : Geo) (n : Nat) (F L : Nat → Int32) (pt : Int32) (N lb : Nat → Int32) (hn : n ≤ 9) : MI (x1 g) l yX1_superfluous cX1_superfluous 4 .int 1 [.ref (g.2.1 0)] (n, F, L, pt, N, lb) (fun r u' => r = suI n F L n ∧ u' = (n, F, L, pt, N, lb)) := by
  refine MI_of (by decide) (Nat.le_of_ble_eq_true rfl) ?_
  intro p e s m args below meth c Q S kret ls hl I
  have hx := S.1
  have hb := S.2.1
  have hl : lv_has ls 4 [(0, .ref (g.2.1 0))] := hl
  refine lv_iconst (v := 0) hx hb dX1_superfluous_0 (by decide) ?_
  refine lv_istore_n (lv' := [(1, .int 0), (0, .ref (g.2.1 0))]) hx hb dX1_superfluous_1 rfl hl (by decide) rfl (fun ls hl => ?_)
  refine lv_iconst (v := nI 0) hx hb dX1_superfluous_2 (by decide) ?_
  refine lv_istore_n (lv' := [(2, .int (nI 0)), (1, .int 0), (0, .ref (g.2.1 0))]) hx hb dX1_superfluous_3 rfl hl (by decide) rfl (fun ls hl => ?_)
  have lp4 : ∀ (k4 i4 : Nat), i4 + k4 = n → ∀ (H : Heap) (locs : List Loc), XI (x1 g) s (n, F, L, pt, N, lb) H locs → ∀ ls : Array Slot, lv_has ls 4 [(0, .ref (g.2.1 0)), (1, .int (suI n F L i4)), (2, .int (nI i4))] → W p l e (rmd 1) s m args below meth c H locs 0 0 Q (F0 m 4 ls []) := by
    intro k4
    induction k4 with
    | zero =>
      intro i4  e4  H locs I ls hl
      have e4 : i4 = n := by omega
      rw [e4] at hl
      refine lv_iload_n hx hb dX1_superfluous_4 rfl (lv_at hl 2 rfl) ?_
      refine lv_aload_n hx hb dX1_superfluous_5 rfl (lv_at hl 0 rfl) ?_
      refine g1_n S I dX1_superfluous_6 ?_
      refine lv_icmp_ge (tgt := 47) hx hb dX1_superfluous_9 (by decide) (fun c_9 => ?_) (fun c_9 => absurd (nI_le (by omega) (by omega)) c_9)
      refine lv_iload_n hx hb dX1_superfluous_47 rfl (lv_at hl 1 rfl) ?_
      exact kret _ _ _ _ _ _ dX1_superfluous_48 rfl ⟨rfl, rfl⟩ I
    | succ k4 ih4 =>
      intro i4  e4  H locs I ls hl
      refine lv_iload_n hx hb dX1_superfluous_4 rfl (lv_at hl 2 rfl) ?_
      refine lv_aload_n hx hb dX1_superfluous_5 rfl (lv_at hl 0 rfl) ?_
      refine g1_n S I dX1_superfluous_6 ?_
      refine lv_icmp_ge (tgt := 47) hx hb dX1_superfluous_9 (by decide) (fun c_9 => absurd c_9 (nI_ge (by omega) (by omega))) (fun c_9 => ?_)
      refine lv_aload_n hx hb dX1_superfluous_12 rfl (lv_at hl 0 rfl) ?_
      refine lv_iload_n hx hb dX1_superfluous_13 rfl (lv_at hl 2 rfl) ?_
      refine lv_aload_n hx hb dX1_superfluous_14 rfl (lv_at hl 0 rfl) ?_
      refine g1_L S I dX1_superfluous_15 ?_
      refine lv_iload_n hx hb dX1_superfluous_18 rfl (lv_at hl 2 rfl) ?_
      refine a1_ldL S I (k := i4) (by omega) dX1_superfluous_19 ?_
      refine c1_i (As := [.int (nI i4), .int (L i4)]) (rest := []) S I (mX1_immediate l g n F L pt N lb (by omega) (nI i4) (L i4)) (cw1_immediate S.2.2.2.2 (by decide)) rfl hl.1 rfl (Nat.le_of_ble_eq_true rfl) dX1_superfluous_20 (fun r u' H locs hp I => ?_)
      obtain ⟨rfl, rfl⟩ := hp
      refine lv_istore_n (lv' := [(3, .int (xImm n L (L i4))), (0, .ref (g.2.1 0)), (1, .int (suI n F L i4)), (2, .int (nI i4))]) hx hb dX1_superfluous_23 rfl hl (by decide) rfl (fun ls hl => ?_)
      refine lv_iload_n hx hb dX1_superfluous_24 rfl (lv_at hl 2 rfl) ?_
      refine lv_aload_n hx hb dX1_superfluous_25 rfl (lv_at hl 1 rfl) ?_
      refine lv_aload_n hx hb dX1_superfluous_26 rfl (lv_at hl 1 rfl) ?_
      refine g1_F S I dX1_superfluous_27 ?_
      refine lv_iload_n hx hb dX1_superfluous_30 rfl (lv_at hl 3 rfl) ?_
      refine a1_ldF S I (k := i4) (by omega) dX1_superfluous_31 ?_
      refine lv_iload_n hx hb dX1_superfluous_32 rfl (lv_at hl 0 rfl) ?_
      refine lv_iconst (v := (-1)) hx hb dX1_superfluous_33 (by decide) ?_
      refine lv_ixor hx hb dX1_superfluous_34 ?_
      refine lv_iand hx hb dX1_superfluous_35 ?_
      refine c1_i (As := [.int ((F i4) &&& ((xImm n L (L i4)) ^^^ (-1)))]) (rest := [.int (suI n F L i4)]) S I (mX1_bitsIn l g n F L pt N lb (by omega) ((F i4) &&& ((xImm n L (L i4)) ^^^ (-1)))) (cw1_bitsIn S.2.2.2.2 (by decide)) rfl hl.1 rfl (Nat.le_of_ble_eq_true rfl) dX1_superfluous_36 (fun r u' H locs hp I => ?_)
      obtain ⟨rfl, rfl⟩ := hp
      refine lv_iadd hx hb dX1_superfluous_39 ?_
      refine lv_istore_n (lv' := [(1, .int ((suI n F L i4) + (xBits ((F i4) &&& ((xImm n L (L i4)) ^^^ (-1)))))), (3, .int (xImm n L (L i4))), (0, .ref (g.2.1 0)), (2, .int (nI i4))]) hx hb dX1_superfluous_40 rfl hl (by decide) rfl (fun ls hl => ?_)
      refine lv_iinc (v := nI (i4 + 1)) (lv' := [(2, .int (nI (i4 + 1))), (1, .int ((suI n F L i4) + (xBits ((F i4) &&& ((xImm n L (L i4)) ^^^ (-1)))))), (3, .int (xImm n L (L i4))), (0, .ref (g.2.1 0))]) hx hb dX1_superfluous_41 hl (k := 3) rfl (nI_inc _) (by decide) rfl (fun ls hl => ?_)
      refine lv_goto (tgt := 4) hx hb dX1_superfluous_44 (by decide) ?_
      have e_1 : suI n F L (i4 + 1) = (suI n F L i4) + (xBits ((F i4) &&& ((xImm n L (L i4)) ^^^ (-1)))) := by simp only [suI, if_neg c_9]
      exact ih4 (i4 + 1)  (by omega)  _ _ (by first | (rw [e_1]; exact I) | exact I | (simp only [e_1]; exact I)) _ (by first | (rw [e_1]; exact lv_sub hl [3, 1, 0] rfl) | exact lv_sub hl [3, 1, 0] rfl | (simp only [e_1]; exact lv_sub hl [3, 1, 0] rfl))
  exact lp4 n 0  (by omega)  _ _ I _ (lv_sub hl [2, 1, 0] rfl)
set_option maxHeartbeats 4000000 in
set_option maxRecDepth 100000 in
theorem mX1_inTrees (l : Launch) (g : Geo) (n : Nat) (F L : Nat → Int32) (pt : Int32) (N lb : Nat → Int32) (hn : n ≤ 9) : MI (x1 g) l yX1_inTrees cX1_inTrees 3 .boolean 1 [.ref (g.2.1 0)] (n, F, L, pt, N, lb) (fun r u' => r = xIT n L ∧ u' = (n, F, L, pt, N, lb)) := by
  refine MI_of (by decide) (Nat.le_of_ble_eq_true rfl) ?_
  intro p e s m args below meth c Q S kret ls hl I
  have hx := S.1
  have hb := S.2.1
  have hl : lv_has ls 3 [(0, .ref (g.2.1 0))] := hl
  refine lv_iconst (v := nI 0) hx hb dX1_inTrees_0 (by decide) ?_
  refine lv_istore_n (lv' := [(1, .int (nI 0)), (0, .ref (g.2.1 0))]) hx hb dX1_inTrees_1 rfl hl (by decide) rfl (fun ls hl => ?_)
  have lp2 : ∀ (k2 i2 : Nat), i2 + k2 = n → (∀ j, j < i2 → xImm n L (L j) &&& (xImm n L (L j) - 1) = 0) → ∀ (H : Heap) (locs : List Loc), XI (x1 g) s (n, F, L, pt, N, lb) H locs → ∀ ls : Array Slot, lv_has ls 3 [(0, .ref (g.2.1 0)), (1, .int (nI i2))] → W p l e (rmd 1) s m args below meth c H locs 0 0 Q (F0 m 2 ls []) := by
    intro k2
    induction k2 with
    | zero =>
      intro i2  e2 hq H locs I ls hl
      have e2 : i2 = n := by omega
      rw [e2] at hl hq
      refine lv_iload_n hx hb dX1_inTrees_2 rfl (lv_at hl 1 rfl) ?_
      refine lv_aload_n hx hb dX1_inTrees_3 rfl (lv_at hl 0 rfl) ?_
      refine g1_n S I dX1_inTrees_4 ?_
      refine lv_icmp_ge (tgt := 38) hx hb dX1_inTrees_7 (by decide) (fun c_7 => ?_) (fun c_7 => absurd (nI_le (by omega) (by omega)) c_7)
      refine lv_iconst (v := 1) hx hb dX1_inTrees_38 (by decide) ?_
      exact kret _ _ _ _ _ _ dX1_inTrees_39 rfl ⟨by unfold xIT; rw [if_pos hq], rfl⟩ I
    | succ k2 ih2 =>
      intro i2  e2 hq H locs I ls hl
      refine lv_iload_n hx hb dX1_inTrees_2 rfl (lv_at hl 1 rfl) ?_
      refine lv_aload_n hx hb dX1_inTrees_3 rfl (lv_at hl 0 rfl) ?_
      refine g1_n S I dX1_inTrees_4 ?_
      refine lv_icmp_ge (tgt := 38) hx hb dX1_inTrees_7 (by decide) (fun c_7 => absurd c_7 (nI_ge (by omega) (by omega))) (fun c_7 => ?_)
      refine lv_aload_n hx hb dX1_inTrees_10 rfl (lv_at hl 0 rfl) ?_
      refine lv_iload_n hx hb dX1_inTrees_11 rfl (lv_at hl 1 rfl) ?_
      refine lv_aload_n hx hb dX1_inTrees_12 rfl (lv_at hl 0 rfl) ?_
      refine g1_L S I dX1_inTrees_13 ?_
      refine lv_iload_n hx hb dX1_inTrees_16 rfl (lv_at hl 1 rfl) ?_
      refine a1_ldL S I (k := i2) (by omega) dX1_inTrees_17 ?_
      refine c1_i (As := [.int (nI i2), .int (L i2)]) (rest := []) S I (mX1_immediate l g n F L pt N lb (by omega) (nI i2) (L i2)) (cw1_immediate S.2.2.2.2 (by decide)) rfl hl.1 rfl (Nat.le_of_ble_eq_true rfl) dX1_inTrees_18 (fun r u' H locs hp I => ?_)
      obtain ⟨rfl, rfl⟩ := hp
      refine lv_istore_n (lv' := [(2, .int (xImm n L (L i2))), (0, .ref (g.2.1 0)), (1, .int (nI i2))]) hx hb dX1_inTrees_21 rfl hl (by decide) rfl (fun ls hl => ?_)
      refine lv_iload_n hx hb dX1_inTrees_22 rfl (lv_at hl 0 rfl) ?_
      refine lv_iload_n hx hb dX1_inTrees_23 rfl (lv_at hl 0 rfl) ?_
      refine lv_iconst (v := 1) hx hb dX1_inTrees_24 (by decide) ?_
      refine lv_isub hx hb dX1_inTrees_25 ?_
      refine lv_iand hx hb dX1_inTrees_26 ?_
      refine lv_if_eq (tgt := 32) hx hb dX1_inTrees_27 (by decide) (fun c_27 => ?_) (fun c_27 => ?_)
      · refine lv_iinc (v := nI (i2 + 1)) (lv' := [(1, .int (nI (i2 + 1))), (2, .int (xImm n L (L i2))), (0, .ref (g.2.1 0))]) hx hb dX1_inTrees_32 hl (k := 2) rfl (nI_inc _) (by decide) rfl (fun ls hl => ?_)
        refine lv_goto (tgt := 2) hx hb dX1_inTrees_35 (by decide) ?_
        exact ih2 (i2 + 1)  (by omega) (lt_s hq c_27) _ _ I _ (lv_sub hl [2, 0] rfl)
      · refine lv_iconst (v := 0) hx hb dX1_inTrees_30 (by decide) ?_
        exact kret _ _ _ _ _ _ dX1_inTrees_31 rfl ⟨by unfold xIT; rw [if_neg (fun h => c_27 (h _ (by omega)))], rfl⟩ I
  exact lp2 n 0  (by omega) lt_0 _ _ I _ (lv_sub hl [1, 0] rfl)
end
section
set_option maxHeartbeats 4000000 in
set_option maxRecDepth 100000 in
theorem mX1_shortest_low (l : Launch) (g : Geo) (n : Nat) (F L : Nat → Int32) (pt : Int32) (N lb : Nat → Int32) (hn : n ≤ 9) (v : Int32) (hv : v < 1) : MI (x1 g) l yX1_shortest cX1_shortest 2 .int 3 [.ref (g.2.1 0), .int v] (n, F, L, pt, N, lb) (fun r u' => r = -1 ∧ u' = (n, F, L, pt, N, lb)) := by
  refine MI_of (by decide) (Nat.le_of_ble_eq_true rfl) ?_
  intro p e s m args below meth c Q S kret ls hl I
  have hx := S.1
  have hb := S.2.1
  have hl : lv_has ls 2 [(0, .ref (g.2.1 0)), (1, .int v)] := hl
  refine lv_iload_n hx hb dX1_shortest_0 rfl (lv_at hl 1 rfl) ?_
  refine lv_iconst (v := 1) hx hb dX1_shortest_1 (by decide) ?_
  refine lv_icmp_lt (tgt := 11) hx hb dX1_shortest_2 (by decide) (fun c_2 => ?_) (fun c_2 => absurd hv c_2)
  refine lv_iconst (v := (-1)) hx hb dX1_shortest_11 (by decide) ?_
  exact kret _ _ _ _ _ _ dX1_shortest_12 rfl ⟨rfl, rfl⟩ I
set_option maxHeartbeats 4000000 in
set_option maxRecDepth 100000 in
theorem mX1_shortest_high (l : Launch) (g : Geo) (n : Nat) (F L : Nat → Int32) (pt : Int32) (N lb : Nat → Int32) (hn : n ≤ 9) (v : Int32) (hv : ¬ v < 1) (hv9 : ¬ v ≤ 9) : MI (x1 g) l yX1_shortest cX1_shortest 2 .int 3 [.ref (g.2.1 0), .int v] (n, F, L, pt, N, lb) (fun r u' => r = -1 ∧ u' = (n, F, L, pt, N, lb)) := by
  refine MI_of (by decide) (Nat.le_of_ble_eq_true rfl) ?_
  intro p e s m args below meth c Q S kret ls hl I
  have hx := S.1
  have hb := S.2.1
  have hl : lv_has ls 2 [(0, .ref (g.2.1 0)), (1, .int v)] := hl
  refine lv_iload_n hx hb dX1_shortest_0 rfl (lv_at hl 1 rfl) ?_
  refine lv_iconst (v := 1) hx hb dX1_shortest_1 (by decide) ?_
  refine lv_icmp_lt (tgt := 11) hx hb dX1_shortest_2 (by decide) (fun c_2 => absurd c_2 hv) (fun c_2 => ?_)
  refine lv_iload_n hx hb dX1_shortest_5 rfl (lv_at hl 1 rfl) ?_
  refine lv_bipush (v := 9) hx hb dX1_shortest_6 (by decide) ?_
  refine lv_icmp_le (tgt := 13) hx hb dX1_shortest_8 (by decide) (fun c_8 => absurd c_8 hv9) (fun c_8 => ?_)
  refine lv_iconst (v := (-1)) hx hb dX1_shortest_11 (by decide) ?_
  exact kret _ _ _ _ _ _ dX1_shortest_12 rfl ⟨rfl, rfl⟩ I
set_option maxHeartbeats 4000000 in
set_option maxRecDepth 100000 in
theorem mX1_shortest_1 (l : Launch) (g : Geo) (n : Nat) (F L : Nat → Int32) (pt : Int32) (N lb : Nat → Int32) (hn : n ≤ 9) (mm : Nat) (hm1 : 1 ≤ mm) (hm : mm ≤ 9) (e1 : mm = 1) : MI (x1 g) l yX1_shortest cX1_shortest 2 .int 3 [.ref (g.2.1 0), .int (nI mm)] (n, F, L, pt, N, lb) (fun r u' => r = nI n ∧ u' = (n, F, L, xAll n, N, lb)) := by
  refine MI_of (by decide) (Nat.le_of_ble_eq_true rfl) ?_
  intro p e s m args below meth c Q S kret ls hl I
  have hx := S.1
  have hb := S.2.1
  have hl : lv_has ls 2 [(0, .ref (g.2.1 0)), (1, .int (nI mm))] := hl
  refine lv_iload_n hx hb dX1_shortest_0 rfl (lv_at hl 1 rfl) ?_
  refine lv_iconst (v := 1) hx hb dX1_shortest_1 (by decide) ?_
  refine lv_icmp_lt (tgt := 11) hx hb dX1_shortest_2 (by decide) (fun c_2 => absurd c_2 (show ¬ nI mm < 1 from nI_nlt (a := mm) (b := 1) (by omega) (by omega))) (fun c_2 => ?_)
  refine lv_iload_n hx hb dX1_shortest_5 rfl (lv_at hl 1 rfl) ?_
  refine lv_bipush (v := nI 9) hx hb dX1_shortest_6 (by decide) ?_
  refine lv_icmp_le (tgt := 13) hx hb dX1_shortest_8 (by decide) (fun c_8 => ?_) (fun c_8 => absurd (show nI mm ≤ nI 9 from nI_le (by omega) (by decide)) c_8)
  refine lv_aload_n hx hb dX1_shortest_13 rfl (lv_at hl 0 rfl) ?_
  refine lv_iconst (v := 1) hx hb dX1_shortest_14 (by decide) ?_
  refine lv_aload_n hx hb dX1_shortest_15 rfl (lv_at hl 0 rfl) ?_
  refine g1_n S I dX1_shortest_16 ?_
  refine lv_ishl hx hb dX1_shortest_19 ?_
  refine lv_iconst (v := 1) hx hb dX1_shortest_20 (by decide) ?_
  refine lv_isub hx hb dX1_shortest_21 ?_
  refine p1_pt S I dX1_shortest_22 (fun H locs I => ?_)
  refine lv_iload_n hx hb dX1_shortest_25 rfl (lv_at hl 1 rfl) ?_
  refine lv_iconst (v := nI 1) hx hb dX1_shortest_26 (by decide) ?_
  refine lv_icmp_ne (tgt := 35) hx hb dX1_shortest_27 (by decide) (fun c_27 => absurd ((nI_eq (a := mm) (b := 1) (by omega) (by decide)).mpr (by omega)) c_27) (fun c_27 => ?_)
  refine lv_aload_n hx hb dX1_shortest_30 rfl (lv_at hl 0 rfl) ?_
  refine g1_n S I dX1_shortest_31 ?_
  exact kret _ _ _ _ _ _ dX1_shortest_34 rfl ⟨rfl, rfl⟩ I
set_option maxHeartbeats 4000000 in
set_option maxRecDepth 100000 in
theorem mX1_shortest_2 (l : Launch) (g : Geo) (n : Nat) (F L : Nat → Int32) (pt : Int32) (N lb : Nat → Int32) (hn : n ≤ 9) (mm : Nat) (hm1 : 1 ≤ mm) (hm : mm ≤ 9) (e1 : mm = 2) : MI (x1 g) l yX1_shortest cX1_shortest 2 .int 3 [.ref (g.2.1 0), .int (nI mm)] (n, F, L, pt, N, lb) (fun r u' => r = xLen n L (xLbl n L (xAll n) N lb) (xAll n) mm ∧ u' = (n, F, L, xAll n, llN n L (xAll n) N n, xLbl n L (xAll n) N lb)) := by
  refine MI_of (by decide) (Nat.le_of_ble_eq_true rfl) ?_
  intro p e s m args below meth c Q S kret ls hl I
  have hx := S.1
  have hb := S.2.1
  have hl : lv_has ls 2 [(0, .ref (g.2.1 0)), (1, .int (nI mm))] := hl
  refine lv_iload_n hx hb dX1_shortest_0 rfl (lv_at hl 1 rfl) ?_
  refine lv_iconst (v := 1) hx hb dX1_shortest_1 (by decide) ?_
  refine lv_icmp_lt (tgt := 11) hx hb dX1_shortest_2 (by decide) (fun c_2 => absurd c_2 (show ¬ nI mm < 1 from nI_nlt (a := mm) (b := 1) (by omega) (by omega))) (fun c_2 => ?_)
  refine lv_iload_n hx hb dX1_shortest_5 rfl (lv_at hl 1 rfl) ?_
  refine lv_bipush (v := nI 9) hx hb dX1_shortest_6 (by decide) ?_
  refine lv_icmp_le (tgt := 13) hx hb dX1_shortest_8 (by decide) (fun c_8 => ?_) (fun c_8 => absurd (show nI mm ≤ nI 9 from nI_le (by omega) (by decide)) c_8)
  refine lv_aload_n hx hb dX1_shortest_13 rfl (lv_at hl 0 rfl) ?_
  refine lv_iconst (v := 1) hx hb dX1_shortest_14 (by decide) ?_
  refine lv_aload_n hx hb dX1_shortest_15 rfl (lv_at hl 0 rfl) ?_
  refine g1_n S I dX1_shortest_16 ?_
  refine lv_ishl hx hb dX1_shortest_19 ?_
  refine lv_iconst (v := 1) hx hb dX1_shortest_20 (by decide) ?_
  refine lv_isub hx hb dX1_shortest_21 ?_
  refine p1_pt S I dX1_shortest_22 (fun H locs I => ?_)
  refine lv_iload_n hx hb dX1_shortest_25 rfl (lv_at hl 1 rfl) ?_
  refine lv_iconst (v := nI 1) hx hb dX1_shortest_26 (by decide) ?_
  refine lv_icmp_ne (tgt := 35) hx hb dX1_shortest_27 (by decide) (fun c_27 => ?_) (fun c_27 => absurd c_27 (fun q => absurd ((nI_eq (a := mm) (b := 1) (by omega) (by decide)).mp q) (by omega)))
  refine lv_iload_n hx hb dX1_shortest_35 rfl (lv_at hl 1 rfl) ?_
  refine lv_iconst (v := nI 2) hx hb dX1_shortest_36 (by decide) ?_
  refine lv_icmp_ne (tgt := 47) hx hb dX1_shortest_37 (by decide) (fun c_37 => absurd ((nI_eq (a := mm) (b := 2) (by omega) (by decide)).mpr (by omega)) c_37) (fun c_37 => ?_)
  refine lv_aload_n hx hb dX1_shortest_40 rfl (lv_at hl 0 rfl) ?_
  refine c1_v (As := []) (rest := []) S I (mX1_labelByLists l g n F L (((1 : Int32) <<< ((nI n) &&& 31)) - 1) N lb (by omega) ) (cw1_labelByLists S.2.2.2.2 (by decide)) rfl hl.1 rfl (Nat.le_of_ble_eq_true rfl) dX1_shortest_41 (fun u' H locs hp I => ?_)
  subst hp
  refine lv_goto (tgt := 61) hx hb dX1_shortest_44 (by decide) ?_
  refine lv_aload_n hx hb dX1_shortest_61 rfl (lv_at hl 0 rfl) ?_
  refine lv_iload_n hx hb dX1_shortest_62 rfl (lv_at hl 1 rfl) ?_
  refine c1_i (As := [.int (nI mm)]) (rest := []) S I (mX1_lengthOnList l g n F L (((1 : Int32) <<< ((nI n) &&& 31)) - 1) (llN n L (((1 : Int32) <<< ((nI n) &&& 31)) - 1) N n) (xLbl n L (((1 : Int32) <<< ((nI n) &&& 31)) - 1) N lb) (by omega) mm (by omega)) (cw1_lengthOnList S.2.2.2.2 (by decide)) rfl hl.1 rfl (Nat.le_of_ble_eq_true rfl) dX1_shortest_63 (fun r u' H locs hp I => ?_)
  obtain ⟨rfl, rfl⟩ := hp
  exact kret _ _ _ _ _ _ dX1_shortest_66 rfl ⟨rfl, rfl⟩ I
set_option maxHeartbeats 4000000 in
set_option maxRecDepth 100000 in
theorem mX1_shortest_none (l : Launch) (g : Geo) (n : Nat) (F L : Nat → Int32) (pt : Int32) (N lb : Nat → Int32) (hn : n ≤ 9) (mm : Nat) (hm1 : 1 ≤ mm) (hm : mm ≤ 9) (e1 : 3 ≤ mm) (ht : xIT n L = 0) : MI (x1 g) l yX1_shortest cX1_shortest 2 .int 3 [.ref (g.2.1 0), .int (nI mm)] (n, F, L, pt, N, lb) (fun r u' => r = -2 ∧ u' = (n, F, L, xAll n, N, lb)) := by
  refine MI_of (by decide) (Nat.le_of_ble_eq_true rfl) ?_
  intro p e s m args below meth c Q S kret ls hl I
  have hx := S.1
  have hb := S.2.1
  have hl : lv_has ls 2 [(0, .ref (g.2.1 0)), (1, .int (nI mm))] := hl
  refine lv_iload_n hx hb dX1_shortest_0 rfl (lv_at hl 1 rfl) ?_
  refine lv_iconst (v := 1) hx hb dX1_shortest_1 (by decide) ?_
  refine lv_icmp_lt (tgt := 11) hx hb dX1_shortest_2 (by decide) (fun c_2 => absurd c_2 (show ¬ nI mm < 1 from nI_nlt (a := mm) (b := 1) (by omega) (by omega))) (fun c_2 => ?_)
  refine lv_iload_n hx hb dX1_shortest_5 rfl (lv_at hl 1 rfl) ?_
  refine lv_bipush (v := nI 9) hx hb dX1_shortest_6 (by decide) ?_
  refine lv_icmp_le (tgt := 13) hx hb dX1_shortest_8 (by decide) (fun c_8 => ?_) (fun c_8 => absurd (show nI mm ≤ nI 9 from nI_le (by omega) (by decide)) c_8)
  refine lv_aload_n hx hb dX1_shortest_13 rfl (lv_at hl 0 rfl) ?_
  refine lv_iconst (v := 1) hx hb dX1_shortest_14 (by decide) ?_
  refine lv_aload_n hx hb dX1_shortest_15 rfl (lv_at hl 0 rfl) ?_
  refine g1_n S I dX1_shortest_16 ?_
  refine lv_ishl hx hb dX1_shortest_19 ?_
  refine lv_iconst (v := 1) hx hb dX1_shortest_20 (by decide) ?_
  refine lv_isub hx hb dX1_shortest_21 ?_
  refine p1_pt S I dX1_shortest_22 (fun H locs I => ?_)
  refine lv_iload_n hx hb dX1_shortest_25 rfl (lv_at hl 1 rfl) ?_
  refine lv_iconst (v := nI 1) hx hb dX1_shortest_26 (by decide) ?_
  refine lv_icmp_ne (tgt := 35) hx hb dX1_shortest_27 (by decide) (fun c_27 => ?_) (fun c_27 => absurd c_27 (fun q => absurd ((nI_eq (a := mm) (b := 1) (by omega) (by decide)).mp q) (by omega)))
  refine lv_iload_n hx hb dX1_shortest_35 rfl (lv_at hl 1 rfl) ?_
  refine lv_iconst (v := nI 2) hx hb dX1_shortest_36 (by decide) ?_
  refine lv_icmp_ne (tgt := 47) hx hb dX1_shortest_37 (by decide) (fun c_37 => ?_) (fun c_37 => absurd c_37 (fun q => absurd ((nI_eq (a := mm) (b := 2) (by omega) (by decide)).mp q) (by omega)))
  refine lv_aload_n hx hb dX1_shortest_47 rfl (lv_at hl 0 rfl) ?_
  refine c1_i (As := []) (rest := []) S I (mX1_inTrees l g n F L (((1 : Int32) <<< ((nI n) &&& 31)) - 1) N lb (by omega) ) (cw1_inTrees S.2.2.2.2 (by decide)) rfl hl.1 rfl (Nat.le_of_ble_eq_true rfl) dX1_shortest_48 (fun r u' H locs hp I => ?_)
  obtain ⟨rfl, rfl⟩ := hp
  refine lv_if_ne (tgt := 57) hx hb dX1_shortest_51 (by decide) (fun c_51 => absurd ht c_51) (fun c_51 => ?_)
  refine lv_bipush (v := (-2)) hx hb dX1_shortest_54 (by decide) ?_
  exact kret _ _ _ _ _ _ dX1_shortest_56 rfl ⟨rfl, rfl⟩ I
set_option maxHeartbeats 4000000 in
set_option maxRecDepth 100000 in
theorem mX1_shortest_3 (l : Launch) (g : Geo) (n : Nat) (F L : Nat → Int32) (pt : Int32) (N lb : Nat → Int32) (hn : n ≤ 9) (mm : Nat) (hm1 : 1 ≤ mm) (hm : mm ≤ 9) (e1 : 3 ≤ mm) (ht : ¬ xIT n L = 0) : MI (x1 g) l yX1_shortest cX1_shortest 2 .int 3 [.ref (g.2.1 0), .int (nI mm)] (n, F, L, pt, N, lb) (fun r u' => r = xLen n L (lhB n L lb n) (xAll n) mm ∧ u' = (n, F, L, xAll n, N, lhB n L lb n)) := by
  refine MI_of (by decide) (Nat.le_of_ble_eq_true rfl) ?_
  intro p e s m args below meth c Q S kret ls hl I
  have hx := S.1
  have hb := S.2.1
  have hl : lv_has ls 2 [(0, .ref (g.2.1 0)), (1, .int (nI mm))] := hl
  refine lv_iload_n hx hb dX1_shortest_0 rfl (lv_at hl 1 rfl) ?_
  refine lv_iconst (v := 1) hx hb dX1_shortest_1 (by decide) ?_
  refine lv_icmp_lt (tgt := 11) hx hb dX1_shortest_2 (by decide) (fun c_2 => absurd c_2 (show ¬ nI mm < 1 from nI_nlt (a := mm) (b := 1) (by omega) (by omega))) (fun c_2 => ?_)
  refine lv_iload_n hx hb dX1_shortest_5 rfl (lv_at hl 1 rfl) ?_
  refine lv_bipush (v := nI 9) hx hb dX1_shortest_6 (by decide) ?_
  refine lv_icmp_le (tgt := 13) hx hb dX1_shortest_8 (by decide) (fun c_8 => ?_) (fun c_8 => absurd (show nI mm ≤ nI 9 from nI_le (by omega) (by decide)) c_8)
  refine lv_aload_n hx hb dX1_shortest_13 rfl (lv_at hl 0 rfl) ?_
  refine lv_iconst (v := 1) hx hb dX1_shortest_14 (by decide) ?_
  refine lv_aload_n hx hb dX1_shortest_15 rfl (lv_at hl 0 rfl) ?_
  refine g1_n S I dX1_shortest_16 ?_
  refine lv_ishl hx hb dX1_shortest_19 ?_
  refine lv_iconst (v := 1) hx hb dX1_shortest_20 (by decide) ?_
  refine lv_isub hx hb dX1_shortest_21 ?_
  refine p1_pt S I dX1_shortest_22 (fun H locs I => ?_)
  refine lv_iload_n hx hb dX1_shortest_25 rfl (lv_at hl 1 rfl) ?_
  refine lv_iconst (v := nI 1) hx hb dX1_shortest_26 (by decide) ?_
  refine lv_icmp_ne (tgt := 35) hx hb dX1_shortest_27 (by decide) (fun c_27 => ?_) (fun c_27 => absurd c_27 (fun q => absurd ((nI_eq (a := mm) (b := 1) (by omega) (by decide)).mp q) (by omega)))
  refine lv_iload_n hx hb dX1_shortest_35 rfl (lv_at hl 1 rfl) ?_
  refine lv_iconst (v := nI 2) hx hb dX1_shortest_36 (by decide) ?_
  refine lv_icmp_ne (tgt := 47) hx hb dX1_shortest_37 (by decide) (fun c_37 => ?_) (fun c_37 => absurd c_37 (fun q => absurd ((nI_eq (a := mm) (b := 2) (by omega) (by decide)).mp q) (by omega)))
  refine lv_aload_n hx hb dX1_shortest_47 rfl (lv_at hl 0 rfl) ?_
  refine c1_i (As := []) (rest := []) S I (mX1_inTrees l g n F L (((1 : Int32) <<< ((nI n) &&& 31)) - 1) N lb (by omega) ) (cw1_inTrees S.2.2.2.2 (by decide)) rfl hl.1 rfl (Nat.le_of_ble_eq_true rfl) dX1_shortest_48 (fun r u' H locs hp I => ?_)
  obtain ⟨rfl, rfl⟩ := hp
  refine lv_if_ne (tgt := 57) hx hb dX1_shortest_51 (by decide) (fun c_51 => ?_) (fun c_51 => absurd c_51 ht)
  refine lv_aload_n hx hb dX1_shortest_57 rfl (lv_at hl 0 rfl) ?_
  refine c1_v (As := []) (rest := []) S I (mX1_labelByHeights l g n F L (((1 : Int32) <<< ((nI n) &&& 31)) - 1) N lb (by omega) ) (cw1_labelByHeights S.2.2.2.2 (by decide)) rfl hl.1 rfl (Nat.le_of_ble_eq_true rfl) dX1_shortest_58 (fun u' H locs hp I => ?_)
  subst hp
  refine lv_aload_n hx hb dX1_shortest_61 rfl (lv_at hl 0 rfl) ?_
  refine lv_iload_n hx hb dX1_shortest_62 rfl (lv_at hl 1 rfl) ?_
  refine c1_i (As := [.int (nI mm)]) (rest := []) S I (mX1_lengthOnList l g n F L (((1 : Int32) <<< ((nI n) &&& 31)) - 1) N (lhB n L lb n) (by omega) mm (by omega)) (cw1_lengthOnList S.2.2.2.2 (by decide)) rfl hl.1 rfl (Nat.le_of_ble_eq_true rfl) dX1_shortest_63 (fun r u' H locs hp I => ?_)
  obtain ⟨rfl, rfl⟩ := hp
  exact kret _ _ _ _ _ _ dX1_shortest_66 rfl ⟨rfl, rfl⟩ I
set_option maxHeartbeats 4000000 in
set_option maxRecDepth 100000 in
theorem mX1_without_bad (l : Launch) (g : Geo) (n : Nat) (F L : Nat → Int32) (pt : Int32) (N lb : Nat → Int32) (hn : n ≤ 9) (v : Int32) (hT : v < 0 ∨ nI n ≤ v) : MI (x1 g) l yX1_without cX1_without 4 .int 3 [.ref (g.2.1 0), .int v] (n, F, L, pt, N, lb) (fun r u' => r = -1 ∧ u' = (n, F, L, pt, N, lb)) := by
  refine MI_of (by decide) (Nat.le_of_ble_eq_true rfl) ?_
  intro p e s m args below meth c Q S kret ls hl I
  have hx := S.1
  have hb := S.2.1
  have hl : lv_has ls 4 [(0, .ref (g.2.1 0)), (1, .int v)] := hl
  have hT0 : xT n v = 0 := xT_out hT
  refine lv_aload_n hx hb dX1_without_0 rfl (lv_at hl 0 rfl) ?_
  refine lv_iload_n hx hb dX1_without_1 rfl (lv_at hl 1 rfl) ?_
  refine c1_i (As := [.int v]) (rest := []) S I (mX1_isTask l g n F L pt N lb (by omega) v) (cw1_isTask S.2.2.2.2 (by decide)) rfl hl.1 rfl (Nat.le_of_ble_eq_true rfl) dX1_without_2 (fun r u' H locs hp I => ?_)
  obtain ⟨rfl, rfl⟩ := hp
  refine lv_if_ne (tgt := 10) hx hb dX1_without_5 (by decide) (fun c_5 => absurd hT0 c_5) (fun c_5 => ?_)
  refine lv_iconst (v := (-1)) hx hb dX1_without_8 (by decide) ?_
  exact kret _ _ _ _ _ _ dX1_without_9 rfl ⟨rfl, rfl⟩ I
set_option maxHeartbeats 4000000 in
set_option maxRecDepth 100000 in
theorem mX1_without (l : Launch) (g : Geo) (n : Nat) (F L : Nat → Int32) (pt : Int32) (N lb : Nat → Int32) (hn : n ≤ 9) (k : Nat) (hk : k < n) : MI (x1 g) l yX1_without cX1_without 4 .int 3 [.ref (g.2.1 0), .int (nI k)] (n, F, L, pt, N, lb) (fun r u' => r = xLen n (xClose n (upd F k 0) L) (xLbl n (xClose n (upd F k 0) L) (xWo n k) N lb) (xWo n k) 2 ∧ u' = (n, (upd (upd F k 0) k (F k)), xClose n (upd (upd F k 0) k (F k)) (xClose n (upd F k 0) L), xWo n k, llN n (xClose n (upd F k 0) L) (xWo n k) N n, xLbl n (xClose n (upd F k 0) L) (xWo n k) N lb)) := by
  refine MI_of (by decide) (Nat.le_of_ble_eq_true rfl) ?_
  intro p e s m args below meth c Q S kret ls hl I
  have hx := S.1
  have hb := S.2.1
  have hl : lv_has ls 4 [(0, .ref (g.2.1 0)), (1, .int (nI k))] := hl
  have hT1 : ¬ xT n (nI k) = 0 := xT_in hk hn
  refine lv_aload_n hx hb dX1_without_0 rfl (lv_at hl 0 rfl) ?_
  refine lv_iload_n hx hb dX1_without_1 rfl (lv_at hl 1 rfl) ?_
  refine c1_i (As := [.int (nI k)]) (rest := []) S I (mX1_isTask l g n F L pt N lb (by omega) (nI k)) (cw1_isTask S.2.2.2.2 (by decide)) rfl hl.1 rfl (Nat.le_of_ble_eq_true rfl) dX1_without_2 (fun r u' H locs hp I => ?_)
  obtain ⟨rfl, rfl⟩ := hp
  refine lv_if_ne (tgt := 10) hx hb dX1_without_5 (by decide) (fun c_5 => ?_) (fun c_5 => absurd c_5 hT1)
  refine lv_aload_n hx hb dX1_without_10 rfl (lv_at hl 0 rfl) ?_
  refine g1_F S I dX1_without_11 ?_
  refine lv_iload_n hx hb dX1_without_14 rfl (lv_at hl 1 rfl) ?_
  refine a1_ldF S I (k := k) (by omega) dX1_without_15 ?_
  refine lv_istore_n (lv' := [(2, .int (F k)), (0, .ref (g.2.1 0)), (1, .int (nI k))]) hx hb dX1_without_16 rfl hl (by decide) rfl (fun ls hl => ?_)
  refine lv_aload_n hx hb dX1_without_17 rfl (lv_at hl 1 rfl) ?_
  refine lv_iconst (v := 1) hx hb dX1_without_18 (by decide) ?_
  refine lv_aload_n hx hb dX1_without_19 rfl (lv_at hl 1 rfl) ?_
  refine g1_n S I dX1_without_20 ?_
  refine lv_ishl hx hb dX1_without_23 ?_
  refine lv_iconst (v := 1) hx hb dX1_without_24 (by decide) ?_
  refine lv_isub hx hb dX1_without_25 ?_
  refine lv_iconst (v := 1) hx hb dX1_without_26 (by decide) ?_
  refine lv_iload_n hx hb dX1_without_27 rfl (lv_at hl 2 rfl) ?_
  refine lv_ishl hx hb dX1_without_28 ?_
  refine lv_iconst (v := (-1)) hx hb dX1_without_29 (by decide) ?_
  refine lv_ixor hx hb dX1_without_30 ?_
  refine lv_iand hx hb dX1_without_31 ?_
  refine p1_pt S I dX1_without_32 (fun H locs I => ?_)
  refine lv_aload_n hx hb dX1_without_35 rfl (lv_at hl 1 rfl) ?_
  refine g1_F S I dX1_without_36 ?_
  refine lv_iload_n hx hb dX1_without_39 rfl (lv_at hl 2 rfl) ?_
  refine lv_iconst (v := 0) hx hb dX1_without_40 (by decide) ?_
  refine a1_stF S I (k := k) (by omega) dX1_without_41 (fun H locs I => ?_)
  refine lv_aload_n hx hb dX1_without_42 rfl (lv_at hl 1 rfl) ?_
  refine c1_v (As := []) (rest := []) S I (mX1_closeOrders l g n (upd F k 0) L ((((1 : Int32) <<< ((nI n) &&& 31)) - 1) &&& (((1 : Int32) <<< ((nI k) &&& 31)) ^^^ (-1))) N lb (by omega) ) (cw1_closeOrders S.2.2.2.2 (by decide)) rfl hl.1 rfl (Nat.le_of_ble_eq_true rfl) dX1_without_43 (fun u' H locs hp I => ?_)
  subst hp
  refine lv_aload_n hx hb dX1_without_46 rfl (lv_at hl 1 rfl) ?_
  refine c1_v (As := []) (rest := []) S I (mX1_labelByLists l g n (upd F k 0) (xClose n (upd F k 0) L) ((((1 : Int32) <<< ((nI n) &&& 31)) - 1) &&& (((1 : Int32) <<< ((nI k) &&& 31)) ^^^ (-1))) N lb (by omega) ) (cw1_labelByLists S.2.2.2.2 (by decide)) rfl hl.1 rfl (Nat.le_of_ble_eq_true rfl) dX1_without_47 (fun u' H locs hp I => ?_)
  subst hp
  refine lv_aload_n hx hb dX1_without_50 rfl (lv_at hl 1 rfl) ?_
  refine lv_iconst (v := nI 2) hx hb dX1_without_51 (by decide) ?_
  refine c1_i (As := [.int (nI 2)]) (rest := []) S I (mX1_lengthOnList l g n (upd F k 0) (xClose n (upd F k 0) L) ((((1 : Int32) <<< ((nI n) &&& 31)) - 1) &&& (((1 : Int32) <<< ((nI k) &&& 31)) ^^^ (-1))) (llN n (xClose n (upd F k 0) L) ((((1 : Int32) <<< ((nI n) &&& 31)) - 1) &&& (((1 : Int32) <<< ((nI k) &&& 31)) ^^^ (-1))) N n) (xLbl n (xClose n (upd F k 0) L) ((((1 : Int32) <<< ((nI n) &&& 31)) - 1) &&& (((1 : Int32) <<< ((nI k) &&& 31)) ^^^ (-1))) N lb) (by omega) 2 (by omega)) (cw1_lengthOnList S.2.2.2.2 (by decide)) rfl hl.1 rfl (Nat.le_of_ble_eq_true rfl) dX1_without_52 (fun r u' H locs hp I => ?_)
  obtain ⟨rfl, rfl⟩ := hp
  refine lv_istore_n (lv' := [(3, .int (xLen n (xClose n (upd F k 0) L) (xLbl n (xClose n (upd F k 0) L) ((((1 : Int32) <<< ((nI n) &&& 31)) - 1) &&& (((1 : Int32) <<< ((nI k) &&& 31)) ^^^ (-1))) N lb) ((((1 : Int32) <<< ((nI n) &&& 31)) - 1) &&& (((1 : Int32) <<< ((nI k) &&& 31)) ^^^ (-1))) 2)), (2, .int (F k)), (0, .ref (g.2.1 0)), (1, .int (nI k))]) hx hb dX1_without_55 rfl hl (by decide) rfl (fun ls hl => ?_)
  refine lv_aload_n hx hb dX1_without_56 rfl (lv_at hl 2 rfl) ?_
  refine g1_F S I dX1_without_57 ?_
  refine lv_iload_n hx hb dX1_without_60 rfl (lv_at hl 3 rfl) ?_
  refine lv_iload_n hx hb dX1_without_61 rfl (lv_at hl 1 rfl) ?_
  refine a1_stF S I (k := k) (by omega) dX1_without_62 (fun H locs I => ?_)
  refine lv_aload_n hx hb dX1_without_63 rfl (lv_at hl 2 rfl) ?_
  refine c1_v (As := []) (rest := []) S I (mX1_closeOrders l g n (upd (upd F k 0) k (F k)) (xClose n (upd F k 0) L) ((((1 : Int32) <<< ((nI n) &&& 31)) - 1) &&& (((1 : Int32) <<< ((nI k) &&& 31)) ^^^ (-1))) (llN n (xClose n (upd F k 0) L) ((((1 : Int32) <<< ((nI n) &&& 31)) - 1) &&& (((1 : Int32) <<< ((nI k) &&& 31)) ^^^ (-1))) N n) (xLbl n (xClose n (upd F k 0) L) ((((1 : Int32) <<< ((nI n) &&& 31)) - 1) &&& (((1 : Int32) <<< ((nI k) &&& 31)) ^^^ (-1))) N lb) (by omega) ) (cw1_closeOrders S.2.2.2.2 (by decide)) rfl hl.1 rfl (Nat.le_of_ble_eq_true rfl) dX1_without_64 (fun u' H locs hp I => ?_)
  subst hp
  refine lv_iload_n hx hb dX1_without_67 rfl (lv_at hl 0 rfl) ?_
  exact kret _ _ _ _ _ _ dX1_without_68 rfl ⟨rfl, rfl⟩ I
end
section
/-! what the walks of CoffmanGrahamModel ask -/
theorem nx_or (a b : Nat) : nI a ||| nI b = nI (a ||| b) := by
  apply Int32.toBitVec_inj.1
  show BitVec.ofNat 32 a ||| BitVec.ofNat 32 b = BitVec.ofNat 32 (a ||| b)
  apply BitVec.eq_of_getLsbD_eq
  intro i hi
  simp [hi]
theorem xin_nar (x v : Int32) : narrow .boolean (.int (xin x v)) = .int (xin x v) := by
  unfold xin
  split <;> rfl
theorem nI_pos_of {a : Nat} (h : ¬ nI a ≤ 0) : 0 < a := by
  rcases Nat.eq_zero_or_pos a with q | q
  · exact absurd (by rw [q]; decide) h
  · exact q
theorem nI_le0 {a : Nat} (h : a ≤ 0) : nI a ≤ 0 := by
  rw [show a = 0 by omega]; decide
theorem dec_and {a b : Nat} (h : ¬ nI a ≤ 0) : (nI a - 1) &&& nI b = nI ((a - 1) &&& b) := by
  rw [nI_prd (nI_pos_of h), nx_and]
theorem or_in {d a : Nat} (hd : d < 512) (ha : a < 512) : vp_in (nI d ||| nI a) 512 := by
  rw [nx_or]
  exact vp_in_nI (Nat.or_lt_two_pow (n := 9) hd ha) (by decide)
theorem nI_of32 (x : Int32) : ∃ n, n < 2 ^ 32 ∧ x = nI n := ⟨x.toBitVec.toNat, x.toBitVec.isLt, Int32.toBitVec_inj.mp (by show _ = BitVec.ofNat 32 _; simp)⟩
theorem and_nat {t : Nat} (ht : t < 512) (x : Int32) : ∃ b, b < 512 ∧ nI t &&& x = nI b := by
  obtain ⟨k, -, e⟩ := nI_of32 x
  refine ⟨t &&& k, Nat.lt_of_le_of_lt Nat.and_le_left ht, ?_⟩
  rw [e, nx_and]
theorem yOpn_nat {n : Nat} {F : Nat → Int32} {t : Nat} (ht : t < 512) (sl : Nat → Int32) (d : Nat) : ∃ b, b < 512 ∧ yOpn n F (nI t) sl d = nI b := by
  unfold yOpn
  split
  · exact ⟨0, by decide, by decide⟩
  · unfold yOp
    obtain ⟨b1, h1, e1⟩ := and_nat ht (nI d ^^^ (-1))
    rw [e1]
    exact and_nat h1 _
theorem xAll_nat : ∀ {n : Nat}, n ≤ 9 → ((1 : Int32) <<< (nI n &&& 31)) - 1 = nI (2 ^ n - 1) := by decide +kernel
theorem xWo_nat : ∀ {n : Nat}, n ≤ 9 → ∀ {k : Nat}, k < n → (((1 : Int32) <<< (nI n &&& 31)) - 1) &&& (((1 : Int32) <<< (nI k &&& 31)) ^^^ (-1)) = nI (2 ^ n - 1 - 2 ^ k) := by decide +kernel
theorem pow_512 : ∀ {n : Nat}, n ≤ 9 → 2 ^ n - 1 < 512 := by decide +kernel
end
section
set_option maxHeartbeats 4000000 in
set_option maxRecDepth 100000 in
theorem mX2_isTask (l : Launch) (g : Geo) (n : Nat) (F L sl : Nat → Int32) (hn : n ≤ 9) (v : Int32) : MI (x2 g) l yX2_isTask cX2_isTask 2 .boolean 0 [.ref (g.2.1 0), .int v] (n, F, L, sl) (fun r u' => r = xT n v ∧ u' = (n, F, L, sl)) := by
  refine MI_of (by decide) (Nat.le_of_ble_eq_true rfl) ?_
  intro p e s m args below meth c Q S kret ls hl I
  have hx := S.1
  have hb := S.2.1
  have hl : lv_has ls 2 [(0, .ref (g.2.1 0)), (1, .int v)] := hl
  refine lv_iload_n hx hb dX2_isTask_0 rfl (lv_at hl 1 rfl) ?_
  refine lv_if_lt (tgt := 16) hx hb dX2_isTask_1 (by decide) (fun c_1 => ?_) (fun c_1 => ?_)
  · refine lv_iconst (v := 0) hx hb dX2_isTask_16 (by decide) ?_
    exact kret _ _ _ _ _ _ dX2_isTask_17 rfl ⟨by simp only [xT, if_pos c_1], rfl⟩ I
  · refine lv_iload_n hx hb dX2_isTask_4 rfl (lv_at hl 1 rfl) ?_
    refine lv_aload_n hx hb dX2_isTask_5 rfl (lv_at hl 0 rfl) ?_
    refine g2_n S I dX2_isTask_6 ?_
    refine lv_icmp_ge (tgt := 16) hx hb dX2_isTask_9 (by decide) (fun c_9 => ?_) (fun c_9 => ?_)
    · refine lv_iconst (v := 0) hx hb dX2_isTask_16 (by decide) ?_
      exact kret _ _ _ _ _ _ dX2_isTask_17 rfl ⟨by simp only [xT, if_neg c_1, if_pos c_9], rfl⟩ I
    · refine lv_iconst (v := 1) hx hb dX2_isTask_12 (by decide) ?_
      refine lv_goto (tgt := 17) hx hb dX2_isTask_13 (by decide) ?_
      exact kret _ _ _ _ _ _ dX2_isTask_17 rfl ⟨by simp only [xT, if_neg c_1, if_neg c_9], rfl⟩ I
set_option maxHeartbeats 4000000 in
set_option maxRecDepth 100000 in
theorem mX2_in (l : Launch) (g : Geo) (n : Nat) (F L sl : Nat → Int32) (hn : n ≤ 9) (x v : Int32) : MI (x2 g) l yX2_in cX2_in 3 .boolean 0 [.ref (g.2.1 0), .int x, .int v] (n, F, L, sl) (fun r u' => r = xin x v ∧ u' = (n, F, L, sl)) := by
  refine MI_of (by decide) (Nat.le_of_ble_eq_true rfl) ?_
  intro p e s m args below meth c Q S kret ls hl I
  have hx := S.1
  have hb := S.2.1
  have hl : lv_has ls 3 [(0, .ref (g.2.1 0)), (1, .int x), (2, .int v)] := hl
  refine lv_iload_n hx hb dX2_in_0 rfl (lv_at hl 1 rfl) ?_
  refine lv_iload_n hx hb dX2_in_1 rfl (lv_at hl 2 rfl) ?_
  refine lv_ishr hx hb dX2_in_2 ?_
  refine lv_iconst (v := 1) hx hb dX2_in_3 (by decide) ?_
  refine lv_iand hx hb dX2_in_4 ?_
  refine lv_iconst (v := 1) hx hb dX2_in_5 (by decide) ?_
  refine lv_icmp_ne (tgt := 13) hx hb dX2_in_6 (by decide) (fun c_6 => ?_) (fun c_6 => ?_)
  · refine lv_iconst (v := 0) hx hb dX2_in_13 (by decide) ?_
    exact kret _ _ _ _ _ _ dX2_in_14 rfl ⟨by simp only [xin, if_neg c_6], rfl⟩ I
  · refine lv_iconst (v := 1) hx hb dX2_in_9 (by decide) ?_
    refine lv_goto (tgt := 14) hx hb dX2_in_10 (by decide) ?_
    exact kret _ _ _ _ _ _ dX2_in_14 rfl ⟨by simp only [xin, if_pos c_6], rfl⟩ I
set_option maxHeartbeats 4000000 in
set_option maxRecDepth 100000 in
theorem mX2_tasks (l : Launch) (g : Geo) (n : Nat) (F L sl : Nat → Int32) (hn : n ≤ 9) : MI (x2 g) l yX2_tasks cX2_tasks 1 .int 0 [.ref (g.2.1 0)] (n, F, L, sl) (fun r u' => r = nI n ∧ u' = (n, F, L, sl)) := by
  refine MI_of (by decide) (Nat.le_of_ble_eq_true rfl) ?_
  intro p e s m args below meth c Q S kret ls hl I
  have hx := S.1
  have hb := S.2.1
  have hl : lv_has ls 1 [(0, .ref (g.2.1 0))] := hl
  refine lv_aload_n hx hb dX2_tasks_0 rfl (lv_at hl 0 rfl) ?_
  refine g2_n S I dX2_tasks_1 ?_
  exact kret _ _ _ _ _ _ dX2_tasks_4 rfl ⟨rfl, rfl⟩ I
set_option maxHeartbeats 4000000 in
set_option maxRecDepth 100000 in
theorem mX2_cut (l : Launch) (g : Geo) (n : Nat) (F L sl : Nat → Int32) (hn : n ≤ 9) (x : Int32) (k : Nat) : MI (x2 g) l yX2_cut cX2_cut 3 .int 0 [.ref (g.2.1 0), .int x, .int (nI k)] (n, F, L, sl) (fun r u' => r = yCut x k ∧ u' = (n, F, L, sl)) := by
  refine MI_of (by decide) (Nat.le_of_ble_eq_true rfl) ?_
  intro p e s m args below meth c Q S kret ls hl I
  have hx := S.1
  have hb := S.2.1
  have hl : lv_has ls 3 [(0, .ref (g.2.1 0)), (1, .int x), (2, .int (nI k))] := hl
  refine lv_iload_n hx hb dX2_cut_0 rfl (lv_at hl 1 rfl) ?_
  refine lv_iconst (v := 1) hx hb dX2_cut_1 (by decide) ?_
  refine lv_iload_n hx hb dX2_cut_2 rfl (lv_at hl 2 rfl) ?_
  refine lv_ishl hx hb dX2_cut_3 ?_
  refine lv_iconst (v := 1) hx hb dX2_cut_4 (by decide) ?_
  refine lv_isub hx hb dX2_cut_5 ?_
  refine lv_iand hx hb dX2_cut_6 ?_
  refine lv_iload_n hx hb dX2_cut_7 rfl (lv_at hl 1 rfl) ?_
  refine lv_iload_n hx hb dX2_cut_8 rfl (lv_at hl 2 rfl) ?_
  refine lv_iconst (v := 1) hx hb dX2_cut_9 (by decide) ?_
  refine lv_iadd hx hb dX2_cut_10 ?_
  refine x_top (v := nI (k + 1)) (nI_1 k) ?_
  refine lv_ishr hx hb dX2_cut_11 ?_
  refine lv_iload_n hx hb dX2_cut_12 rfl (lv_at hl 2 rfl) ?_
  refine lv_ishl hx hb dX2_cut_13 ?_
  refine lv_ior hx hb dX2_cut_14 ?_
  exact kret _ _ _ _ _ _ dX2_cut_15 rfl ⟨rfl, rfl⟩ I
set_option maxHeartbeats 4000000 in
set_option maxRecDepth 100000 in
theorem mX2_addTask_full (l : Launch) (g : Geo) (n : Nat) (F L sl : Nat → Int32) (hn : n ≤ 9) (h9 : 9 ≤ n) : MI (x2 g) l yX2_addTask cX2_addTask 1 .int 1 [.ref (g.2.1 0)] (n, F, L, sl) (fun r u' => r = -3 ∧ u' = (n, F, L, sl)) := by
  refine MI_of (by decide) (Nat.le_of_ble_eq_true rfl) ?_
  intro p e s m args below meth c Q S kret ls hl I
  have hx := S.1
  have hb := S.2.1
  have hl : lv_has ls 1 [(0, .ref (g.2.1 0))] := hl
  refine lv_aload_n hx hb dX2_addTask_0 rfl (lv_at hl 0 rfl) ?_
  refine g2_n S I dX2_addTask_1 ?_
  refine lv_bipush (v := nI 9) hx hb dX2_addTask_4 (by decide) ?_
  refine lv_icmp_ne (tgt := 12) hx hb dX2_addTask_6 (by decide) (fun c_6 => absurd (show nI n = nI 9 from (nI_eq (by omega) (by decide)).mpr (by omega)) c_6) (fun c_6 => ?_)
  refine lv_bipush (v := (-3)) hx hb dX2_addTask_9 (by decide) ?_
  exact kret _ _ _ _ _ _ dX2_addTask_11 rfl ⟨rfl, rfl⟩ I
set_option maxHeartbeats 4000000 in
set_option maxRecDepth 100000 in
theorem mX2_addTask (l : Launch) (g : Geo) (n : Nat) (F L sl : Nat → Int32) (hn : n ≤ 9) (h9 : n < 9) : MI (x2 g) l yX2_addTask cX2_addTask 1 .int 1 [.ref (g.2.1 0)] (n, F, L, sl) (fun r u' => r = nI n ∧ u' = (n + 1, upd F n 0, L, sl)) := by
  refine MI_of (by decide) (Nat.le_of_ble_eq_true rfl) ?_
  intro p e s m args below meth c Q S kret ls hl I
  have hx := S.1
  have hb := S.2.1
  have hl : lv_has ls 1 [(0, .ref (g.2.1 0))] := hl
  refine lv_aload_n hx hb dX2_addTask_0 rfl (lv_at hl 0 rfl) ?_
  refine g2_n S I dX2_addTask_1 ?_
  refine lv_bipush (v := nI 9) hx hb dX2_addTask_4 (by decide) ?_
  refine lv_icmp_ne (tgt := 12) hx hb dX2_addTask_6 (by decide) (fun c_6 => ?_) (fun c_6 => absurd c_6 (fun q => absurd ((nI_eq (a := n) (b := 9) (by omega) (by decide)).mp q) (by omega)))
  refine lv_aload_n hx hb dX2_addTask_12 rfl (lv_at hl 0 rfl) ?_
  refine g2_F S I dX2_addTask_13 ?_
  refine lv_aload_n hx hb dX2_addTask_16 rfl (lv_at hl 0 rfl) ?_
  refine g2_n S I dX2_addTask_17 ?_
  refine lv_iconst (v := 0) hx hb dX2_addTask_20 (by decide) ?_
  refine a2_stF S I (k := n) (by omega) dX2_addTask_21 (fun H locs I => ?_)
  refine lv_aload_n hx hb dX2_addTask_22 rfl (lv_at hl 0 rfl) ?_
  refine lv_dup hx hb dX2_addTask_23 rfl ?_
  refine g2_n S I dX2_addTask_24 ?_
  refine lv_iconst (v := 1) hx hb dX2_addTask_27 (by decide) ?_
  refine lv_iadd hx hb dX2_addTask_28 ?_
  refine p2_n (n' := (n + 1)) S I (nI_1 n) dX2_addTask_29 (fun H locs I => ?_)
  refine lv_aload_n hx hb dX2_addTask_32 rfl (lv_at hl 0 rfl) ?_
  refine g2_n S I dX2_addTask_33 ?_
  refine lv_iconst (v := 1) hx hb dX2_addTask_36 (by decide) ?_
  refine lv_isub hx hb dX2_addTask_37 ?_
  refine x_top (v := nI n) (nI_pred n) ?_
  exact kret _ _ _ _ _ _ dX2_addTask_38 rfl ⟨rfl, rfl⟩ I
set_option maxHeartbeats 4000000 in
set_option maxRecDepth 100000 in
theorem mX2_removeTask_bad (l : Launch) (g : Geo) (n : Nat) (F L sl : Nat → Int32) (hn : n ≤ 9) (v : Int32) (hT : v < 0 ∨ nI n ≤ v) : MI (x2 g) l yX2_removeTask cX2_removeTask 3 .int 1 [.ref (g.2.1 0), .int v] (n, F, L, sl) (fun r u' => r = -1 ∧ u' = (n, F, L, sl)) := by
  refine MI_of (by decide) (Nat.le_of_ble_eq_true rfl) ?_
  intro p e s m args below meth c Q S kret ls hl I
  have hx := S.1
  have hb := S.2.1
  have hl : lv_has ls 3 [(0, .ref (g.2.1 0)), (1, .int v)] := hl
  have hT0 : xT n v = 0 := xT_out hT
  refine lv_aload_n hx hb dX2_removeTask_0 rfl (lv_at hl 0 rfl) ?_
  refine lv_iload_n hx hb dX2_removeTask_1 rfl (lv_at hl 1 rfl) ?_
  refine c2_i (As := [.int v]) (rest := []) S I (mX2_isTask l g n F L sl (by omega) v) (cw2_isTask S.2.2.2.2 (by decide)) rfl hl.1 rfl (Nat.le_of_ble_eq_true rfl) dX2_removeTask_2 (fun r u' H locs hp I => ?_)
  obtain ⟨rfl, rfl⟩ := hp
  refine lv_if_ne (tgt := 10) hx hb dX2_removeTask_5 (by decide) (fun c_5 => absurd hT0 c_5) (fun c_5 => ?_)
  refine lv_iconst (v := (-1)) hx hb dX2_removeTask_8 (by decide) ?_
  exact kret _ _ _ _ _ _ dX2_removeTask_9 rfl ⟨rfl, rfl⟩ I
set_option maxHeartbeats 4000000 in
set_option maxRecDepth 100000 in
theorem mX2_removeTask (l : Launch) (g : Geo) (n : Nat) (F L sl : Nat → Int32) (hn : n ≤ 9) (k : Nat) (hk : k < n) : MI (x2 g) l yX2_removeTask cX2_removeTask 3 .int 1 [.ref (g.2.1 0), .int (nI k)] (n, F, L, sl) (fun r u' => r = nI (n - 1) ∧ u' = (n - 1, yRem n F k, L, sl)) := by
  refine MI_of (by decide) (Nat.le_of_ble_eq_true rfl) ?_
  intro p e s m args below meth c Q S kret ls hl I
  have hx := S.1
  have hb := S.2.1
  have hl : lv_has ls 3 [(0, .ref (g.2.1 0)), (1, .int (nI k))] := hl
  have hT1 : ¬ xT n (nI k) = 0 := xT_in hk hn
  refine lv_aload_n hx hb dX2_removeTask_0 rfl (lv_at hl 0 rfl) ?_
  refine lv_iload_n hx hb dX2_removeTask_1 rfl (lv_at hl 1 rfl) ?_
  refine c2_i (As := [.int (nI k)]) (rest := []) S I (mX2_isTask l g n F L sl (by omega) (nI k)) (cw2_isTask S.2.2.2.2 (by decide)) rfl hl.1 rfl (Nat.le_of_ble_eq_true rfl) dX2_removeTask_2 (fun r u' H locs hp I => ?_)
  obtain ⟨rfl, rfl⟩ := hp
  refine lv_if_ne (tgt := 10) hx hb dX2_removeTask_5 (by decide) (fun c_5 => ?_) (fun c_5 => absurd c_5 hT1)
  refine lv_iload_n hx hb dX2_removeTask_10 rfl (lv_at hl 1 rfl) ?_
  refine lv_istore_n (lv' := [(2, .int (nI k)), (0, .ref (g.2.1 0)), (1, .int (nI k))]) hx hb dX2_removeTask_11 rfl hl (by decide) rfl (fun ls hl => ?_)
  have lp12 : ∀ (k12 i12 : Nat), i12 + k12 = n - 1 - k → ∀ (H : Heap) (locs : List Loc), XI (x2 g) s (n, (rmF F k i12), L, sl) H locs → ∀ ls : Array Slot, lv_has ls 3 [(0, .ref (g.2.1 0)), (1, .int (nI k)), (2, .int (nI (k + i12)))] → W p l e (rmd 1) s m args below meth c H locs 0 0 Q (F0 m 12 ls []) := by
    intro k12
    induction k12 with
    | zero =>
      intro i12  e12  H locs I ls hl
      have e12 : i12 = n - 1 - k := by omega
      rw [e12] at I hl
      refine lv_iload_n hx hb dX2_removeTask_12 rfl (lv_at hl 2 rfl) ?_
      refine lv_aload_n hx hb dX2_removeTask_13 rfl (lv_at hl 0 rfl) ?_
      refine g2_n S I dX2_removeTask_14 ?_
      refine lv_iconst (v := 1) hx hb dX2_removeTask_17 (by decide) ?_
      refine lv_isub hx hb dX2_removeTask_18 ?_
      refine x_top (v := nI (n - 1)) (nI_prd (by omega)) ?_
      refine lv_icmp_ge (tgt := 42) hx hb dX2_removeTask_19 (by decide) (fun c_19 => ?_) (fun c_19 => absurd (nI_le (by omega) (by omega)) c_19)
      refine lv_aload_n hx hb dX2_removeTask_42 rfl (lv_at hl 0 rfl) ?_
      refine lv_dup hx hb dX2_removeTask_43 rfl ?_
      refine g2_n S I dX2_removeTask_44 ?_
      refine lv_iconst (v := 1) hx hb dX2_removeTask_47 (by decide) ?_
      refine lv_isub hx hb dX2_removeTask_48 ?_
      refine p2_n (n' := (n - 1)) S I (nI_prd (by omega)) dX2_removeTask_49 (fun H locs I => ?_)
      refine lv_aload_n hx hb dX2_removeTask_52 rfl (lv_at hl 0 rfl) ?_
      refine g2_F S I dX2_removeTask_53 ?_
      refine lv_aload_n hx hb dX2_removeTask_56 rfl (lv_at hl 0 rfl) ?_
      refine g2_n S I dX2_removeTask_57 ?_
      refine lv_iconst (v := 0) hx hb dX2_removeTask_60 (by decide) ?_
      refine a2_stF S I (k := (n - 1)) (by omega) dX2_removeTask_61 (fun H locs I => ?_)
      refine lv_iconst (v := nI 0) hx hb dX2_removeTask_62 (by decide) ?_
      refine lv_istore_n (lv' := [(2, .int (nI 0)), (0, .ref (g.2.1 0)), (1, .int (nI k))]) hx hb dX2_removeTask_63 rfl hl (by decide) rfl (fun ls hl => ?_)
      have lp64 : ∀ (k64 i64 : Nat), i64 + k64 = n - 1 → ∀ (H : Heap) (locs : List Loc), XI (x2 g) s ((n - 1), (ycF k (upd (rmF F k (n - 1 - k)) (n - 1) 0) i64), L, sl) H locs → ∀ ls : Array Slot, lv_has ls 3 [(0, .ref (g.2.1 0)), (1, .int (nI k)), (2, .int (nI i64))] → W p l e (rmd 1) s m args below meth c H locs 0 0 Q (F0 m 64 ls []) := by
        intro k64
        induction k64 with
        | zero =>
          intro i64  e64  H locs I ls hl
          have e64 : i64 = n - 1 := by omega
          rw [e64] at I hl
          refine lv_iload_n hx hb dX2_removeTask_64 rfl (lv_at hl 2 rfl) ?_
          refine lv_aload_n hx hb dX2_removeTask_65 rfl (lv_at hl 0 rfl) ?_
          refine g2_n S I dX2_removeTask_66 ?_
          refine lv_icmp_ge (tgt := 95) hx hb dX2_removeTask_69 (by decide) (fun c_69 => ?_) (fun c_69 => absurd (nI_le (by omega) (by omega)) c_69)
          refine lv_aload_n hx hb dX2_removeTask_95 rfl (lv_at hl 0 rfl) ?_
          refine g2_n S I dX2_removeTask_96 ?_
          exact kret _ _ _ _ _ _ dX2_removeTask_99 rfl ⟨rfl, rfl⟩ I
        | succ k64 ih64 =>
          intro i64  e64  H locs I ls hl
          refine lv_iload_n hx hb dX2_removeTask_64 rfl (lv_at hl 2 rfl) ?_
          refine lv_aload_n hx hb dX2_removeTask_65 rfl (lv_at hl 0 rfl) ?_
          refine g2_n S I dX2_removeTask_66 ?_
          refine lv_icmp_ge (tgt := 95) hx hb dX2_removeTask_69 (by decide) (fun c_69 => absurd c_69 (nI_ge (by omega) (by omega))) (fun c_69 => ?_)
          refine lv_aload_n hx hb dX2_removeTask_72 rfl (lv_at hl 0 rfl) ?_
          refine g2_F S I dX2_removeTask_73 ?_
          refine lv_iload_n hx hb dX2_removeTask_76 rfl (lv_at hl 2 rfl) ?_
          refine lv_aload_n hx hb dX2_removeTask_77 rfl (lv_at hl 0 rfl) ?_
          refine lv_aload_n hx hb dX2_removeTask_78 rfl (lv_at hl 0 rfl) ?_
          refine g2_F S I dX2_removeTask_79 ?_
          refine lv_iload_n hx hb dX2_removeTask_82 rfl (lv_at hl 2 rfl) ?_
          refine a2_ldF S I (k := i64) (by omega) dX2_removeTask_83 ?_
          refine lv_iload_n hx hb dX2_removeTask_84 rfl (lv_at hl 1 rfl) ?_
          refine c2_i (As := [.int ((ycF k (upd (rmF F k (n - 1 - k)) (n - 1) 0) i64) i64), .int (nI k)]) (rest := [.int (nI i64), .ref (g.2.1 1)]) S I (mX2_cut l g (n - 1) (ycF k (upd (rmF F k (n - 1 - k)) (n - 1) 0) i64) L sl (by omega) ((ycF k (upd (rmF F k (n - 1 - k)) (n - 1) 0) i64) i64) k) (cw2_cut S.2.2.2.2 (by decide)) rfl hl.1 rfl (Nat.le_of_ble_eq_true rfl) dX2_removeTask_85 (fun r u' H locs hp I => ?_)
          obtain ⟨rfl, rfl⟩ := hp
          refine a2_stF S I (k := i64) (by omega) dX2_removeTask_88 (fun H locs I => ?_)
          refine lv_iinc (v := nI (i64 + 1)) (lv' := [(2, .int (nI (i64 + 1))), (0, .ref (g.2.1 0)), (1, .int (nI k))]) hx hb dX2_removeTask_89 hl (k := 2) rfl (nI_inc _) (by decide) rfl (fun ls hl => ?_)
          refine lv_goto (tgt := 64) hx hb dX2_removeTask_92 (by decide) ?_
          have e_1 : ycF k (upd (rmF F k (n - 1 - k)) (n - 1) 0) (i64 + 1) = (upd (ycF k (upd (rmF F k (n - 1 - k)) (n - 1) 0) i64) i64 (yCut ((ycF k (upd (rmF F k (n - 1 - k)) (n - 1) 0) i64) i64) k)) := by simp only [ycF, if_neg c_5, if_pos c_19, if_neg c_69]
          exact ih64 (i64 + 1)  (by omega)  _ _ (by first | (rw [e_1]; exact I) | exact I | (simp only [e_1]; exact I)) _ (by first | (rw [e_1]; exact lv_sub hl [1, 2, 0] rfl) | exact lv_sub hl [1, 2, 0] rfl | (simp only [e_1]; exact lv_sub hl [1, 2, 0] rfl))
      exact lp64 (n - 1) 0  (by omega)  _ _ I _ (lv_sub hl [1, 2, 0] rfl)
    | succ k12 ih12 =>
      intro i12  e12  H locs I ls hl
      refine lv_iload_n hx hb dX2_removeTask_12 rfl (lv_at hl 2 rfl) ?_
      refine lv_aload_n hx hb dX2_removeTask_13 rfl (lv_at hl 0 rfl) ?_
      refine g2_n S I dX2_removeTask_14 ?_
      refine lv_iconst (v := 1) hx hb dX2_removeTask_17 (by decide) ?_
      refine lv_isub hx hb dX2_removeTask_18 ?_
      refine x_top (v := nI (n - 1)) (nI_prd (by omega)) ?_
      refine lv_icmp_ge (tgt := 42) hx hb dX2_removeTask_19 (by decide) (fun c_19 => absurd c_19 (nI_ge (by omega) (by omega))) (fun c_19 => ?_)
      refine lv_aload_n hx hb dX2_removeTask_22 rfl (lv_at hl 0 rfl) ?_
      refine g2_F S I dX2_removeTask_23 ?_
      refine lv_iload_n hx hb dX2_removeTask_26 rfl (lv_at hl 2 rfl) ?_
      refine lv_aload_n hx hb dX2_removeTask_27 rfl (lv_at hl 0 rfl) ?_
      refine g2_F S I dX2_removeTask_28 ?_
      refine lv_iload_n hx hb dX2_removeTask_31 rfl (lv_at hl 2 rfl) ?_
      refine lv_iconst (v := 1) hx hb dX2_removeTask_32 (by decide) ?_
      refine lv_iadd hx hb dX2_removeTask_33 ?_
      refine x_top (v := nI (k + i12 + 1)) (nI_1 _) ?_
      refine a2_ldF S I (k := (k + i12 + 1)) (by omega) dX2_removeTask_34 ?_
      refine a2_stF S I (k := (k + i12)) (by omega) dX2_removeTask_35 (fun H locs I => ?_)
      refine lv_iinc (v := nI ((k + i12) + 1)) (lv' := [(2, .int (nI ((k + i12) + 1))), (0, .ref (g.2.1 0)), (1, .int (nI k))]) hx hb dX2_removeTask_36 hl (k := 2) rfl (nI_inc _) (by decide) rfl (fun ls hl => ?_)
      refine lv_goto (tgt := 12) hx hb dX2_removeTask_39 (by decide) ?_
      have e_1 : rmF F k (i12 + 1) = (upd (rmF F k i12) (k + i12) ((rmF F k i12) (k + i12 + 1))) := by simp only [rmF, if_neg c_5, if_neg c_19]
      exact ih12 (i12 + 1)  (by omega)  _ _ (by first | (rw [e_1]; exact I) | exact I | (simp only [e_1]; exact I)) _ (by first | (rw [e_1]; exact lv_sub hl [1, 2, 0] rfl) | exact lv_sub hl [1, 2, 0] rfl | (simp only [e_1]; exact lv_sub hl [1, 2, 0] rfl))
  exact lp12 (n - 1 - k) 0  (by omega)  _ _ I _ (lv_sub hl [1, 2, 0] rfl)
end
section
set_option maxHeartbeats 4000000 in
set_option maxRecDepth 100000 in
theorem mX2_findLater (l : Launch) (g : Geo) (n : Nat) (F L sl : Nat → Int32) (hn : n ≤ 9) : MV (x2 g) l yX2_findLater cX2_findLater 3 1 [.ref (g.2.1 0)] (n, F, L, sl) (fun u' => u' = (n, F, yFind n F L, sl)) := by
  refine MV_of (by decide) (Nat.le_of_ble_eq_true rfl) ?_
  intro p e s m args below meth c Q S kret ls hl I
  have hx := S.1
  have hb := S.2.1
  have hl : lv_has ls 3 [(0, .ref (g.2.1 0))] := hl
  have hnn : n * n ≤ 81 := Nat.mul_le_mul hn hn
  refine lv_iconst (v := nI 0) hx hb dX2_findLater_0 (by decide) ?_
  refine lv_istore_n (lv' := [(1, .int (nI 0)), (0, .ref (g.2.1 0))]) hx hb dX2_findLater_1 rfl hl (by decide) rfl (fun ls hl => ?_)
  have lp2 : ∀ (k2 i2 : Nat), i2 + k2 = n → ∀ (H : Heap) (locs : List Loc), XI (x2 g) s (n, F, (coA F L i2), sl) H locs → ∀ ls : Array Slot, lv_has ls 3 [(0, .ref (g.2.1 0)), (1, .int (nI i2))] → W p l e (rmd 1) s m args below meth c H locs 0 0 Q (F0 m 2 ls []) := by
    intro k2
    induction k2 with
    | zero =>
      intro i2  e2  H locs I ls hl
      have e2 : i2 = n := by omega
      rw [e2] at I hl
      refine lv_iload_n hx hb dX2_findLater_2 rfl (lv_at hl 1 rfl) ?_
      refine lv_aload_n hx hb dX2_findLater_3 rfl (lv_at hl 0 rfl) ?_
      refine g2_n S I dX2_findLater_4 ?_
      refine lv_icmp_ge (tgt := 28) hx hb dX2_findLater_7 (by decide) (fun c_7 => ?_) (fun c_7 => absurd (nI_le (by omega) (by omega)) c_7)
      refine lv_iconst (v := nI 0) hx hb dX2_findLater_28 (by decide) ?_
      refine lv_istore_n (lv' := [(1, .int (nI 0)), (0, .ref (g.2.1 0))]) hx hb dX2_findLater_29 rfl hl (by decide) rfl (fun ls hl => ?_)
      have lp30 : ∀ (k30 i30 : Nat), i30 + k30 = 9 → ∀ (H : Heap) (locs : List Loc), XI (x2 g) s (n, F, (flO n F (coA F L n) i30), sl) H locs → ∀ ls : Array Slot, lv_has ls 3 [(0, .ref (g.2.1 0)), (1, .int (nI i30))] → W p l e (rmd 1) s m args below meth c H locs 0 0 Q (F0 m 30 ls []) := by
        intro k30
        induction k30 with
        | zero =>
          intro i30  e30  H locs I ls hl
          have e30 : i30 = 9 := by omega
          rw [e30] at I hl
          refine lv_iload_n hx hb dX2_findLater_30 rfl (lv_at hl 1 rfl) ?_
          refine lv_bipush (v := nI 9) hx hb dX2_findLater_31 (by decide) ?_
          refine lv_icmp_ge (tgt := 121) hx hb dX2_findLater_33 (by decide) (fun c_33 => ?_) (fun c_33 => absurd (nI_le (by omega) (by omega)) c_33)
          exact kret _ _ _ _ _ dX2_findLater_121 rfl I
        | succ k30 ih30 =>
          intro i30  e30  H locs I ls hl
          refine lv_iload_n hx hb dX2_findLater_30 rfl (lv_at hl 1 rfl) ?_
          refine lv_bipush (v := nI 9) hx hb dX2_findLater_31 (by decide) ?_
          refine lv_icmp_ge (tgt := 121) hx hb dX2_findLater_33 (by decide) (fun c_33 => absurd c_33 (nI_ge (by omega) (by omega))) (fun c_33 => ?_)
          refine lv_iconst (v := nI 0) hx hb dX2_findLater_36 (by decide) ?_
          refine lv_istore_n (lv' := [(2, .int (nI 0)), (0, .ref (g.2.1 0)), (1, .int (nI i30))]) hx hb dX2_findLater_37 rfl hl (by decide) rfl (fun ls hl => ?_)
          have lp38 : ∀ (k38 i38 : Nat), i38 + k38 = n * n → ∀ (H : Heap) (locs : List Loc), XI (x2 g) s (n, F, (flI n F (flO n F (coA F L n) i30) i38), sl) H locs → ∀ ls : Array Slot, lv_has ls 3 [(0, .ref (g.2.1 0)), (1, .int (nI i30)), (2, .int (nI i38))] → W p l e (rmd 1) s m args below meth c H locs 0 0 Q (F0 m 38 ls []) := by
            intro k38
            induction k38 with
            | zero =>
              intro i38  e38  H locs I ls hl
              have e38 : i38 = n * n := by omega
              rw [e38] at I hl
              refine lv_iload_n hx hb dX2_findLater_38 rfl (lv_at hl 2 rfl) ?_
              refine lv_aload_n hx hb dX2_findLater_39 rfl (lv_at hl 0 rfl) ?_
              refine g2_n S I dX2_findLater_40 ?_
              refine lv_aload_n hx hb dX2_findLater_43 rfl (lv_at hl 0 rfl) ?_
              refine g2_n S I dX2_findLater_44 ?_
              refine lv_imul hx hb dX2_findLater_47 ?_
              refine x_top (v := nI (n * n)) (pk_mul n n) ?_
              refine lv_icmp_ge (tgt := 115) hx hb dX2_findLater_48 (by decide) (fun c_48 => ?_) (fun c_48 => absurd (nI_le (by omega) (by omega)) c_48)
              refine lv_iinc (v := nI (i30 + 1)) (lv' := [(1, .int (nI (i30 + 1))), (0, .ref (g.2.1 0)), (2, .int (nI (n * n)))]) hx hb dX2_findLater_115 hl (k := 1) rfl (nI_inc _) (by decide) rfl (fun ls hl => ?_)
              refine lv_goto (tgt := 30) hx hb dX2_findLater_118 (by decide) ?_
              have e_1 : flO n F (coA F L n) (i30 + 1) = (flI n F (flO n F (coA F L n) i30) (n * n)) := by simp only [flO, if_pos c_7, if_neg c_33, if_pos c_48]
              exact ih30 (i30 + 1)  (by omega)  _ _ (by first | (rw [e_1]; exact I) | exact I | (simp only [e_1]; exact I)) _ (by first | (rw [e_1]; exact lv_sub hl [1, 0] rfl) | exact lv_sub hl [1, 0] rfl | (simp only [e_1]; exact lv_sub hl [1, 0] rfl))
            | succ k38 ih38 =>
              intro i38  e38  H locs I ls hl
              have hlt : i38 < n * n := by omega
              have hpos : 0 < n := Nat.pos_of_ne_zero (fun q => by subst q; exact absurd hlt (Nat.not_lt_zero _))
              have hdv : i38 / n < n := (Nat.div_lt_iff_lt_mul hpos).mpr hlt
              have hmd : i38 % n < n := Nat.mod_lt _ hpos
              refine lv_iload_n hx hb dX2_findLater_38 rfl (lv_at hl 2 rfl) ?_
              refine lv_aload_n hx hb dX2_findLater_39 rfl (lv_at hl 0 rfl) ?_
              refine g2_n S I dX2_findLater_40 ?_
              refine lv_aload_n hx hb dX2_findLater_43 rfl (lv_at hl 0 rfl) ?_
              refine g2_n S I dX2_findLater_44 ?_
              refine lv_imul hx hb dX2_findLater_47 ?_
              refine x_top (v := nI (n * n)) (pk_mul n n) ?_
              refine lv_icmp_ge (tgt := 115) hx hb dX2_findLater_48 (by decide) (fun c_48 => absurd c_48 (nI_ge (by omega) (by omega))) (fun c_48 => ?_)
              refine lv_aload_n hx hb dX2_findLater_51 rfl (lv_at hl 0 rfl) ?_
              refine lv_aload_n hx hb dX2_findLater_52 rfl (lv_at hl 0 rfl) ?_
              refine g2_L S I dX2_findLater_53 ?_
              refine lv_iload_n hx hb dX2_findLater_56 rfl (lv_at hl 2 rfl) ?_
              refine lv_aload_n hx hb dX2_findLater_57 rfl (lv_at hl 0 rfl) ?_
              refine g2_n S I dX2_findLater_58 ?_
              refine lv_idiv hx hb dX2_findLater_61 (nI_ne0 hpos (by omega)) ?_
              refine x_top (v := nI (i38 / n)) (pk_div (by omega) hpos (by omega)) ?_
              refine a2_ldL S I (k := (i38 / n)) (by omega) dX2_findLater_62 ?_
              refine lv_iload_n hx hb dX2_findLater_63 rfl (lv_at hl 2 rfl) ?_
              refine lv_aload_n hx hb dX2_findLater_64 rfl (lv_at hl 0 rfl) ?_
              refine g2_n S I dX2_findLater_65 ?_
              refine lv_irem hx hb dX2_findLater_68 (nI_ne0 hpos (by omega)) ?_
              refine x_top (v := nI (i38 % n)) (pk_rem (by omega) hpos (by omega)) ?_
              refine c2_i (As := [.int ((flI n F (flO n F (coA F L n) i30) i38) (i38 / n)), .int (nI (i38 % n))]) (rest := []) S I (mX2_in l g n F (flI n F (flO n F (coA F L n) i30) i38) sl (by omega) ((flI n F (flO n F (coA F L n) i30) i38) (i38 / n)) (nI (i38 % n))) (cw2_in S.2.2.2.2 (by decide)) rfl hl.1 rfl (Nat.le_of_ble_eq_true rfl) dX2_findLater_69 (fun r u' H locs hp I => ?_)
              obtain ⟨rfl, rfl⟩ := hp
              refine lv_if_eq (tgt := 109) hx hb dX2_findLater_72 (by decide) (fun c_72 => ?_) (fun c_72 => ?_)
              · refine lv_iinc (v := nI (i38 + 1)) (lv' := [(2, .int (nI (i38 + 1))), (0, .ref (g.2.1 0)), (1, .int (nI i30))]) hx hb dX2_findLater_109 hl (k := 2) rfl (nI_inc _) (by decide) rfl (fun ls hl => ?_)
                refine lv_goto (tgt := 38) hx hb dX2_findLater_112 (by decide) ?_
                have e_1 : flI n F (flO n F (coA F L n) i30) (i38 + 1) = (flI n F (flO n F (coA F L n) i30) i38) := by simp only [flI, if_pos c_7, if_neg c_33, if_neg c_48, if_pos c_72]
                exact ih38 (i38 + 1)  (by omega)  _ _ (by first | (rw [e_1]; exact I) | exact I | (simp only [e_1]; exact I)) _ (by first | (rw [e_1]; exact lv_sub hl [1, 2, 0] rfl) | exact lv_sub hl [1, 2, 0] rfl | (simp only [e_1]; exact lv_sub hl [1, 2, 0] rfl))
              · refine lv_aload_n hx hb dX2_findLater_75 rfl (lv_at hl 0 rfl) ?_
                refine g2_L S I dX2_findLater_76 ?_
                refine lv_iload_n hx hb dX2_findLater_79 rfl (lv_at hl 2 rfl) ?_
                refine lv_aload_n hx hb dX2_findLater_80 rfl (lv_at hl 0 rfl) ?_
                refine g2_n S I dX2_findLater_81 ?_
                refine lv_idiv hx hb dX2_findLater_84 (nI_ne0 hpos (by omega)) ?_
                refine x_top (v := nI (i38 / n)) (pk_div (by omega) hpos (by omega)) ?_
                refine lv_aload_n hx hb dX2_findLater_85 rfl (lv_at hl 0 rfl) ?_
                refine g2_L S I dX2_findLater_86 ?_
                refine lv_iload_n hx hb dX2_findLater_89 rfl (lv_at hl 2 rfl) ?_
                refine lv_aload_n hx hb dX2_findLater_90 rfl (lv_at hl 0 rfl) ?_
                refine g2_n S I dX2_findLater_91 ?_
                refine lv_idiv hx hb dX2_findLater_94 (nI_ne0 hpos (by omega)) ?_
                refine x_top (v := nI (i38 / n)) (pk_div (by omega) hpos (by omega)) ?_
                refine a2_ldL S I (k := (i38 / n)) (by omega) dX2_findLater_95 ?_
                refine lv_aload_n hx hb dX2_findLater_96 rfl (lv_at hl 0 rfl) ?_
                refine g2_F S I dX2_findLater_97 ?_
                refine lv_iload_n hx hb dX2_findLater_100 rfl (lv_at hl 2 rfl) ?_
                refine lv_aload_n hx hb dX2_findLater_101 rfl (lv_at hl 0 rfl) ?_
                refine g2_n S I dX2_findLater_102 ?_
                refine lv_irem hx hb dX2_findLater_105 (nI_ne0 hpos (by omega)) ?_
                refine x_top (v := nI (i38 % n)) (pk_rem (by omega) hpos (by omega)) ?_
                refine a2_ldF S I (k := (i38 % n)) (by omega) dX2_findLater_106 ?_
                refine lv_ior hx hb dX2_findLater_107 ?_
                refine a2_stL S I (k := (i38 / n)) (by omega) dX2_findLater_108 (fun H locs I => ?_)
                refine lv_iinc (v := nI (i38 + 1)) (lv' := [(2, .int (nI (i38 + 1))), (0, .ref (g.2.1 0)), (1, .int (nI i30))]) hx hb dX2_findLater_109 hl (k := 2) rfl (nI_inc _) (by decide) rfl (fun ls hl => ?_)
                refine lv_goto (tgt := 38) hx hb dX2_findLater_112 (by decide) ?_
                have e_1 : flI n F (flO n F (coA F L n) i30) (i38 + 1) = (upd (flI n F (flO n F (coA F L n) i30) i38) (i38 / n) (((flI n F (flO n F (coA F L n) i30) i38) (i38 / n)) ||| (F (i38 % n)))) := by simp only [flI, if_pos c_7, if_neg c_33, if_neg c_48, if_neg c_72]
                exact ih38 (i38 + 1)  (by omega)  _ _ (by first | (rw [e_1]; exact I) | exact I | (simp only [e_1]; exact I)) _ (by first | (rw [e_1]; exact lv_sub hl [1, 2, 0] rfl) | exact lv_sub hl [1, 2, 0] rfl | (simp only [e_1]; exact lv_sub hl [1, 2, 0] rfl))
          exact lp38 (n * n) 0  (by omega)  _ _ I _ (lv_sub hl [1, 2, 0] rfl)
      exact lp30 9 0  (by omega)  _ _ I _ (lv_sub hl [1, 0] rfl)
    | succ k2 ih2 =>
      intro i2  e2  H locs I ls hl
      refine lv_iload_n hx hb dX2_findLater_2 rfl (lv_at hl 1 rfl) ?_
      refine lv_aload_n hx hb dX2_findLater_3 rfl (lv_at hl 0 rfl) ?_
      refine g2_n S I dX2_findLater_4 ?_
      refine lv_icmp_ge (tgt := 28) hx hb dX2_findLater_7 (by decide) (fun c_7 => absurd c_7 (nI_ge (by omega) (by omega))) (fun c_7 => ?_)
      refine lv_aload_n hx hb dX2_findLater_10 rfl (lv_at hl 0 rfl) ?_
      refine g2_L S I dX2_findLater_11 ?_
      refine lv_iload_n hx hb dX2_findLater_14 rfl (lv_at hl 1 rfl) ?_
      refine lv_aload_n hx hb dX2_findLater_15 rfl (lv_at hl 0 rfl) ?_
      refine g2_F S I dX2_findLater_16 ?_
      refine lv_iload_n hx hb dX2_findLater_19 rfl (lv_at hl 1 rfl) ?_
      refine a2_ldF S I (k := i2) (by omega) dX2_findLater_20 ?_
      refine a2_stL S I (k := i2) (by omega) dX2_findLater_21 (fun H locs I => ?_)
      refine lv_iinc (v := nI (i2 + 1)) (lv' := [(1, .int (nI (i2 + 1))), (0, .ref (g.2.1 0))]) hx hb dX2_findLater_22 hl (k := 1) rfl (nI_inc _) (by decide) rfl (fun ls hl => ?_)
      refine lv_goto (tgt := 2) hx hb dX2_findLater_25 (by decide) ?_
      have e_1 : coA F L (i2 + 1) = (upd (coA F L i2) i2 (F i2)) := by simp only [coA, if_neg c_7]
      exact ih2 (i2 + 1)  (by omega)  _ _ (by first | (rw [e_1]; exact I) | exact I | (simp only [e_1]; exact I)) _ (by first | (rw [e_1]; exact lv_sub hl [1, 0] rfl) | exact lv_sub hl [1, 0] rfl | (simp only [e_1]; exact lv_sub hl [1, 0] rfl))
  exact lp2 n 0  (by omega)  _ _ I _ (lv_sub hl [1, 0] rfl)
set_option maxHeartbeats 4000000 in
set_option maxRecDepth 100000 in
theorem mX2_addOrder_bad1 (l : Launch) (g : Geo) (n : Nat) (F L sl : Nat → Int32) (hn : n ≤ 9) (v w : Int32) (hT : v < 0 ∨ nI n ≤ v) : MI (x2 g) l yX2_addOrder cX2_addOrder 3 .int 2 [.ref (g.2.1 0), .int v, .int w] (n, F, L, sl) (fun r u' => r = -1 ∧ u' = (n, F, L, sl)) := by
  refine MI_of (by decide) (Nat.le_of_ble_eq_true rfl) ?_
  intro p e s m args below meth c Q S kret ls hl I
  have hx := S.1
  have hb := S.2.1
  have hl : lv_has ls 3 [(0, .ref (g.2.1 0)), (1, .int v), (2, .int w)] := hl
  have hT0 : xT n v = 0 := xT_out hT
  refine lv_aload_n hx hb dX2_addOrder_0 rfl (lv_at hl 0 rfl) ?_
  refine lv_iload_n hx hb dX2_addOrder_1 rfl (lv_at hl 1 rfl) ?_
  refine c2_i (As := [.int v]) (rest := []) S I (mX2_isTask l g n F L sl (by omega) v) (cw2_isTask S.2.2.2.2 (by decide)) rfl hl.1 rfl (Nat.le_of_ble_eq_true rfl) dX2_addOrder_2 (fun r u' H locs hp I => ?_)
  obtain ⟨rfl, rfl⟩ := hp
  refine lv_if_eq (tgt := 16) hx hb dX2_addOrder_5 (by decide) (fun c_5 => ?_) (fun c_5 => absurd hT0 c_5)
  refine lv_iconst (v := (-1)) hx hb dX2_addOrder_16 (by decide) ?_
  exact kret _ _ _ _ _ _ dX2_addOrder_17 rfl ⟨rfl, rfl⟩ I
set_option maxHeartbeats 4000000 in
set_option maxRecDepth 100000 in
theorem mX2_addOrder_bad2 (l : Launch) (g : Geo) (n : Nat) (F L sl : Nat → Int32) (hn : n ≤ 9) (k : Nat) (hk : k < n) (v : Int32) (hT : v < 0 ∨ nI n ≤ v) : MI (x2 g) l yX2_addOrder cX2_addOrder 3 .int 2 [.ref (g.2.1 0), .int (nI k), .int v] (n, F, L, sl) (fun r u' => r = -1 ∧ u' = (n, F, L, sl)) := by
  refine MI_of (by decide) (Nat.le_of_ble_eq_true rfl) ?_
  intro p e s m args below meth c Q S kret ls hl I
  have hx := S.1
  have hb := S.2.1
  have hl : lv_has ls 3 [(0, .ref (g.2.1 0)), (1, .int (nI k)), (2, .int v)] := hl
  have hT0 : xT n v = 0 := xT_out hT
  have hT1 : ¬ xT n (nI k) = 0 := xT_in hk hn
  refine lv_aload_n hx hb dX2_addOrder_0 rfl (lv_at hl 0 rfl) ?_
  refine lv_iload_n hx hb dX2_addOrder_1 rfl (lv_at hl 1 rfl) ?_
  refine c2_i (As := [.int (nI k)]) (rest := []) S I (mX2_isTask l g n F L sl (by omega) (nI k)) (cw2_isTask S.2.2.2.2 (by decide)) rfl hl.1 rfl (Nat.le_of_ble_eq_true rfl) dX2_addOrder_2 (fun r u' H locs hp I => ?_)
  obtain ⟨rfl, rfl⟩ := hp
  refine lv_if_eq (tgt := 16) hx hb dX2_addOrder_5 (by decide) (fun c_5 => absurd c_5 hT1) (fun c_5 => ?_)
  refine lv_aload_n hx hb dX2_addOrder_8 rfl (lv_at hl 0 rfl) ?_
  refine lv_iload_n hx hb dX2_addOrder_9 rfl (lv_at hl 2 rfl) ?_
  refine c2_i (As := [.int v]) (rest := []) S I (mX2_isTask l g n F L sl (by omega) v) (cw2_isTask S.2.2.2.2 (by decide)) rfl hl.1 rfl (Nat.le_of_ble_eq_true rfl) dX2_addOrder_10 (fun r u' H locs hp I => ?_)
  obtain ⟨rfl, rfl⟩ := hp
  refine lv_if_ne (tgt := 18) hx hb dX2_addOrder_13 (by decide) (fun c_13 => absurd hT0 c_13) (fun c_13 => ?_)
  refine lv_iconst (v := (-1)) hx hb dX2_addOrder_16 (by decide) ?_
  exact kret _ _ _ _ _ _ dX2_addOrder_17 rfl ⟨rfl, rfl⟩ I
set_option maxHeartbeats 4000000 in
set_option maxRecDepth 100000 in
theorem mX2_addOrder (l : Launch) (g : Geo) (n : Nat) (F L sl : Nat → Int32) (hn : n ≤ 9) (k : Nat) (hk : k < n) (j : Nat) (hj : j < n) : MI (x2 g) l yX2_addOrder cX2_addOrder 3 .int 2 [.ref (g.2.1 0), .int (nI k), .int (nI j)] (n, F, L, sl) (fun r u' => r = (yAO n F (yFind n F L) sl k j).1 ∧ u' = (yAO n F (yFind n F L) sl k j).2) := by
  refine MI_of (by decide) (Nat.le_of_ble_eq_true rfl) ?_
  intro p e s m args below meth c Q S kret ls hl I
  have hx := S.1
  have hb := S.2.1
  have hl : lv_has ls 3 [(0, .ref (g.2.1 0)), (1, .int (nI k)), (2, .int (nI j))] := hl
  have hT1 : ¬ xT n (nI k) = 0 := xT_in hk hn
  have hT2 : ¬ xT n (nI j) = 0 := xT_in hj hn
  refine lv_aload_n hx hb dX2_addOrder_0 rfl (lv_at hl 0 rfl) ?_
  refine lv_iload_n hx hb dX2_addOrder_1 rfl (lv_at hl 1 rfl) ?_
  refine c2_i (As := [.int (nI k)]) (rest := []) S I (mX2_isTask l g n F L sl (by omega) (nI k)) (cw2_isTask S.2.2.2.2 (by decide)) rfl hl.1 rfl (Nat.le_of_ble_eq_true rfl) dX2_addOrder_2 (fun r u' H locs hp I => ?_)
  obtain ⟨rfl, rfl⟩ := hp
  refine lv_if_eq (tgt := 16) hx hb dX2_addOrder_5 (by decide) (fun c_5 => absurd c_5 hT1) (fun c_5 => ?_)
  refine lv_aload_n hx hb dX2_addOrder_8 rfl (lv_at hl 0 rfl) ?_
  refine lv_iload_n hx hb dX2_addOrder_9 rfl (lv_at hl 2 rfl) ?_
  refine c2_i (As := [.int (nI j)]) (rest := []) S I (mX2_isTask l g n F L sl (by omega) (nI j)) (cw2_isTask S.2.2.2.2 (by decide)) rfl hl.1 rfl (Nat.le_of_ble_eq_true rfl) dX2_addOrder_10 (fun r u' H locs hp I => ?_)
  obtain ⟨rfl, rfl⟩ := hp
  refine lv_if_ne (tgt := 18) hx hb dX2_addOrder_13 (by decide) (fun c_13 => ?_) (fun c_13 => absurd c_13 hT2)
  refine lv_aload_n hx hb dX2_addOrder_18 rfl (lv_at hl 0 rfl) ?_
  refine c2_v (As := []) (rest := []) S I (mX2_findLater l g n F L sl (by omega) ) (cw2_findLater S.2.2.2.2 (by decide)) rfl hl.1 rfl (Nat.le_of_ble_eq_true rfl) dX2_addOrder_19 (fun u' H locs hp I => ?_)
  subst hp
  refine lv_iload_n hx hb dX2_addOrder_22 rfl (lv_at hl 1 rfl) ?_
  refine lv_iload_n hx hb dX2_addOrder_23 rfl (lv_at hl 2 rfl) ?_
  refine lv_icmp_eq (tgt := 41) hx hb dX2_addOrder_24 (by decide) (fun c_24 => ?_) (fun c_24 => ?_)
  · refine lv_bipush (v := (-4)) hx hb dX2_addOrder_41 (by decide) ?_
    exact kret _ _ _ _ _ _ dX2_addOrder_43 rfl ⟨by simp only [yAO, if_neg c_5, if_neg c_13, if_pos c_24], by simp only [yAO, if_neg c_5, if_neg c_13, if_pos c_24]⟩ I
  · refine lv_aload_n hx hb dX2_addOrder_27 rfl (lv_at hl 0 rfl) ?_
    refine lv_aload_n hx hb dX2_addOrder_28 rfl (lv_at hl 0 rfl) ?_
    refine g2_L S I dX2_addOrder_29 ?_
    refine lv_iload_n hx hb dX2_addOrder_32 rfl (lv_at hl 2 rfl) ?_
    refine a2_ldL S I (k := j) (by omega) dX2_addOrder_33 ?_
    refine lv_iload_n hx hb dX2_addOrder_34 rfl (lv_at hl 1 rfl) ?_
    refine c2_i (As := [.int ((yFind n F L) j), .int (nI k)]) (rest := []) S I (mX2_in l g n F (yFind n F L) sl (by omega) ((yFind n F L) j) (nI k)) (cw2_in S.2.2.2.2 (by decide)) rfl hl.1 rfl (Nat.le_of_ble_eq_true rfl) dX2_addOrder_35 (fun r u' H locs hp I => ?_)
    obtain ⟨rfl, rfl⟩ := hp
    refine lv_if_eq (tgt := 44) hx hb dX2_addOrder_38 (by decide) (fun c_38 => ?_) (fun c_38 => ?_)
    · refine lv_aload_n hx hb dX2_addOrder_44 rfl (lv_at hl 0 rfl) ?_
      refine lv_aload_n hx hb dX2_addOrder_45 rfl (lv_at hl 0 rfl) ?_
      refine g2_F S I dX2_addOrder_46 ?_
      refine lv_iload_n hx hb dX2_addOrder_49 rfl (lv_at hl 1 rfl) ?_
      refine a2_ldF S I (k := k) (by omega) dX2_addOrder_50 ?_
      refine lv_iload_n hx hb dX2_addOrder_51 rfl (lv_at hl 2 rfl) ?_
      refine c2_i (As := [.int (F k), .int (nI j)]) (rest := []) S I (mX2_in l g n F (yFind n F L) sl (by omega) (F k) (nI j)) (cw2_in S.2.2.2.2 (by decide)) rfl hl.1 rfl (Nat.le_of_ble_eq_true rfl) dX2_addOrder_52 (fun r u' H locs hp I => ?_)
      obtain ⟨rfl, rfl⟩ := hp
      refine lv_if_eq (tgt := 60) hx hb dX2_addOrder_55 (by decide) (fun c_55 => ?_) (fun c_55 => ?_)
      · refine lv_aload_n hx hb dX2_addOrder_60 rfl (lv_at hl 0 rfl) ?_
        refine g2_F S I dX2_addOrder_61 ?_
        refine lv_iload_n hx hb dX2_addOrder_64 rfl (lv_at hl 1 rfl) ?_
        refine lv_aload_n hx hb dX2_addOrder_65 rfl (lv_at hl 0 rfl) ?_
        refine g2_F S I dX2_addOrder_66 ?_
        refine lv_iload_n hx hb dX2_addOrder_69 rfl (lv_at hl 1 rfl) ?_
        refine a2_ldF S I (k := k) (by omega) dX2_addOrder_70 ?_
        refine lv_iconst (v := 1) hx hb dX2_addOrder_71 (by decide) ?_
        refine lv_iload_n hx hb dX2_addOrder_72 rfl (lv_at hl 2 rfl) ?_
        refine lv_ishl hx hb dX2_addOrder_73 ?_
        refine lv_ior hx hb dX2_addOrder_74 ?_
        refine a2_stF S I (k := k) (by omega) dX2_addOrder_75 (fun H locs I => ?_)
        refine lv_iconst (v := 1) hx hb dX2_addOrder_76 (by decide) ?_
        exact kret _ _ _ _ _ _ dX2_addOrder_77 rfl ⟨by simp only [yAO, if_neg c_5, if_neg c_13, if_neg c_24, if_pos c_38, if_pos c_55], by simp only [yAO, if_neg c_5, if_neg c_13, if_neg c_24, if_pos c_38, if_pos c_55]⟩ I
      · refine lv_iconst (v := 0) hx hb dX2_addOrder_58 (by decide) ?_
        exact kret _ _ _ _ _ _ dX2_addOrder_59 rfl ⟨by simp only [yAO, if_neg c_5, if_neg c_13, if_neg c_24, if_pos c_38, if_neg c_55], by simp only [yAO, if_neg c_5, if_neg c_13, if_neg c_24, if_pos c_38, if_neg c_55]⟩ I
    · refine lv_bipush (v := (-4)) hx hb dX2_addOrder_41 (by decide) ?_
      exact kret _ _ _ _ _ _ dX2_addOrder_43 rfl ⟨by simp only [yAO, if_neg c_5, if_neg c_13, if_neg c_24, if_neg c_38], by simp only [yAO, if_neg c_5, if_neg c_13, if_neg c_24, if_neg c_38]⟩ I
set_option maxHeartbeats 4000000 in
set_option maxRecDepth 100000 in
theorem mX2_removeOrder_bad1 (l : Launch) (g : Geo) (n : Nat) (F L sl : Nat → Int32) (hn : n ≤ 9) (v w : Int32) (hT : v < 0 ∨ nI n ≤ v) : MI (x2 g) l yX2_removeOrder cX2_removeOrder 3 .int 1 [.ref (g.2.1 0), .int v, .int w] (n, F, L, sl) (fun r u' => r = -1 ∧ u' = (n, F, L, sl)) := by
  refine MI_of (by decide) (Nat.le_of_ble_eq_true rfl) ?_
  intro p e s m args below meth c Q S kret ls hl I
  have hx := S.1
  have hb := S.2.1
  have hl : lv_has ls 3 [(0, .ref (g.2.1 0)), (1, .int v), (2, .int w)] := hl
  have hT0 : xT n v = 0 := xT_out hT
  refine lv_aload_n hx hb dX2_removeOrder_0 rfl (lv_at hl 0 rfl) ?_
  refine lv_iload_n hx hb dX2_removeOrder_1 rfl (lv_at hl 1 rfl) ?_
  refine c2_i (As := [.int v]) (rest := []) S I (mX2_isTask l g n F L sl (by omega) v) (cw2_isTask S.2.2.2.2 (by decide)) rfl hl.1 rfl (Nat.le_of_ble_eq_true rfl) dX2_removeOrder_2 (fun r u' H locs hp I => ?_)
  obtain ⟨rfl, rfl⟩ := hp
  refine lv_if_eq (tgt := 16) hx hb dX2_removeOrder_5 (by decide) (fun c_5 => ?_) (fun c_5 => absurd hT0 c_5)
  refine lv_iconst (v := (-1)) hx hb dX2_removeOrder_16 (by decide) ?_
  exact kret _ _ _ _ _ _ dX2_removeOrder_17 rfl ⟨rfl, rfl⟩ I
set_option maxHeartbeats 4000000 in
set_option maxRecDepth 100000 in
theorem mX2_removeOrder_bad2 (l : Launch) (g : Geo) (n : Nat) (F L sl : Nat → Int32) (hn : n ≤ 9) (k : Nat) (hk : k < n) (v : Int32) (hT : v < 0 ∨ nI n ≤ v) : MI (x2 g) l yX2_removeOrder cX2_removeOrder 3 .int 1 [.ref (g.2.1 0), .int (nI k), .int v] (n, F, L, sl) (fun r u' => r = -1 ∧ u' = (n, F, L, sl)) := by
  refine MI_of (by decide) (Nat.le_of_ble_eq_true rfl) ?_
  intro p e s m args below meth c Q S kret ls hl I
  have hx := S.1
  have hb := S.2.1
  have hl : lv_has ls 3 [(0, .ref (g.2.1 0)), (1, .int (nI k)), (2, .int v)] := hl
  have hT0 : xT n v = 0 := xT_out hT
  have hT1 : ¬ xT n (nI k) = 0 := xT_in hk hn
  refine lv_aload_n hx hb dX2_removeOrder_0 rfl (lv_at hl 0 rfl) ?_
  refine lv_iload_n hx hb dX2_removeOrder_1 rfl (lv_at hl 1 rfl) ?_
  refine c2_i (As := [.int (nI k)]) (rest := []) S I (mX2_isTask l g n F L sl (by omega) (nI k)) (cw2_isTask S.2.2.2.2 (by decide)) rfl hl.1 rfl (Nat.le_of_ble_eq_true rfl) dX2_removeOrder_2 (fun r u' H locs hp I => ?_)
  obtain ⟨rfl, rfl⟩ := hp
  refine lv_if_eq (tgt := 16) hx hb dX2_removeOrder_5 (by decide) (fun c_5 => absurd c_5 hT1) (fun c_5 => ?_)
  refine lv_aload_n hx hb dX2_removeOrder_8 rfl (lv_at hl 0 rfl) ?_
  refine lv_iload_n hx hb dX2_removeOrder_9 rfl (lv_at hl 2 rfl) ?_
  refine c2_i (As := [.int v]) (rest := []) S I (mX2_isTask l g n F L sl (by omega) v) (cw2_isTask S.2.2.2.2 (by decide)) rfl hl.1 rfl (Nat.le_of_ble_eq_true rfl) dX2_removeOrder_10 (fun r u' H locs hp I => ?_)
  obtain ⟨rfl, rfl⟩ := hp
  refine lv_if_ne (tgt := 18) hx hb dX2_removeOrder_13 (by decide) (fun c_13 => absurd hT0 c_13) (fun c_13 => ?_)
  refine lv_iconst (v := (-1)) hx hb dX2_removeOrder_16 (by decide) ?_
  exact kret _ _ _ _ _ _ dX2_removeOrder_17 rfl ⟨rfl, rfl⟩ I
set_option maxHeartbeats 4000000 in
set_option maxRecDepth 100000 in
theorem mX2_removeOrder (l : Launch) (g : Geo) (n : Nat) (F L sl : Nat → Int32) (hn : n ≤ 9) (k : Nat) (hk : k < n) (j : Nat) (hj : j < n) : MI (x2 g) l yX2_removeOrder cX2_removeOrder 3 .int 1 [.ref (g.2.1 0), .int (nI k), .int (nI j)] (n, F, L, sl) (fun r u' => r = (yRO n F L sl k j).1 ∧ u' = (yRO n F L sl k j).2) := by
  refine MI_of (by decide) (Nat.le_of_ble_eq_true rfl) ?_
  intro p e s m args below meth c Q S kret ls hl I
  have hx := S.1
  have hb := S.2.1
  have hl : lv_has ls 3 [(0, .ref (g.2.1 0)), (1, .int (nI k)), (2, .int (nI j))] := hl
  have hT1 : ¬ xT n (nI k) = 0 := xT_in hk hn
  have hT2 : ¬ xT n (nI j) = 0 := xT_in hj hn
  refine lv_aload_n hx hb dX2_removeOrder_0 rfl (lv_at hl 0 rfl) ?_
  refine lv_iload_n hx hb dX2_removeOrder_1 rfl (lv_at hl 1 rfl) ?_
  refine c2_i (As := [.int (nI k)]) (rest := []) S I (mX2_isTask l g n F L sl (by omega) (nI k)) (cw2_isTask S.2.2.2.2 (by decide)) rfl hl.1 rfl (Nat.le_of_ble_eq_true rfl) dX2_removeOrder_2 (fun r u' H locs hp I => ?_)
  obtain ⟨rfl, rfl⟩ := hp
  refine lv_if_eq (tgt := 16) hx hb dX2_removeOrder_5 (by decide) (fun c_5 => absurd c_5 hT1) (fun c_5 => ?_)
  refine lv_aload_n hx hb dX2_removeOrder_8 rfl (lv_at hl 0 rfl) ?_
  refine lv_iload_n hx hb dX2_removeOrder_9 rfl (lv_at hl 2 rfl) ?_
  refine c2_i (As := [.int (nI j)]) (rest := []) S I (mX2_isTask l g n F L sl (by omega) (nI j)) (cw2_isTask S.2.2.2.2 (by decide)) rfl hl.1 rfl (Nat.le_of_ble_eq_true rfl) dX2_removeOrder_10 (fun r u' H locs hp I => ?_)
  obtain ⟨rfl, rfl⟩ := hp
  refine lv_if_ne (tgt := 18) hx hb dX2_removeOrder_13 (by decide) (fun c_13 => ?_) (fun c_13 => absurd c_13 hT2)
  refine lv_aload_n hx hb dX2_removeOrder_18 rfl (lv_at hl 0 rfl) ?_
  refine lv_aload_n hx hb dX2_removeOrder_19 rfl (lv_at hl 0 rfl) ?_
  refine g2_F S I dX2_removeOrder_20 ?_
  refine lv_iload_n hx hb dX2_removeOrder_23 rfl (lv_at hl 1 rfl) ?_
  refine a2_ldF S I (k := k) (by omega) dX2_removeOrder_24 ?_
  refine lv_iload_n hx hb dX2_removeOrder_25 rfl (lv_at hl 2 rfl) ?_
  refine c2_i (As := [.int (F k), .int (nI j)]) (rest := []) S I (mX2_in l g n F L sl (by omega) (F k) (nI j)) (cw2_in S.2.2.2.2 (by decide)) rfl hl.1 rfl (Nat.le_of_ble_eq_true rfl) dX2_removeOrder_26 (fun r u' H locs hp I => ?_)
  obtain ⟨rfl, rfl⟩ := hp
  refine lv_if_ne (tgt := 34) hx hb dX2_removeOrder_29 (by decide) (fun c_29 => ?_) (fun c_29 => ?_)
  · refine lv_aload_n hx hb dX2_removeOrder_34 rfl (lv_at hl 0 rfl) ?_
    refine g2_F S I dX2_removeOrder_35 ?_
    refine lv_iload_n hx hb dX2_removeOrder_38 rfl (lv_at hl 1 rfl) ?_
    refine lv_aload_n hx hb dX2_removeOrder_39 rfl (lv_at hl 0 rfl) ?_
    refine g2_F S I dX2_removeOrder_40 ?_
    refine lv_iload_n hx hb dX2_removeOrder_43 rfl (lv_at hl 1 rfl) ?_
    refine a2_ldF S I (k := k) (by omega) dX2_removeOrder_44 ?_
    refine lv_iconst (v := 1) hx hb dX2_removeOrder_45 (by decide) ?_
    refine lv_iload_n hx hb dX2_removeOrder_46 rfl (lv_at hl 2 rfl) ?_
    refine lv_ishl hx hb dX2_removeOrder_47 ?_
    refine lv_iconst (v := (-1)) hx hb dX2_removeOrder_48 (by decide) ?_
    refine lv_ixor hx hb dX2_removeOrder_49 ?_
    refine lv_iand hx hb dX2_removeOrder_50 ?_
    refine a2_stF S I (k := k) (by omega) dX2_removeOrder_51 (fun H locs I => ?_)
    refine lv_iconst (v := 1) hx hb dX2_removeOrder_52 (by decide) ?_
    exact kret _ _ _ _ _ _ dX2_removeOrder_53 rfl ⟨by simp only [yRO, if_neg c_5, if_neg c_13, if_neg c_29], by simp only [yRO, if_neg c_5, if_neg c_13, if_neg c_29]⟩ I
  · refine lv_iconst (v := 0) hx hb dX2_removeOrder_32 (by decide) ?_
    exact kret _ _ _ _ _ _ dX2_removeOrder_33 rfl ⟨by simp only [yRO, if_neg c_5, if_neg c_13, if_pos c_29], by simp only [yRO, if_neg c_5, if_neg c_13, if_pos c_29]⟩ I
set_option maxHeartbeats 4000000 in
set_option maxRecDepth 100000 in
theorem mX2_after_bad1 (l : Launch) (g : Geo) (n : Nat) (F L sl : Nat → Int32) (hn : n ≤ 9) (v w : Int32) (hT : v < 0 ∨ nI n ≤ v) : MI (x2 g) l yX2_after cX2_after 3 .boolean 2 [.ref (g.2.1 0), .int v, .int w] (n, F, L, sl) (fun r u' => r = 0 ∧ u' = (n, F, L, sl)) := by
  refine MI_of (by decide) (Nat.le_of_ble_eq_true rfl) ?_
  intro p e s m args below meth c Q S kret ls hl I
  have hx := S.1
  have hb := S.2.1
  have hl : lv_has ls 3 [(0, .ref (g.2.1 0)), (1, .int v), (2, .int w)] := hl
  have hT0 : xT n v = 0 := xT_out hT
  refine lv_aload_n hx hb dX2_after_0 rfl (lv_at hl 0 rfl) ?_
  refine lv_iload_n hx hb dX2_after_1 rfl (lv_at hl 1 rfl) ?_
  refine c2_i (As := [.int v]) (rest := []) S I (mX2_isTask l g n F L sl (by omega) v) (cw2_isTask S.2.2.2.2 (by decide)) rfl hl.1 rfl (Nat.le_of_ble_eq_true rfl) dX2_after_2 (fun r u' H locs hp I => ?_)
  obtain ⟨rfl, rfl⟩ := hp
  refine lv_if_eq (tgt := 16) hx hb dX2_after_5 (by decide) (fun c_5 => ?_) (fun c_5 => absurd hT0 c_5)
  refine lv_iconst (v := 0) hx hb dX2_after_16 (by decide) ?_
  exact kret _ _ _ _ _ _ dX2_after_17 rfl ⟨rfl, rfl⟩ I
set_option maxHeartbeats 4000000 in
set_option maxRecDepth 100000 in
theorem mX2_after_bad2 (l : Launch) (g : Geo) (n : Nat) (F L sl : Nat → Int32) (hn : n ≤ 9) (k : Nat) (hk : k < n) (v : Int32) (hT : v < 0 ∨ nI n ≤ v) : MI (x2 g) l yX2_after cX2_after 3 .boolean 2 [.ref (g.2.1 0), .int (nI k), .int v] (n, F, L, sl) (fun r u' => r = 0 ∧ u' = (n, F, L, sl)) := by
  refine MI_of (by decide) (Nat.le_of_ble_eq_true rfl) ?_
  intro p e s m args below meth c Q S kret ls hl I
  have hx := S.1
  have hb := S.2.1
  have hl : lv_has ls 3 [(0, .ref (g.2.1 0)), (1, .int (nI k)), (2, .int v)] := hl
  have hT0 : xT n v = 0 := xT_out hT
  have hT1 : ¬ xT n (nI k) = 0 := xT_in hk hn
  refine lv_aload_n hx hb dX2_after_0 rfl (lv_at hl 0 rfl) ?_
  refine lv_iload_n hx hb dX2_after_1 rfl (lv_at hl 1 rfl) ?_
  refine c2_i (As := [.int (nI k)]) (rest := []) S I (mX2_isTask l g n F L sl (by omega) (nI k)) (cw2_isTask S.2.2.2.2 (by decide)) rfl hl.1 rfl (Nat.le_of_ble_eq_true rfl) dX2_after_2 (fun r u' H locs hp I => ?_)
  obtain ⟨rfl, rfl⟩ := hp
  refine lv_if_eq (tgt := 16) hx hb dX2_after_5 (by decide) (fun c_5 => absurd c_5 hT1) (fun c_5 => ?_)
  refine lv_aload_n hx hb dX2_after_8 rfl (lv_at hl 0 rfl) ?_
  refine lv_iload_n hx hb dX2_after_9 rfl (lv_at hl 2 rfl) ?_
  refine c2_i (As := [.int v]) (rest := []) S I (mX2_isTask l g n F L sl (by omega) v) (cw2_isTask S.2.2.2.2 (by decide)) rfl hl.1 rfl (Nat.le_of_ble_eq_true rfl) dX2_after_10 (fun r u' H locs hp I => ?_)
  obtain ⟨rfl, rfl⟩ := hp
  refine lv_if_ne (tgt := 18) hx hb dX2_after_13 (by decide) (fun c_13 => absurd hT0 c_13) (fun c_13 => ?_)
  refine lv_iconst (v := 0) hx hb dX2_after_16 (by decide) ?_
  exact kret _ _ _ _ _ _ dX2_after_17 rfl ⟨rfl, rfl⟩ I
set_option maxHeartbeats 4000000 in
set_option maxRecDepth 100000 in
theorem mX2_after (l : Launch) (g : Geo) (n : Nat) (F L sl : Nat → Int32) (hn : n ≤ 9) (k : Nat) (hk : k < n) (j : Nat) (hj : j < n) : MI (x2 g) l yX2_after cX2_after 3 .boolean 2 [.ref (g.2.1 0), .int (nI k), .int (nI j)] (n, F, L, sl) (fun r u' => r = xin ((yFind n F L) k) (nI j) ∧ u' = (n, F, (yFind n F L), sl)) := by
  refine MI_of (by decide) (Nat.le_of_ble_eq_true rfl) ?_
  intro p e s m args below meth c Q S kret ls hl I
  have hx := S.1
  have hb := S.2.1
  have hl : lv_has ls 3 [(0, .ref (g.2.1 0)), (1, .int (nI k)), (2, .int (nI j))] := hl
  have hT1 : ¬ xT n (nI k) = 0 := xT_in hk hn
  have hT2 : ¬ xT n (nI j) = 0 := xT_in hj hn
  refine lv_aload_n hx hb dX2_after_0 rfl (lv_at hl 0 rfl) ?_
  refine lv_iload_n hx hb dX2_after_1 rfl (lv_at hl 1 rfl) ?_
  refine c2_i (As := [.int (nI k)]) (rest := []) S I (mX2_isTask l g n F L sl (by omega) (nI k)) (cw2_isTask S.2.2.2.2 (by decide)) rfl hl.1 rfl (Nat.le_of_ble_eq_true rfl) dX2_after_2 (fun r u' H locs hp I => ?_)
  obtain ⟨rfl, rfl⟩ := hp
  refine lv_if_eq (tgt := 16) hx hb dX2_after_5 (by decide) (fun c_5 => absurd c_5 hT1) (fun c_5 => ?_)
  refine lv_aload_n hx hb dX2_after_8 rfl (lv_at hl 0 rfl) ?_
  refine lv_iload_n hx hb dX2_after_9 rfl (lv_at hl 2 rfl) ?_
  refine c2_i (As := [.int (nI j)]) (rest := []) S I (mX2_isTask l g n F L sl (by omega) (nI j)) (cw2_isTask S.2.2.2.2 (by decide)) rfl hl.1 rfl (Nat.le_of_ble_eq_true rfl) dX2_after_10 (fun r u' H locs hp I => ?_)
  obtain ⟨rfl, rfl⟩ := hp
  refine lv_if_ne (tgt := 18) hx hb dX2_after_13 (by decide) (fun c_13 => ?_) (fun c_13 => absurd c_13 hT2)
  refine lv_aload_n hx hb dX2_after_18 rfl (lv_at hl 0 rfl) ?_
  refine c2_v (As := []) (rest := []) S I (mX2_findLater l g n F L sl (by omega) ) (cw2_findLater S.2.2.2.2 (by decide)) rfl hl.1 rfl (Nat.le_of_ble_eq_true rfl) dX2_after_19 (fun u' H locs hp I => ?_)
  subst hp
  refine lv_aload_n hx hb dX2_after_22 rfl (lv_at hl 0 rfl) ?_
  refine lv_aload_n hx hb dX2_after_23 rfl (lv_at hl 0 rfl) ?_
  refine g2_L S I dX2_after_24 ?_
  refine lv_iload_n hx hb dX2_after_27 rfl (lv_at hl 1 rfl) ?_
  refine a2_ldL S I (k := k) (by omega) dX2_after_28 ?_
  refine lv_iload_n hx hb dX2_after_29 rfl (lv_at hl 2 rfl) ?_
  refine c2_i (As := [.int ((yFind n F L) k), .int (nI j)]) (rest := []) S I (mX2_in l g n F (yFind n F L) sl (by omega) ((yFind n F L) k) (nI j)) (cw2_in S.2.2.2.2 (by decide)) rfl hl.1 rfl (Nat.le_of_ble_eq_true rfl) dX2_after_30 (fun r u' H locs hp I => ?_)
  obtain ⟨rfl, rfl⟩ := hp
  exact kret _ _ _ _ _ _ dX2_after_33 (xin_nar _ _) ⟨rfl, rfl⟩ I
set_option maxHeartbeats 4000000 in
set_option maxRecDepth 100000 in
theorem mX2_height_bad (l : Launch) (g : Geo) (n : Nat) (F L sl : Nat → Int32) (hn : n ≤ 9) (v : Int32) (hT : v < 0 ∨ nI n ≤ v) : MI (x2 g) l yX2_height cX2_height 6 .int 1 [.ref (g.2.1 0), .int v] (n, F, L, sl) (fun r u' => r = -1 ∧ u' = (n, F, L, sl)) := by
  refine MI_of (by decide) (Nat.le_of_ble_eq_true rfl) ?_
  intro p e s m args below meth c Q S kret ls hl I
  have hx := S.1
  have hb := S.2.1
  have hl : lv_has ls 6 [(0, .ref (g.2.1 0)), (1, .int v)] := hl
  have hT0 : xT n v = 0 := xT_out hT
  refine lv_aload_n hx hb dX2_height_0 rfl (lv_at hl 0 rfl) ?_
  refine lv_iload_n hx hb dX2_height_1 rfl (lv_at hl 1 rfl) ?_
  refine c2_i (As := [.int v]) (rest := []) S I (mX2_isTask l g n F L sl (by omega) v) (cw2_isTask S.2.2.2.2 (by decide)) rfl hl.1 rfl (Nat.le_of_ble_eq_true rfl) dX2_height_2 (fun r u' H locs hp I => ?_)
  obtain ⟨rfl, rfl⟩ := hp
  refine lv_if_ne (tgt := 10) hx hb dX2_height_5 (by decide) (fun c_5 => absurd hT0 c_5) (fun c_5 => ?_)
  refine lv_iconst (v := (-1)) hx hb dX2_height_8 (by decide) ?_
  exact kret _ _ _ _ _ _ dX2_height_9 rfl ⟨rfl, rfl⟩ I
set_option maxHeartbeats 4000000 in
set_option maxRecDepth 100000 in
theorem mX2_height (l : Launch) (g : Geo) (n : Nat) (F L sl : Nat → Int32) (hn : n ≤ 9) (k : Nat) (hk : k < n) : MI (x2 g) l yX2_height cX2_height 6 .int 1 [.ref (g.2.1 0), .int (nI k)] (n, F, L, sl) (fun r u' => r = yHt n F k ∧ u' = (n, F, L, sl)) := by
  refine MI_of (by decide) (Nat.le_of_ble_eq_true rfl) ?_
  intro p e s m args below meth c Q S kret ls hl I
  have hx := S.1
  have hb := S.2.1
  have hl : lv_has ls 6 [(0, .ref (g.2.1 0)), (1, .int (nI k))] := hl
  have hT1 : ¬ xT n (nI k) = 0 := xT_in hk hn
  refine lv_aload_n hx hb dX2_height_0 rfl (lv_at hl 0 rfl) ?_
  refine lv_iload_n hx hb dX2_height_1 rfl (lv_at hl 1 rfl) ?_
  refine c2_i (As := [.int (nI k)]) (rest := []) S I (mX2_isTask l g n F L sl (by omega) (nI k)) (cw2_isTask S.2.2.2.2 (by decide)) rfl hl.1 rfl (Nat.le_of_ble_eq_true rfl) dX2_height_2 (fun r u' H locs hp I => ?_)
  obtain ⟨rfl, rfl⟩ := hp
  refine lv_if_ne (tgt := 10) hx hb dX2_height_5 (by decide) (fun c_5 => ?_) (fun c_5 => absurd c_5 hT1)
  refine lv_iconst (v := 1) hx hb dX2_height_10 (by decide) ?_
  refine lv_iload_n hx hb dX2_height_11 rfl (lv_at hl 1 rfl) ?_
  refine lv_ishl hx hb dX2_height_12 ?_
  refine lv_istore_n (lv' := [(2, .int ((1 : Int32) <<< ((nI k) &&& 31))), (0, .ref (g.2.1 0)), (1, .int (nI k))]) hx hb dX2_height_13 rfl hl (by decide) rfl (fun ls hl => ?_)
  refine lv_iconst (v := nI (0 + 1)) hx hb dX2_height_14 (by decide) ?_
  refine lv_istore_n (lv' := [(3, .int (nI (0 + 1))), (2, .int ((1 : Int32) <<< ((nI k) &&& 31))), (0, .ref (g.2.1 0)), (1, .int (nI k))]) hx hb dX2_height_15 rfl hl (by decide) rfl (fun ls hl => ?_)
  have lp16 : ∀ (k16 i16 : Nat) (rc : Int32), i16 + k16 = 9 → (yhO n F k16 rc (i16 + 1) = yHt n F k) → ∀ (H : Heap) (locs : List Loc), XI (x2 g) s (n, F, L, sl) H locs → ∀ ls : Array Slot, lv_has ls 6 [(0, .ref (g.2.1 0)), (2, .int rc), (3, .int (nI (i16 + 1)))] → W p l e (rmd 1) s m args below meth c H locs 0 0 Q (F0 m 16 ls []) := by
    intro k16
    induction k16 with
    | zero =>
      intro i16 rc e16 hq H locs I ls hl
      have e16 : i16 = 9 := by omega
      rw [e16] at hl hq
      refine lv_iload_n hx hb dX2_height_16 rfl (lv_at hl 2 rfl) ?_
      refine lv_bipush (v := nI 9) hx hb dX2_height_17 (by decide) ?_
      refine lv_icmp_gt (tgt := 81) hx hb dX2_height_19 (by decide) (fun c_19 => ?_) (fun c_19 => absurd (nI_lt (by omega) (by omega)) c_19)
      refine lv_bipush (v := 9) hx hb dX2_height_81 (by decide) ?_
      exact kret _ _ _ _ _ _ dX2_height_83 rfl ⟨by first | exact hq | (rw [← hq]; simp only [yhO, if_neg c_5, if_pos c_19]), rfl⟩ I
    | succ k16 ih16 =>
      intro i16 rc e16 hq H locs I ls hl
      refine lv_iload_n hx hb dX2_height_16 rfl (lv_at hl 2 rfl) ?_
      refine lv_bipush (v := nI 9) hx hb dX2_height_17 (by decide) ?_
      refine lv_icmp_gt (tgt := 81) hx hb dX2_height_19 (by decide) (fun c_19 => absurd c_19 (nI_nlt (by omega) (by omega))) (fun c_19 => ?_)
      refine lv_iconst (v := 0) hx hb dX2_height_22 (by decide) ?_
      refine lv_istore (lv' := [(4, .int 0), (0, .ref (g.2.1 0)), (2, .int rc), (3, .int (nI (i16 + 1)))]) hx hb dX2_height_23 hl (by decide) rfl (fun ls hl => ?_)
      refine lv_iconst (v := nI 0) hx hb dX2_height_25 (by decide) ?_
      refine lv_istore (lv' := [(5, .int (nI 0)), (4, .int 0), (0, .ref (g.2.1 0)), (2, .int rc), (3, .int (nI (i16 + 1)))]) hx hb dX2_height_26 hl (by decide) rfl (fun ls hl => ?_)
      have lp28 : ∀ (k28 i28 : Nat), i28 + k28 = n → ∀ (H : Heap) (locs : List Loc), XI (x2 g) s (n, F, L, sl) H locs → ∀ ls : Array Slot, lv_has ls 6 [(0, .ref (g.2.1 0)), (2, .int rc), (3, .int (nI (i16 + 1))), (4, .int (yhI F rc i28)), (5, .int (nI i28))] → W p l e (rmd 1) s m args below meth c H locs 0 0 Q (F0 m 28 ls []) := by
        intro k28
        induction k28 with
        | zero =>
          intro i28  e28  H locs I ls hl
          have e28 : i28 = n := by omega
          rw [e28] at hl
          refine lv_iload hx hb dX2_height_28 (lv_at hl 4 rfl) ?_
          refine lv_aload_n hx hb dX2_height_30 rfl (lv_at hl 0 rfl) ?_
          refine g2_n S I dX2_height_31 ?_
          refine lv_icmp_ge (tgt := 65) hx hb dX2_height_34 (by decide) (fun c_34 => ?_) (fun c_34 => absurd (nI_le (by omega) (by omega)) c_34)
          refine lv_iload hx hb dX2_height_65 (lv_at hl 3 rfl) ?_
          refine lv_if_ne (tgt := 72) hx hb dX2_height_67 (by decide) (fun c_67 => ?_) (fun c_67 => ?_)
          · refine lv_iload hx hb dX2_height_72 (lv_at hl 3 rfl) ?_
            refine lv_istore_n (lv' := [(2, .int (yhI F rc n)), (0, .ref (g.2.1 0)), (3, .int (nI (i16 + 1))), (4, .int (yhI F rc n)), (5, .int (nI n))]) hx hb dX2_height_74 rfl hl (by decide) rfl (fun ls hl => ?_)
            refine lv_iinc (v := nI ((i16 + 1) + 1)) (lv' := [(3, .int (nI ((i16 + 1) + 1))), (2, .int (yhI F rc n)), (0, .ref (g.2.1 0)), (4, .int (yhI F rc n)), (5, .int (nI n))]) hx hb dX2_height_75 hl (k := 2) rfl (nI_inc _) (by decide) rfl (fun ls hl => ?_)
            refine lv_goto (tgt := 16) hx hb dX2_height_78 (by decide) ?_
            exact ih16 (i16 + 1) (yhI F rc n) (by omega) (by rw [← hq]; simp only [yhO, if_neg c_67]) _ _ I _ (lv_sub hl [2, 1, 0] rfl)
          · refine lv_iload_n hx hb dX2_height_70 rfl (lv_at hl 2 rfl) ?_
            exact kret _ _ _ _ _ _ dX2_height_71 rfl ⟨by first | exact hq | (rw [← hq]; simp only [yhO, if_neg c_5, if_neg c_19, if_pos c_34, if_pos c_67]), rfl⟩ I
        | succ k28 ih28 =>
          intro i28  e28  H locs I ls hl
          refine lv_iload hx hb dX2_height_28 (lv_at hl 4 rfl) ?_
          refine lv_aload_n hx hb dX2_height_30 rfl (lv_at hl 0 rfl) ?_
          refine g2_n S I dX2_height_31 ?_
          refine lv_icmp_ge (tgt := 65) hx hb dX2_height_34 (by decide) (fun c_34 => absurd c_34 (nI_ge (by omega) (by omega))) (fun c_34 => ?_)
          refine lv_aload_n hx hb dX2_height_37 rfl (lv_at hl 0 rfl) ?_
          refine lv_iload_n hx hb dX2_height_38 rfl (lv_at hl 1 rfl) ?_
          refine lv_iload hx hb dX2_height_39 (lv_at hl 4 rfl) ?_
          refine c2_i (As := [.int rc, .int (nI i28)]) (rest := []) S I (mX2_in l g n F L sl (by omega) rc (nI i28)) (cw2_in S.2.2.2.2 (by decide)) rfl hl.1 rfl (Nat.le_of_ble_eq_true rfl) dX2_height_41 (fun r u' H locs hp I => ?_)
          obtain ⟨rfl, rfl⟩ := hp
          refine lv_if_eq (tgt := 59) hx hb dX2_height_44 (by decide) (fun c_44 => ?_) (fun c_44 => ?_)
          · refine lv_iinc (v := nI (i28 + 1)) (lv' := [(5, .int (nI (i28 + 1))), (0, .ref (g.2.1 0)), (2, .int rc), (3, .int (nI (i16 + 1))), (4, .int (yhI F rc i28))]) hx hb dX2_height_59 hl (k := 4) rfl (nI_inc _) (by decide) rfl (fun ls hl => ?_)
            refine lv_goto (tgt := 28) hx hb dX2_height_62 (by decide) ?_
            have e_1 : yhI F rc (i28 + 1) = yhI F rc i28 := by simp only [yhI, if_neg c_5, if_neg c_19, if_neg c_34, if_pos c_44]
            exact ih28 (i28 + 1)  (by omega)  _ _ (by first | (rw [e_1]; exact I) | exact I | (simp only [e_1]; exact I)) _ (by first | (rw [e_1]; exact lv_sub hl [1, 2, 3, 4, 0] rfl) | exact lv_sub hl [1, 2, 3, 4, 0] rfl | (simp only [e_1]; exact lv_sub hl [1, 2, 3, 4, 0] rfl))
          · refine lv_iload hx hb dX2_height_47 (lv_at hl 3 rfl) ?_
            refine lv_aload_n hx hb dX2_height_49 rfl (lv_at hl 0 rfl) ?_
            refine g2_F S I dX2_height_50 ?_
            refine lv_iload hx hb dX2_height_53 (lv_at hl 4 rfl) ?_
            refine a2_ldF S I (k := i28) (by omega) dX2_height_55 ?_
            refine lv_ior hx hb dX2_height_56 ?_
            refine lv_istore (lv' := [(4, .int ((yhI F rc i28) ||| (F i28))), (0, .ref (g.2.1 0)), (2, .int rc), (3, .int (nI (i16 + 1))), (5, .int (nI i28))]) hx hb dX2_height_57 hl (by decide) rfl (fun ls hl => ?_)
            refine lv_iinc (v := nI (i28 + 1)) (lv' := [(5, .int (nI (i28 + 1))), (4, .int ((yhI F rc i28) ||| (F i28))), (0, .ref (g.2.1 0)), (2, .int rc), (3, .int (nI (i16 + 1)))]) hx hb dX2_height_59 hl (k := 4) rfl (nI_inc _) (by decide) rfl (fun ls hl => ?_)
            refine lv_goto (tgt := 28) hx hb dX2_height_62 (by decide) ?_
            have e_1 : yhI F rc (i28 + 1) = (yhI F rc i28) ||| (F i28) := by simp only [yhI, if_neg c_5, if_neg c_19, if_neg c_34, if_neg c_44]
            exact ih28 (i28 + 1)  (by omega)  _ _ (by first | (rw [e_1]; exact I) | exact I | (simp only [e_1]; exact I)) _ (by first | (rw [e_1]; exact lv_sub hl [2, 3, 4, 1, 0] rfl) | exact lv_sub hl [2, 3, 4, 1, 0] rfl | (simp only [e_1]; exact lv_sub hl [2, 3, 4, 1, 0] rfl))
      exact lp28 n 0  (by omega)  _ _ I _ (lv_sub hl [2, 3, 4, 1, 0] rfl)
  exact lp16 9 0 (xBit k) (by omega) rfl _ _ I _ (lv_sub hl [2, 1, 0] rfl)
end
section
set_option maxHeartbeats 4000000 in
set_option maxRecDepth 100000 in
theorem mX2_extra (l : Launch) (g : Geo) (n : Nat) (F L sl : Nat → Int32) (hn : n ≤ 9) (u v : Nat) (hu : u < n) (hv : v < n) : MI (x2 g) l yX2_extra cX2_extra 4 .boolean 1 [.ref (g.2.1 0), .int (nI u), .int (nI v)] (n, F, L, sl) (fun r u' => r = yEx n L u v ∧ u' = (n, F, L, sl)) := by
  refine MI_of (by decide) (Nat.le_of_ble_eq_true rfl) ?_
  intro p e s m args below meth c Q S kret ls hl I
  have hx := S.1
  have hb := S.2.1
  have hl : lv_has ls 4 [(0, .ref (g.2.1 0)), (1, .int (nI u)), (2, .int (nI v))] := hl
  refine lv_iconst (v := nI 0) hx hb dX2_extra_0 (by decide) ?_
  refine lv_istore_n (lv' := [(3, .int (nI 0)), (0, .ref (g.2.1 0)), (1, .int (nI u)), (2, .int (nI v))]) hx hb dX2_extra_1 rfl hl (by decide) rfl (fun ls hl => ?_)
  have lp2 : ∀ (k2 i2 : Nat), i2 + k2 = n → (∀ j, j < i2 → (xin (L u) (nI j) = 0 ∨ xin (L j) (nI v) = 0)) → ∀ (H : Heap) (locs : List Loc), XI (x2 g) s (n, F, L, sl) H locs → ∀ ls : Array Slot, lv_has ls 4 [(0, .ref (g.2.1 0)), (1, .int (nI u)), (2, .int (nI v)), (3, .int (nI i2))] → W p l e (rmd 1) s m args below meth c H locs 0 0 Q (F0 m 2 ls []) := by
    intro k2
    induction k2 with
    | zero =>
      intro i2  e2 hq H locs I ls hl
      have e2 : i2 = n := by omega
      rw [e2] at hl hq
      refine lv_iload_n hx hb dX2_extra_2 rfl (lv_at hl 3 rfl) ?_
      refine lv_aload_n hx hb dX2_extra_3 rfl (lv_at hl 0 rfl) ?_
      refine g2_n S I dX2_extra_4 ?_
      refine lv_icmp_ge (tgt := 46) hx hb dX2_extra_7 (by decide) (fun c_7 => ?_) (fun c_7 => absurd (nI_le (by omega) (by omega)) c_7)
      refine lv_iconst (v := 0) hx hb dX2_extra_46 (by decide) ?_
      exact kret _ _ _ _ _ _ dX2_extra_47 rfl ⟨by unfold yEx; rw [if_pos hq], rfl⟩ I
    | succ k2 ih2 =>
      intro i2  e2 hq H locs I ls hl
      refine lv_iload_n hx hb dX2_extra_2 rfl (lv_at hl 3 rfl) ?_
      refine lv_aload_n hx hb dX2_extra_3 rfl (lv_at hl 0 rfl) ?_
      refine g2_n S I dX2_extra_4 ?_
      refine lv_icmp_ge (tgt := 46) hx hb dX2_extra_7 (by decide) (fun c_7 => absurd c_7 (nI_ge (by omega) (by omega))) (fun c_7 => ?_)
      refine lv_aload_n hx hb dX2_extra_10 rfl (lv_at hl 0 rfl) ?_
      refine lv_aload_n hx hb dX2_extra_11 rfl (lv_at hl 0 rfl) ?_
      refine g2_L S I dX2_extra_12 ?_
      refine lv_iload_n hx hb dX2_extra_15 rfl (lv_at hl 1 rfl) ?_
      refine a2_ldL S I (k := u) (by omega) dX2_extra_16 ?_
      refine lv_iload_n hx hb dX2_extra_17 rfl (lv_at hl 3 rfl) ?_
      refine c2_i (As := [.int (L u), .int (nI i2)]) (rest := []) S I (mX2_in l g n F L sl (by omega) (L u) (nI i2)) (cw2_in S.2.2.2.2 (by decide)) rfl hl.1 rfl (Nat.le_of_ble_eq_true rfl) dX2_extra_18 (fun r u' H locs hp I => ?_)
      obtain ⟨rfl, rfl⟩ := hp
      refine lv_if_eq (tgt := 40) hx hb dX2_extra_21 (by decide) (fun c_21 => ?_) (fun c_21 => ?_)
      · refine lv_iinc (v := nI (i2 + 1)) (lv' := [(3, .int (nI (i2 + 1))), (0, .ref (g.2.1 0)), (1, .int (nI u)), (2, .int (nI v))]) hx hb dX2_extra_40 hl (k := 3) rfl (nI_inc _) (by decide) rfl (fun ls hl => ?_)
        refine lv_goto (tgt := 2) hx hb dX2_extra_43 (by decide) ?_
        exact ih2 (i2 + 1)  (by omega) (lt_s hq (by first | exact Or.inl c_21 | exact Or.inr c_35)) _ _ I _ (lv_sub hl [1, 2, 3, 0] rfl)
      · refine lv_aload_n hx hb dX2_extra_24 rfl (lv_at hl 0 rfl) ?_
        refine lv_aload_n hx hb dX2_extra_25 rfl (lv_at hl 0 rfl) ?_
        refine g2_L S I dX2_extra_26 ?_
        refine lv_iload_n hx hb dX2_extra_29 rfl (lv_at hl 3 rfl) ?_
        refine a2_ldL S I (k := i2) (by omega) dX2_extra_30 ?_
        refine lv_iload_n hx hb dX2_extra_31 rfl (lv_at hl 2 rfl) ?_
        refine c2_i (As := [.int (L i2), .int (nI v)]) (rest := []) S I (mX2_in l g n F L sl (by omega) (L i2) (nI v)) (cw2_in S.2.2.2.2 (by decide)) rfl hl.1 rfl (Nat.le_of_ble_eq_true rfl) dX2_extra_32 (fun r u' H locs hp I => ?_)
        obtain ⟨rfl, rfl⟩ := hp
        refine lv_if_eq (tgt := 40) hx hb dX2_extra_35 (by decide) (fun c_35 => ?_) (fun c_35 => ?_)
        · refine lv_iinc (v := nI (i2 + 1)) (lv' := [(3, .int (nI (i2 + 1))), (0, .ref (g.2.1 0)), (1, .int (nI u)), (2, .int (nI v))]) hx hb dX2_extra_40 hl (k := 3) rfl (nI_inc _) (by decide) rfl (fun ls hl => ?_)
          refine lv_goto (tgt := 2) hx hb dX2_extra_43 (by decide) ?_
          exact ih2 (i2 + 1)  (by omega) (lt_s hq (by first | exact Or.inl c_21 | exact Or.inr c_35)) _ _ I _ (lv_sub hl [1, 2, 3, 0] rfl)
        · refine lv_iconst (v := 1) hx hb dX2_extra_38 (by decide) ?_
          exact kret _ _ _ _ _ _ dX2_extra_39 rfl ⟨by unfold yEx; rw [if_neg (fun h => (h _ (by omega)).elim c_21 c_35)], rfl⟩ I
  exact lp2 n 0  (by omega) lt_0 _ _ I _ (lv_sub hl [1, 2, 3, 0] rfl)
set_option maxHeartbeats 4000000 in
set_option maxRecDepth 100000 in
theorem mX2_superfluous (l : Launch) (g : Geo) (n : Nat) (F L sl : Nat → Int32) (hn : n ≤ 9) : MI (x2 g) l yX2_superfluous cX2_superfluous 4 .int 2 [.ref (g.2.1 0)] (n, F, L, sl) (fun r u' => r = ysO n F (yFind n F L) n ∧ u' = (n, F, (yFind n F L), sl)) := by
  refine MI_of (by decide) (Nat.le_of_ble_eq_true rfl) ?_
  intro p e s m args below meth c Q S kret ls hl I
  have hx := S.1
  have hb := S.2.1
  have hl : lv_has ls 4 [(0, .ref (g.2.1 0))] := hl
  refine lv_aload_n hx hb dX2_superfluous_0 rfl (lv_at hl 0 rfl) ?_
  refine c2_v (As := []) (rest := []) S I (mX2_findLater l g n F L sl (by omega) ) (cw2_findLater S.2.2.2.2 (by decide)) rfl hl.1 rfl (Nat.le_of_ble_eq_true rfl) dX2_superfluous_1 (fun u' H locs hp I => ?_)
  subst hp
  refine lv_iconst (v := 0) hx hb dX2_superfluous_4 (by decide) ?_
  refine lv_istore_n (lv' := [(1, .int 0), (0, .ref (g.2.1 0))]) hx hb dX2_superfluous_5 rfl hl (by decide) rfl (fun ls hl => ?_)
  refine lv_iconst (v := nI 0) hx hb dX2_superfluous_6 (by decide) ?_
  refine lv_istore_n (lv' := [(2, .int (nI 0)), (1, .int 0), (0, .ref (g.2.1 0))]) hx hb dX2_superfluous_7 rfl hl (by decide) rfl (fun ls hl => ?_)
  have lp8 : ∀ (k8 i8 : Nat), i8 + k8 = n → ∀ (H : Heap) (locs : List Loc), XI (x2 g) s (n, F, (yFind n F L), sl) H locs → ∀ ls : Array Slot, lv_has ls 4 [(0, .ref (g.2.1 0)), (1, .int (ysO n F (yFind n F L) i8)), (2, .int (nI i8))] → W p l e (rmd 2) s m args below meth c H locs 0 0 Q (F0 m 8 ls []) := by
    intro k8
    induction k8 with
    | zero =>
      intro i8  e8  H locs I ls hl
      have e8 : i8 = n := by omega
      rw [e8] at hl
      refine lv_iload_n hx hb dX2_superfluous_8 rfl (lv_at hl 2 rfl) ?_
      refine lv_aload_n hx hb dX2_superfluous_9 rfl (lv_at hl 0 rfl) ?_
      refine g2_n S I dX2_superfluous_10 ?_
      refine lv_icmp_ge (tgt := 64) hx hb dX2_superfluous_13 (by decide) (fun c_13 => ?_) (fun c_13 => absurd (nI_le (by omega) (by omega)) c_13)
      refine lv_iload_n hx hb dX2_superfluous_64 rfl (lv_at hl 1 rfl) ?_
      exact kret _ _ _ _ _ _ dX2_superfluous_65 rfl ⟨rfl, rfl⟩ I
    | succ k8 ih8 =>
      intro i8  e8  H locs I ls hl
      refine lv_iload_n hx hb dX2_superfluous_8 rfl (lv_at hl 2 rfl) ?_
      refine lv_aload_n hx hb dX2_superfluous_9 rfl (lv_at hl 0 rfl) ?_
      refine g2_n S I dX2_superfluous_10 ?_
      refine lv_icmp_ge (tgt := 64) hx hb dX2_superfluous_13 (by decide) (fun c_13 => absurd c_13 (nI_ge (by omega) (by omega))) (fun c_13 => ?_)
      refine lv_iconst (v := nI 0) hx hb dX2_superfluous_16 (by decide) ?_
      refine lv_istore_n (lv' := [(3, .int (nI 0)), (0, .ref (g.2.1 0)), (1, .int (ysO n F (yFind n F L) i8)), (2, .int (nI i8))]) hx hb dX2_superfluous_17 rfl hl (by decide) rfl (fun ls hl => ?_)
      have lp18 : ∀ (k18 i18 : Nat), i18 + k18 = n → ∀ (H : Heap) (locs : List Loc), XI (x2 g) s (n, F, (yFind n F L), sl) H locs → ∀ ls : Array Slot, lv_has ls 4 [(0, .ref (g.2.1 0)), (1, .int (ysI n F (yFind n F L) i8 (ysO n F (yFind n F L) i8) i18)), (2, .int (nI i8)), (3, .int (nI i18))] → W p l e (rmd 2) s m args below meth c H locs 0 0 Q (F0 m 18 ls []) := by
        intro k18
        induction k18 with
        | zero =>
          intro i18  e18  H locs I ls hl
          have e18 : i18 = n := by omega
          rw [e18] at hl
          refine lv_iload_n hx hb dX2_superfluous_18 rfl (lv_at hl 3 rfl) ?_
          refine lv_aload_n hx hb dX2_superfluous_19 rfl (lv_at hl 0 rfl) ?_
          refine g2_n S I dX2_superfluous_20 ?_
          refine lv_icmp_ge (tgt := 58) hx hb dX2_superfluous_23 (by decide) (fun c_23 => ?_) (fun c_23 => absurd (nI_le (by omega) (by omega)) c_23)
          refine lv_iinc (v := nI (i8 + 1)) (lv' := [(2, .int (nI (i8 + 1))), (0, .ref (g.2.1 0)), (1, .int (ysI n F (yFind n F L) i8 (ysO n F (yFind n F L) i8) n)), (3, .int (nI n))]) hx hb dX2_superfluous_58 hl (k := 2) rfl (nI_inc _) (by decide) rfl (fun ls hl => ?_)
          refine lv_goto (tgt := 8) hx hb dX2_superfluous_61 (by decide) ?_
          have e_1 : ysO n F (yFind n F L) (i8 + 1) = ysI n F (yFind n F L) i8 (ysO n F (yFind n F L) i8) n := by simp only [ysO, if_neg c_13, if_pos c_23]
          exact ih8 (i8 + 1)  (by omega)  _ _ (by first | (rw [e_1]; exact I) | exact I | (simp only [e_1]; exact I)) _ (by first | (rw [e_1]; exact lv_sub hl [1, 2, 0] rfl) | exact lv_sub hl [1, 2, 0] rfl | (simp only [e_1]; exact lv_sub hl [1, 2, 0] rfl))
        | succ k18 ih18 =>
          intro i18  e18  H locs I ls hl
          refine lv_iload_n hx hb dX2_superfluous_18 rfl (lv_at hl 3 rfl) ?_
          refine lv_aload_n hx hb dX2_superfluous_19 rfl (lv_at hl 0 rfl) ?_
          refine g2_n S I dX2_superfluous_20 ?_
          refine lv_icmp_ge (tgt := 58) hx hb dX2_superfluous_23 (by decide) (fun c_23 => absurd c_23 (nI_ge (by omega) (by omega))) (fun c_23 => ?_)
          refine lv_aload_n hx hb dX2_superfluous_26 rfl (lv_at hl 0 rfl) ?_
          refine lv_aload_n hx hb dX2_superfluous_27 rfl (lv_at hl 0 rfl) ?_
          refine g2_F S I dX2_superfluous_28 ?_
          refine lv_iload_n hx hb dX2_superfluous_31 rfl (lv_at hl 2 rfl) ?_
          refine a2_ldF S I (k := i8) (by omega) dX2_superfluous_32 ?_
          refine lv_iload_n hx hb dX2_superfluous_33 rfl (lv_at hl 3 rfl) ?_
          refine c2_i (As := [.int (F i8), .int (nI i18)]) (rest := []) S I (mX2_in l g n F (yFind n F L) sl (by omega) (F i8) (nI i18)) (cw2_in S.2.2.2.2 (by decide)) rfl hl.1 rfl (Nat.le_of_ble_eq_true rfl) dX2_superfluous_34 (fun r u' H locs hp I => ?_)
          obtain ⟨rfl, rfl⟩ := hp
          refine lv_if_eq (tgt := 52) hx hb dX2_superfluous_37 (by decide) (fun c_37 => ?_) (fun c_37 => ?_)
          · refine lv_iinc (v := nI (i18 + 1)) (lv' := [(3, .int (nI (i18 + 1))), (0, .ref (g.2.1 0)), (1, .int (ysI n F (yFind n F L) i8 (ysO n F (yFind n F L) i8) i18)), (2, .int (nI i8))]) hx hb dX2_superfluous_52 hl (k := 3) rfl (nI_inc _) (by decide) rfl (fun ls hl => ?_)
            refine lv_goto (tgt := 18) hx hb dX2_superfluous_55 (by decide) ?_
            have e_1 : ysI n F (yFind n F L) i8 (ysO n F (yFind n F L) i8) (i18 + 1) = ysI n F (yFind n F L) i8 (ysO n F (yFind n F L) i8) i18 := by simp only [ysI, if_neg c_13, if_neg c_23, if_pos c_37]
            exact ih18 (i18 + 1)  (by omega)  _ _ (by first | (rw [e_1]; exact I) | exact I | (simp only [e_1]; exact I)) _ (by first | (rw [e_1]; exact lv_sub hl [1, 2, 3, 0] rfl) | exact lv_sub hl [1, 2, 3, 0] rfl | (simp only [e_1]; exact lv_sub hl [1, 2, 3, 0] rfl))
          · refine lv_aload_n hx hb dX2_superfluous_40 rfl (lv_at hl 0 rfl) ?_
            refine lv_iload_n hx hb dX2_superfluous_41 rfl (lv_at hl 2 rfl) ?_
            refine lv_iload_n hx hb dX2_superfluous_42 rfl (lv_at hl 3 rfl) ?_
            refine c2_i (As := [.int (nI i8), .int (nI i18)]) (rest := []) S I (mX2_extra l g n F (yFind n F L) sl (by omega) i8 i18 (by omega) (by omega)) (cw2_extra S.2.2.2.2 (by decide)) rfl hl.1 rfl (Nat.le_of_ble_eq_true rfl) dX2_superfluous_43 (fun r u' H locs hp I => ?_)
            obtain ⟨rfl, rfl⟩ := hp
            refine lv_if_eq (tgt := 52) hx hb dX2_superfluous_46 (by decide) (fun c_46 => ?_) (fun c_46 => ?_)
            · refine lv_iinc (v := nI (i18 + 1)) (lv' := [(3, .int (nI (i18 + 1))), (0, .ref (g.2.1 0)), (1, .int (ysI n F (yFind n F L) i8 (ysO n F (yFind n F L) i8) i18)), (2, .int (nI i8))]) hx hb dX2_superfluous_52 hl (k := 3) rfl (nI_inc _) (by decide) rfl (fun ls hl => ?_)
              refine lv_goto (tgt := 18) hx hb dX2_superfluous_55 (by decide) ?_
              have e_1 : ysI n F (yFind n F L) i8 (ysO n F (yFind n F L) i8) (i18 + 1) = ysI n F (yFind n F L) i8 (ysO n F (yFind n F L) i8) i18 := by simp only [ysI, if_neg c_13, if_neg c_23, if_neg c_37, if_pos c_46]
              exact ih18 (i18 + 1)  (by omega)  _ _ (by first | (rw [e_1]; exact I) | exact I | (simp only [e_1]; exact I)) _ (by first | (rw [e_1]; exact lv_sub hl [1, 2, 3, 0] rfl) | exact lv_sub hl [1, 2, 3, 0] rfl | (simp only [e_1]; exact lv_sub hl [1, 2, 3, 0] rfl))
            · refine lv_iinc (v := (ysI n F (yFind n F L) i8 (ysO n F (yFind n F L) i8) i18) + 1) (lv' := [(1, .int ((ysI n F (yFind n F L) i8 (ysO n F (yFind n F L) i8) i18) + 1)), (0, .ref (g.2.1 0)), (2, .int (nI i8)), (3, .int (nI i18))]) hx hb dX2_superfluous_49 hl (k := 1) rfl rfl (by decide) rfl (fun ls hl => ?_)
              refine lv_iinc (v := nI (i18 + 1)) (lv' := [(3, .int (nI (i18 + 1))), (1, .int ((ysI n F (yFind n F L) i8 (ysO n F (yFind n F L) i8) i18) + 1)), (0, .ref (g.2.1 0)), (2, .int (nI i8))]) hx hb dX2_superfluous_52 hl (k := 3) rfl (nI_inc _) (by decide) rfl (fun ls hl => ?_)
              refine lv_goto (tgt := 18) hx hb dX2_superfluous_55 (by decide) ?_
              have e_1 : ysI n F (yFind n F L) i8 (ysO n F (yFind n F L) i8) (i18 + 1) = (ysI n F (yFind n F L) i8 (ysO n F (yFind n F L) i8) i18) + 1 := by simp only [ysI, if_neg c_13, if_neg c_23, if_neg c_37, if_neg c_46]
              exact ih18 (i18 + 1)  (by omega)  _ _ (by first | (rw [e_1]; exact I) | exact I | (simp only [e_1]; exact I)) _ (by first | (rw [e_1]; exact lv_sub hl [2, 1, 3, 0] rfl) | exact lv_sub hl [2, 1, 3, 0] rfl | (simp only [e_1]; exact lv_sub hl [2, 1, 3, 0] rfl))
      exact lp18 n 0  (by omega)  _ _ I _ (lv_sub hl [1, 2, 3, 0] rfl)
  exact lp8 n 0  (by omega)  _ _ I _ (lv_sub hl [2, 1, 0] rfl)
set_option maxHeartbeats 4000000 in
set_option maxRecDepth 100000 in
theorem mX2_inTrees (l : Launch) (g : Geo) (n : Nat) (F L sl : Nat → Int32) (hn : n ≤ 9) : MI (x2 g) l yX2_inTrees cX2_inTrees 4 .boolean 2 [.ref (g.2.1 0)] (n, F, L, sl) (fun r u' => r = yIT n F (yFind n F L) ∧ u' = (n, F, (yFind n F L), sl)) := by
  refine MI_of (by decide) (Nat.le_of_ble_eq_true rfl) ?_
  intro p e s m args below meth c Q S kret ls hl I
  have hx := S.1
  have hb := S.2.1
  have hl : lv_has ls 4 [(0, .ref (g.2.1 0))] := hl
  refine lv_aload_n hx hb dX2_inTrees_0 rfl (lv_at hl 0 rfl) ?_
  refine c2_v (As := []) (rest := []) S I (mX2_findLater l g n F L sl (by omega) ) (cw2_findLater S.2.2.2.2 (by decide)) rfl hl.1 rfl (Nat.le_of_ble_eq_true rfl) dX2_inTrees_1 (fun u' H locs hp I => ?_)
  subst hp
  refine lv_iconst (v := nI 0) hx hb dX2_inTrees_4 (by decide) ?_
  refine lv_istore_n (lv' := [(1, .int (nI 0)), (0, .ref (g.2.1 0))]) hx hb dX2_inTrees_5 rfl hl (by decide) rfl (fun ls hl => ?_)
  have lp6 : ∀ (k6 i6 : Nat), i6 + k6 = n → (∀ j, j < i6 → ynI n F (yFind n F L) j n ≤ 1) → ∀ (H : Heap) (locs : List Loc), XI (x2 g) s (n, F, (yFind n F L), sl) H locs → ∀ ls : Array Slot, lv_has ls 4 [(0, .ref (g.2.1 0)), (1, .int (nI i6))] → W p l e (rmd 2) s m args below meth c H locs 0 0 Q (F0 m 6 ls []) := by
    intro k6
    induction k6 with
    | zero =>
      intro i6  e6 hq H locs I ls hl
      have e6 : i6 = n := by omega
      rw [e6] at hl hq
      refine lv_iload_n hx hb dX2_inTrees_6 rfl (lv_at hl 1 rfl) ?_
      refine lv_aload_n hx hb dX2_inTrees_7 rfl (lv_at hl 0 rfl) ?_
      refine g2_n S I dX2_inTrees_8 ?_
      refine lv_icmp_ge (tgt := 71) hx hb dX2_inTrees_11 (by decide) (fun c_11 => ?_) (fun c_11 => absurd (nI_le (by omega) (by omega)) c_11)
      refine lv_iconst (v := 1) hx hb dX2_inTrees_71 (by decide) ?_
      exact kret _ _ _ _ _ _ dX2_inTrees_72 rfl ⟨by unfold yIT; rw [if_pos hq], rfl⟩ I
    | succ k6 ih6 =>
      intro i6  e6 hq H locs I ls hl
      refine lv_iload_n hx hb dX2_inTrees_6 rfl (lv_at hl 1 rfl) ?_
      refine lv_aload_n hx hb dX2_inTrees_7 rfl (lv_at hl 0 rfl) ?_
      refine g2_n S I dX2_inTrees_8 ?_
      refine lv_icmp_ge (tgt := 71) hx hb dX2_inTrees_11 (by decide) (fun c_11 => absurd c_11 (nI_ge (by omega) (by omega))) (fun c_11 => ?_)
      refine lv_iconst (v := 0) hx hb dX2_inTrees_14 (by decide) ?_
      refine lv_istore_n (lv' := [(2, .int 0), (0, .ref (g.2.1 0)), (1, .int (nI i6))]) hx hb dX2_inTrees_15 rfl hl (by decide) rfl (fun ls hl => ?_)
      refine lv_iconst (v := nI 0) hx hb dX2_inTrees_16 (by decide) ?_
      refine lv_istore_n (lv' := [(3, .int (nI 0)), (2, .int 0), (0, .ref (g.2.1 0)), (1, .int (nI i6))]) hx hb dX2_inTrees_17 rfl hl (by decide) rfl (fun ls hl => ?_)
      have lp18 : ∀ (k18 i18 : Nat), i18 + k18 = n → ∀ (H : Heap) (locs : List Loc), XI (x2 g) s (n, F, (yFind n F L), sl) H locs → ∀ ls : Array Slot, lv_has ls 4 [(0, .ref (g.2.1 0)), (1, .int (nI i6)), (2, .int (ynI n F (yFind n F L) i6 i18)), (3, .int (nI i18))] → W p l e (rmd 2) s m args below meth c H locs 0 0 Q (F0 m 18 ls []) := by
        intro k18
        induction k18 with
        | zero =>
          intro i18  e18  H locs I ls hl
          have e18 : i18 = n := by omega
          rw [e18] at hl
          refine lv_iload_n hx hb dX2_inTrees_18 rfl (lv_at hl 3 rfl) ?_
          refine lv_aload_n hx hb dX2_inTrees_19 rfl (lv_at hl 0 rfl) ?_
          refine g2_n S I dX2_inTrees_20 ?_
          refine lv_icmp_ge (tgt := 58) hx hb dX2_inTrees_23 (by decide) (fun c_23 => ?_) (fun c_23 => absurd (nI_le (by omega) (by omega)) c_23)
          refine lv_iload_n hx hb dX2_inTrees_58 rfl (lv_at hl 2 rfl) ?_
          refine lv_iconst (v := 1) hx hb dX2_inTrees_59 (by decide) ?_
          refine lv_icmp_le (tgt := 65) hx hb dX2_inTrees_60 (by decide) (fun c_60 => ?_) (fun c_60 => ?_)
          · refine lv_iinc (v := nI (i6 + 1)) (lv' := [(1, .int (nI (i6 + 1))), (0, .ref (g.2.1 0)), (2, .int (ynI n F (yFind n F L) i6 n)), (3, .int (nI n))]) hx hb dX2_inTrees_65 hl (k := 1) rfl (nI_inc _) (by decide) rfl (fun ls hl => ?_)
            refine lv_goto (tgt := 6) hx hb dX2_inTrees_68 (by decide) ?_
            exact ih6 (i6 + 1)  (by omega) (lt_s hq c_60) _ _ I _ (lv_sub hl [1, 0] rfl)
          · refine lv_iconst (v := 0) hx hb dX2_inTrees_63 (by decide) ?_
            exact kret _ _ _ _ _ _ dX2_inTrees_64 rfl ⟨by unfold yIT; rw [if_neg (fun h => c_60 (h _ (by omega)))], rfl⟩ I
        | succ k18 ih18 =>
          intro i18  e18  H locs I ls hl
          refine lv_iload_n hx hb dX2_inTrees_18 rfl (lv_at hl 3 rfl) ?_
          refine lv_aload_n hx hb dX2_inTrees_19 rfl (lv_at hl 0 rfl) ?_
          refine g2_n S I dX2_inTrees_20 ?_
          refine lv_icmp_ge (tgt := 58) hx hb dX2_inTrees_23 (by decide) (fun c_23 => absurd c_23 (nI_ge (by omega) (by omega))) (fun c_23 => ?_)
          refine lv_aload_n hx hb dX2_inTrees_26 rfl (lv_at hl 0 rfl) ?_
          refine lv_aload_n hx hb dX2_inTrees_27 rfl (lv_at hl 0 rfl) ?_
          refine g2_F S I dX2_inTrees_28 ?_
          refine lv_iload_n hx hb dX2_inTrees_31 rfl (lv_at hl 1 rfl) ?_
          refine a2_ldF S I (k := i6) (by omega) dX2_inTrees_32 ?_
          refine lv_iload_n hx hb dX2_inTrees_33 rfl (lv_at hl 3 rfl) ?_
          refine c2_i (As := [.int (F i6), .int (nI i18)]) (rest := []) S I (mX2_in l g n F (yFind n F L) sl (by omega) (F i6) (nI i18)) (cw2_in S.2.2.2.2 (by decide)) rfl hl.1 rfl (Nat.le_of_ble_eq_true rfl) dX2_inTrees_34 (fun r u' H locs hp I => ?_)
          obtain ⟨rfl, rfl⟩ := hp
          refine lv_if_eq (tgt := 52) hx hb dX2_inTrees_37 (by decide) (fun c_37 => ?_) (fun c_37 => ?_)
          · refine lv_iinc (v := nI (i18 + 1)) (lv' := [(3, .int (nI (i18 + 1))), (0, .ref (g.2.1 0)), (1, .int (nI i6)), (2, .int (ynI n F (yFind n F L) i6 i18))]) hx hb dX2_inTrees_52 hl (k := 3) rfl (nI_inc _) (by decide) rfl (fun ls hl => ?_)
            refine lv_goto (tgt := 18) hx hb dX2_inTrees_55 (by decide) ?_
            have e_1 : ynI n F (yFind n F L) i6 (i18 + 1) = ynI n F (yFind n F L) i6 i18 := by simp only [ynI, if_neg c_11, if_neg c_23, if_pos c_37]
            exact ih18 (i18 + 1)  (by omega)  _ _ (by first | (rw [e_1]; exact I) | exact I | (simp only [e_1]; exact I)) _ (by first | (rw [e_1]; exact lv_sub hl [1, 2, 3, 0] rfl) | exact lv_sub hl [1, 2, 3, 0] rfl | (simp only [e_1]; exact lv_sub hl [1, 2, 3, 0] rfl))
          · refine lv_aload_n hx hb dX2_inTrees_40 rfl (lv_at hl 0 rfl) ?_
            refine lv_iload_n hx hb dX2_inTrees_41 rfl (lv_at hl 1 rfl) ?_
            refine lv_iload_n hx hb dX2_inTrees_42 rfl (lv_at hl 3 rfl) ?_
            refine c2_i (As := [.int (nI i6), .int (nI i18)]) (rest := []) S I (mX2_extra l g n F (yFind n F L) sl (by omega) i6 i18 (by omega) (by omega)) (cw2_extra S.2.2.2.2 (by decide)) rfl hl.1 rfl (Nat.le_of_ble_eq_true rfl) dX2_inTrees_43 (fun r u' H locs hp I => ?_)
            obtain ⟨rfl, rfl⟩ := hp
            refine lv_if_ne (tgt := 52) hx hb dX2_inTrees_46 (by decide) (fun c_46 => ?_) (fun c_46 => ?_)
            · refine lv_iinc (v := nI (i18 + 1)) (lv' := [(3, .int (nI (i18 + 1))), (0, .ref (g.2.1 0)), (1, .int (nI i6)), (2, .int (ynI n F (yFind n F L) i6 i18))]) hx hb dX2_inTrees_52 hl (k := 3) rfl (nI_inc _) (by decide) rfl (fun ls hl => ?_)
              refine lv_goto (tgt := 18) hx hb dX2_inTrees_55 (by decide) ?_
              have e_1 : ynI n F (yFind n F L) i6 (i18 + 1) = ynI n F (yFind n F L) i6 i18 := by simp only [ynI, if_neg c_11, if_neg c_23, if_neg c_37, if_neg c_46]
              exact ih18 (i18 + 1)  (by omega)  _ _ (by first | (rw [e_1]; exact I) | exact I | (simp only [e_1]; exact I)) _ (by first | (rw [e_1]; exact lv_sub hl [1, 2, 3, 0] rfl) | exact lv_sub hl [1, 2, 3, 0] rfl | (simp only [e_1]; exact lv_sub hl [1, 2, 3, 0] rfl))
            · refine lv_iinc (v := (ynI n F (yFind n F L) i6 i18) + 1) (lv' := [(2, .int ((ynI n F (yFind n F L) i6 i18) + 1)), (0, .ref (g.2.1 0)), (1, .int (nI i6)), (3, .int (nI i18))]) hx hb dX2_inTrees_49 hl (k := 2) rfl rfl (by decide) rfl (fun ls hl => ?_)
              refine lv_iinc (v := nI (i18 + 1)) (lv' := [(3, .int (nI (i18 + 1))), (2, .int ((ynI n F (yFind n F L) i6 i18) + 1)), (0, .ref (g.2.1 0)), (1, .int (nI i6))]) hx hb dX2_inTrees_52 hl (k := 3) rfl (nI_inc _) (by decide) rfl (fun ls hl => ?_)
              refine lv_goto (tgt := 18) hx hb dX2_inTrees_55 (by decide) ?_
              have e_1 : ynI n F (yFind n F L) i6 (i18 + 1) = (ynI n F (yFind n F L) i6 i18) + 1 := by simp only [ynI, if_neg c_11, if_neg c_23, if_neg c_37, if_pos c_46]
              exact ih18 (i18 + 1)  (by omega)  _ _ (by first | (rw [e_1]; exact I) | exact I | (simp only [e_1]; exact I)) _ (by first | (rw [e_1]; exact lv_sub hl [2, 3, 1, 0] rfl) | exact lv_sub hl [2, 3, 1, 0] rfl | (simp only [e_1]; exact lv_sub hl [2, 3, 1, 0] rfl))
      exact lp18 n 0  (by omega)  _ _ I _ (lv_sub hl [2, 3, 1, 0] rfl)
  exact lp6 n 0  (by omega) lt_0 _ _ I _ (lv_sub hl [1, 0] rfl)
set_option maxHeartbeats 4000000 in
set_option maxRecDepth 100000 in
theorem mX2_sizeOf (l : Launch) (g : Geo) (n : Nat) (F L sl : Nat → Int32) (hn : n ≤ 9) (x : Int32) : MI (x2 g) l yX2_sizeOf cX2_sizeOf 4 .int 1 [.ref (g.2.1 0), .int x] (n, F, L, sl) (fun r u' => r = ySz x ∧ u' = (n, F, L, sl)) := by
  refine MI_of (by decide) (Nat.le_of_ble_eq_true rfl) ?_
  intro p e s m args below meth c Q S kret ls hl I
  have hx := S.1
  have hb := S.2.1
  have hl : lv_has ls 4 [(0, .ref (g.2.1 0)), (1, .int x)] := hl
  refine lv_iconst (v := 0) hx hb dX2_sizeOf_0 (by decide) ?_
  refine lv_istore_n (lv' := [(2, .int 0), (0, .ref (g.2.1 0)), (1, .int x)]) hx hb dX2_sizeOf_1 rfl hl (by decide) rfl (fun ls hl => ?_)
  refine lv_iconst (v := nI 0) hx hb dX2_sizeOf_2 (by decide) ?_
  refine lv_istore_n (lv' := [(3, .int (nI 0)), (2, .int 0), (0, .ref (g.2.1 0)), (1, .int x)]) hx hb dX2_sizeOf_3 rfl hl (by decide) rfl (fun ls hl => ?_)
  have lp4 : ∀ (k4 i4 : Nat), i4 + k4 = 9 → ∀ (H : Heap) (locs : List Loc), XI (x2 g) s (n, F, L, sl) H locs → ∀ ls : Array Slot, lv_has ls 4 [(0, .ref (g.2.1 0)), (1, .int x), (2, .int (yzI x i4)), (3, .int (nI i4))] → W p l e (rmd 1) s m args below meth c H locs 0 0 Q (F0 m 4 ls []) := by
    intro k4
    induction k4 with
    | zero =>
      intro i4  e4  H locs I ls hl
      have e4 : i4 = 9 := by omega
      rw [e4] at hl
      refine lv_iload_n hx hb dX2_sizeOf_4 rfl (lv_at hl 3 rfl) ?_
      refine lv_bipush (v := nI 9) hx hb dX2_sizeOf_5 (by decide) ?_
      refine lv_icmp_ge (tgt := 28) hx hb dX2_sizeOf_7 (by decide) (fun c_7 => ?_) (fun c_7 => absurd (nI_le (by omega) (by omega)) c_7)
      refine lv_iload_n hx hb dX2_sizeOf_28 rfl (lv_at hl 2 rfl) ?_
      exact kret _ _ _ _ _ _ dX2_sizeOf_29 rfl ⟨rfl, rfl⟩ I
    | succ k4 ih4 =>
      intro i4  e4  H locs I ls hl
      refine lv_iload_n hx hb dX2_sizeOf_4 rfl (lv_at hl 3 rfl) ?_
      refine lv_bipush (v := nI 9) hx hb dX2_sizeOf_5 (by decide) ?_
      refine lv_icmp_ge (tgt := 28) hx hb dX2_sizeOf_7 (by decide) (fun c_7 => absurd c_7 (nI_ge (by omega) (by omega))) (fun c_7 => ?_)
      refine lv_aload_n hx hb dX2_sizeOf_10 rfl (lv_at hl 0 rfl) ?_
      refine lv_iload_n hx hb dX2_sizeOf_11 rfl (lv_at hl 1 rfl) ?_
      refine lv_iload_n hx hb dX2_sizeOf_12 rfl (lv_at hl 3 rfl) ?_
      refine c2_i (As := [.int x, .int (nI i4)]) (rest := []) S I (mX2_in l g n F L sl (by omega) x (nI i4)) (cw2_in S.2.2.2.2 (by decide)) rfl hl.1 rfl (Nat.le_of_ble_eq_true rfl) dX2_sizeOf_13 (fun r u' H locs hp I => ?_)
      obtain ⟨rfl, rfl⟩ := hp
      refine lv_if_eq (tgt := 22) hx hb dX2_sizeOf_16 (by decide) (fun c_16 => ?_) (fun c_16 => ?_)
      · refine lv_iinc (v := nI (i4 + 1)) (lv' := [(3, .int (nI (i4 + 1))), (0, .ref (g.2.1 0)), (1, .int x), (2, .int (yzI x i4))]) hx hb dX2_sizeOf_22 hl (k := 3) rfl (nI_inc _) (by decide) rfl (fun ls hl => ?_)
        refine lv_goto (tgt := 4) hx hb dX2_sizeOf_25 (by decide) ?_
        have e_1 : yzI x (i4 + 1) = yzI x i4 := by simp only [yzI, if_neg c_7, if_pos c_16]
        exact ih4 (i4 + 1)  (by omega)  _ _ (by first | (rw [e_1]; exact I) | exact I | (simp only [e_1]; exact I)) _ (by first | (rw [e_1]; exact lv_sub hl [1, 2, 3, 0] rfl) | exact lv_sub hl [1, 2, 3, 0] rfl | (simp only [e_1]; exact lv_sub hl [1, 2, 3, 0] rfl))
      · refine lv_iinc (v := (yzI x i4) + 1) (lv' := [(2, .int ((yzI x i4) + 1)), (0, .ref (g.2.1 0)), (1, .int x), (3, .int (nI i4))]) hx hb dX2_sizeOf_19 hl (k := 2) rfl rfl (by decide) rfl (fun ls hl => ?_)
        refine lv_iinc (v := nI (i4 + 1)) (lv' := [(3, .int (nI (i4 + 1))), (2, .int ((yzI x i4) + 1)), (0, .ref (g.2.1 0)), (1, .int x)]) hx hb dX2_sizeOf_22 hl (k := 3) rfl (nI_inc _) (by decide) rfl (fun ls hl => ?_)
        refine lv_goto (tgt := 4) hx hb dX2_sizeOf_25 (by decide) ?_
        have e_1 : yzI x (i4 + 1) = (yzI x i4) + 1 := by simp only [yzI, if_neg c_7, if_neg c_16]
        exact ih4 (i4 + 1)  (by omega)  _ _ (by first | (rw [e_1]; exact I) | exact I | (simp only [e_1]; exact I)) _ (by first | (rw [e_1]; exact lv_sub hl [2, 3, 1, 0] rfl) | exact lv_sub hl [2, 3, 1, 0] rfl | (simp only [e_1]; exact lv_sub hl [2, 3, 1, 0] rfl))
  exact lp4 9 0  (by omega)  _ _ I _ (lv_sub hl [2, 3, 1, 0] rfl)
set_option maxHeartbeats 4000000 in
set_option maxRecDepth 100000 in
theorem mX2_open (l : Launch) (g : Geo) (n : Nat) (F L sl : Nat → Int32) (hn : n ≤ 9) (st dn : Int32) : MI (x2 g) l yX2_open cX2_open 5 .int 1 [.ref (g.2.1 0), .int st, .int dn] (n, F, L, sl) (fun r u' => r = yOp n F st dn ∧ u' = (n, F, L, sl)) := by
  refine MI_of (by decide) (Nat.le_of_ble_eq_true rfl) ?_
  intro p e s m args below meth c Q S kret ls hl I
  have hx := S.1
  have hb := S.2.1
  have hl : lv_has ls 5 [(0, .ref (g.2.1 0)), (1, .int st), (2, .int dn)] := hl
  refine lv_iconst (v := 0) hx hb dX2_open_0 (by decide) ?_
  refine lv_istore_n (lv' := [(3, .int 0), (0, .ref (g.2.1 0)), (1, .int st), (2, .int dn)]) hx hb dX2_open_1 rfl hl (by decide) rfl (fun ls hl => ?_)
  refine lv_iconst (v := nI 0) hx hb dX2_open_2 (by decide) ?_
  refine lv_istore (lv' := [(4, .int (nI 0)), (3, .int 0), (0, .ref (g.2.1 0)), (1, .int st), (2, .int dn)]) hx hb dX2_open_3 hl (by decide) rfl (fun ls hl => ?_)
  have lp5 : ∀ (k5 i5 : Nat), i5 + k5 = n → ∀ (H : Heap) (locs : List Loc), XI (x2 g) s (n, F, L, sl) H locs → ∀ ls : Array Slot, lv_has ls 5 [(0, .ref (g.2.1 0)), (1, .int st), (2, .int dn), (3, .int (yoI F st dn i5)), (4, .int (nI i5))] → W p l e (rmd 1) s m args below meth c H locs 0 0 Q (F0 m 5 ls []) := by
    intro k5
    induction k5 with
    | zero =>
      intro i5  e5  H locs I ls hl
      have e5 : i5 = n := by omega
      rw [e5] at hl
      refine lv_iload hx hb dX2_open_5 (lv_at hl 4 rfl) ?_
      refine lv_aload_n hx hb dX2_open_7 rfl (lv_at hl 0 rfl) ?_
      refine g2_n S I dX2_open_8 ?_
      refine lv_icmp_ge (tgt := 50) hx hb dX2_open_11 (by decide) (fun c_11 => ?_) (fun c_11 => absurd (nI_le (by omega) (by omega)) c_11)
      refine lv_iload_n hx hb dX2_open_50 rfl (lv_at hl 1 rfl) ?_
      refine lv_iload_n hx hb dX2_open_51 rfl (lv_at hl 2 rfl) ?_
      refine lv_iconst (v := (-1)) hx hb dX2_open_52 (by decide) ?_
      refine lv_ixor hx hb dX2_open_53 ?_
      refine lv_iand hx hb dX2_open_54 ?_
      refine lv_iload_n hx hb dX2_open_55 rfl (lv_at hl 3 rfl) ?_
      refine lv_iconst (v := (-1)) hx hb dX2_open_56 (by decide) ?_
      refine lv_ixor hx hb dX2_open_57 ?_
      refine lv_iand hx hb dX2_open_58 ?_
      exact kret _ _ _ _ _ _ dX2_open_59 rfl ⟨rfl, rfl⟩ I
    | succ k5 ih5 =>
      intro i5  e5  H locs I ls hl
      refine lv_iload hx hb dX2_open_5 (lv_at hl 4 rfl) ?_
      refine lv_aload_n hx hb dX2_open_7 rfl (lv_at hl 0 rfl) ?_
      refine g2_n S I dX2_open_8 ?_
      refine lv_icmp_ge (tgt := 50) hx hb dX2_open_11 (by decide) (fun c_11 => absurd c_11 (nI_ge (by omega) (by omega))) (fun c_11 => ?_)
      refine lv_aload_n hx hb dX2_open_14 rfl (lv_at hl 0 rfl) ?_
      refine lv_iload_n hx hb dX2_open_15 rfl (lv_at hl 1 rfl) ?_
      refine lv_iload hx hb dX2_open_16 (lv_at hl 4 rfl) ?_
      refine c2_i (As := [.int st, .int (nI i5)]) (rest := []) S I (mX2_in l g n F L sl (by omega) st (nI i5)) (cw2_in S.2.2.2.2 (by decide)) rfl hl.1 rfl (Nat.le_of_ble_eq_true rfl) dX2_open_18 (fun r u' H locs hp I => ?_)
      obtain ⟨rfl, rfl⟩ := hp
      refine lv_if_eq (tgt := 44) hx hb dX2_open_21 (by decide) (fun c_21 => ?_) (fun c_21 => ?_)
      · refine lv_iinc (v := nI (i5 + 1)) (lv' := [(4, .int (nI (i5 + 1))), (0, .ref (g.2.1 0)), (1, .int st), (2, .int dn), (3, .int (yoI F st dn i5))]) hx hb dX2_open_44 hl (k := 4) rfl (nI_inc _) (by decide) rfl (fun ls hl => ?_)
        refine lv_goto (tgt := 5) hx hb dX2_open_47 (by decide) ?_
        have e_1 : yoI F st dn (i5 + 1) = yoI F st dn i5 := by simp only [yoI, if_neg c_11, if_pos c_21]
        exact ih5 (i5 + 1)  (by omega)  _ _ (by first | (rw [e_1]; exact I) | exact I | (simp only [e_1]; exact I)) _ (by first | (rw [e_1]; exact lv_sub hl [1, 2, 3, 4, 0] rfl) | exact lv_sub hl [1, 2, 3, 4, 0] rfl | (simp only [e_1]; exact lv_sub hl [1, 2, 3, 4, 0] rfl))
      · refine lv_aload_n hx hb dX2_open_24 rfl (lv_at hl 0 rfl) ?_
        refine lv_iload_n hx hb dX2_open_25 rfl (lv_at hl 2 rfl) ?_
        refine lv_iload hx hb dX2_open_26 (lv_at hl 4 rfl) ?_
        refine c2_i (As := [.int dn, .int (nI i5)]) (rest := []) S I (mX2_in l g n F L sl (by omega) dn (nI i5)) (cw2_in S.2.2.2.2 (by decide)) rfl hl.1 rfl (Nat.le_of_ble_eq_true rfl) dX2_open_28 (fun r u' H locs hp I => ?_)
        obtain ⟨rfl, rfl⟩ := hp
        refine lv_if_ne (tgt := 44) hx hb dX2_open_31 (by decide) (fun c_31 => ?_) (fun c_31 => ?_)
        · refine lv_iinc (v := nI (i5 + 1)) (lv' := [(4, .int (nI (i5 + 1))), (0, .ref (g.2.1 0)), (1, .int st), (2, .int dn), (3, .int (yoI F st dn i5))]) hx hb dX2_open_44 hl (k := 4) rfl (nI_inc _) (by decide) rfl (fun ls hl => ?_)
          refine lv_goto (tgt := 5) hx hb dX2_open_47 (by decide) ?_
          have e_1 : yoI F st dn (i5 + 1) = yoI F st dn i5 := by simp only [yoI, if_neg c_11, if_neg c_21, if_neg c_31]
          exact ih5 (i5 + 1)  (by omega)  _ _ (by first | (rw [e_1]; exact I) | exact I | (simp only [e_1]; exact I)) _ (by first | (rw [e_1]; exact lv_sub hl [1, 2, 3, 4, 0] rfl) | exact lv_sub hl [1, 2, 3, 4, 0] rfl | (simp only [e_1]; exact lv_sub hl [1, 2, 3, 4, 0] rfl))
        · refine lv_iload_n hx hb dX2_open_34 rfl (lv_at hl 3 rfl) ?_
          refine lv_aload_n hx hb dX2_open_35 rfl (lv_at hl 0 rfl) ?_
          refine g2_F S I dX2_open_36 ?_
          refine lv_iload hx hb dX2_open_39 (lv_at hl 4 rfl) ?_
          refine a2_ldF S I (k := i5) (by omega) dX2_open_41 ?_
          refine lv_ior hx hb dX2_open_42 ?_
          refine lv_istore_n (lv' := [(3, .int ((yoI F st dn i5) ||| (F i5))), (0, .ref (g.2.1 0)), (1, .int st), (2, .int dn), (4, .int (nI i5))]) hx hb dX2_open_43 rfl hl (by decide) rfl (fun ls hl => ?_)
          refine lv_iinc (v := nI (i5 + 1)) (lv' := [(4, .int (nI (i5 + 1))), (3, .int ((yoI F st dn i5) ||| (F i5))), (0, .ref (g.2.1 0)), (1, .int st), (2, .int dn)]) hx hb dX2_open_44 hl (k := 4) rfl (nI_inc _) (by decide) rfl (fun ls hl => ?_)
          refine lv_goto (tgt := 5) hx hb dX2_open_47 (by decide) ?_
          have e_1 : yoI F st dn (i5 + 1) = (yoI F st dn i5) ||| (F i5) := by simp only [yoI, if_neg c_11, if_neg c_21, if_pos c_31]
          exact ih5 (i5 + 1)  (by omega)  _ _ (by first | (rw [e_1]; exact I) | exact I | (simp only [e_1]; exact I)) _ (by first | (rw [e_1]; exact lv_sub hl [2, 3, 4, 1, 0] rfl) | exact lv_sub hl [2, 3, 4, 1, 0] rfl | (simp only [e_1]; exact lv_sub hl [2, 3, 4, 1, 0] rfl))
  exact lp5 n 0  (by omega)  _ _ I _ (lv_sub hl [2, 3, 4, 1, 0] rfl)
end
section
set_option maxHeartbeats 4000000 in
set_option maxRecDepth 100000 in
theorem mX2_least (l : Launch) (g : Geo) (n : Nat) (F L sl : Nat → Int32) (hn : n ≤ 9) (z : Nat) (hz : z = 512) (t : Nat) (ht : t < 512) (mm : Int32) : MI (x2 g) l yX2_least cX2_least 6 .int 2 [.ref (g.2.1 0), .int (nI t), .int mm] (n, F, L, sl) (fun r u' => r = yLst z n F (nI t) mm sl t ∧ u' = (n, F, L, yLst z n F (nI t) mm sl)) := by
  refine MI_of (by decide) (Nat.le_of_ble_eq_true rfl) ?_
  intro p e s m args below meth c Q S kret ls hl I
  have hx := S.1
  have hb := S.2.1
  have hl : lv_has ls 6 [(0, .ref (g.2.1 0)), (1, .int (nI t)), (2, .int mm)] := hl
  refine lv_iconst (v := nI 0) hx hb dX2_least_0 (by decide) ?_
  refine lv_istore_n (lv' := [(3, .int (nI 0)), (0, .ref (g.2.1 0)), (1, .int (nI t)), (2, .int mm)]) hx hb dX2_least_1 rfl hl (by decide) rfl (fun ls hl => ?_)
  have lp2 : ∀ (k2 i2 : Nat), i2 + k2 = z → ∀ (H : Heap) (locs : List Loc), XI (x2 g) s (n, F, L, (ylA sl i2)) H locs → ∀ ls : Array Slot, lv_has ls 6 [(0, .ref (g.2.1 0)), (1, .int (nI t)), (2, .int mm), (3, .int (nI i2))] → W p l e (rmd 2) s m args below meth c H locs 0 0 Q (F0 m 2 ls []) := by
    intro k2
    induction k2 with
    | zero =>
      intro i2  e2  H locs I ls hl
      have e2 : i2 = z := by omega
      rw [e2] at I hl
      refine lv_iload_n hx hb dX2_least_2 rfl (lv_at hl 3 rfl) ?_
      refine lv_sipush (v := nI z) hx hb dX2_least_3 (by rw [hz]; decide) ?_
      refine lv_icmp_ge (tgt := 31) hx hb dX2_least_6 (by decide) (fun c_6 => ?_) (fun c_6 => absurd (nI_le (by omega) (by omega)) c_6)
      refine lv_iconst (v := nI 0) hx hb dX2_least_31 (by decide) ?_
      refine lv_istore_n (lv' := [(3, .int (nI 0)), (0, .ref (g.2.1 0)), (1, .int (nI t)), (2, .int mm)]) hx hb dX2_least_32 rfl hl (by decide) rfl (fun ls hl => ?_)
      have lp33 : ∀ (k33 i33 : Nat), i33 + k33 = z → ∀ (H : Heap) (locs : List Loc), XI (x2 g) s (n, F, L, (ylO z n F (nI t) mm (ylA sl z) i33)) H locs → ∀ ls : Array Slot, lv_has ls 6 [(0, .ref (g.2.1 0)), (1, .int (nI t)), (2, .int mm), (3, .int (nI i33))] → W p l e (rmd 2) s m args below meth c H locs 0 0 Q (F0 m 33 ls []) := by
        intro k33
        induction k33 with
        | zero =>
          intro i33  e33  H locs I ls hl
          have e33 : i33 = z := by omega
          rw [e33] at I hl
          refine lv_iload_n hx hb dX2_least_33 rfl (lv_at hl 3 rfl) ?_
          refine lv_sipush (v := nI z) hx hb dX2_least_34 (by rw [hz]; decide) ?_
          refine lv_icmp_ge (tgt := 137) hx hb dX2_least_37 (by decide) (fun c_37 => ?_) (fun c_37 => absurd (nI_le (by omega) (by omega)) c_37)
          refine lv_aload_n hx hb dX2_least_137 rfl (lv_at hl 0 rfl) ?_
          refine g2_sl S I dX2_least_138 ?_
          refine lv_iload_n hx hb dX2_least_141 rfl (lv_at hl 1 rfl) ?_
          refine a2_ldsl S I (k := t) (by omega) dX2_least_142 ?_
          exact kret _ _ _ _ _ _ dX2_least_143 rfl ⟨rfl, rfl⟩ I
        | succ k33 ih33 =>
          intro i33  e33  H locs I ls hl
          obtain ⟨b, hb9, eb⟩ := yOpn_nat (n := n) (F := F) ht (ylO z n F (nI t) mm (ylA sl z) i33) i33
          refine lv_iload_n hx hb dX2_least_33 rfl (lv_at hl 3 rfl) ?_
          refine lv_sipush (v := nI z) hx hb dX2_least_34 (by rw [hz]; decide) ?_
          refine lv_icmp_ge (tgt := 137) hx hb dX2_least_37 (by decide) (fun c_37 => absurd c_37 (nI_ge (by omega) (by omega))) (fun c_37 => ?_)
          refine lv_aload_n hx hb dX2_least_40 rfl (lv_at hl 0 rfl) ?_
          refine g2_sl S I dX2_least_41 ?_
          refine lv_iload_n hx hb dX2_least_44 rfl (lv_at hl 3 rfl) ?_
          refine a2_ldsl S I (k := i33) (by omega) dX2_least_45 ?_
          refine lv_bipush (v := 100) hx hb dX2_least_46 (by decide) ?_
          have jn61 : ∀ (H : Heap) (locs : List Loc), XI (x2 g) s (n, F, L, (ylO z n F (nI t) mm (ylA sl z) i33)) H locs → ∀ ls : Array Slot, lv_has ls 6 [(0, .ref (g.2.1 0)), (1, .int (nI t)), (2, .int mm), (3, .int (nI i33))] → W p l e (rmd 2) s m args below meth c H locs 0 0 Q (F0 m 61 ls [.int (nI b)]) := by
            intro H locs I ls hl
            refine lv_istore (lv' := [(4, .int (nI b)), (0, .ref (g.2.1 0)), (1, .int (nI t)), (2, .int mm), (3, .int (nI i33))]) hx hb dX2_least_61 hl (by decide) rfl (fun ls hl => ?_)
            refine lv_iload hx hb dX2_least_63 (lv_at hl 0 rfl) ?_
            refine lv_istore (lv' := [(5, .int (nI b)), (4, .int (nI b)), (0, .ref (g.2.1 0)), (1, .int (nI t)), (2, .int mm), (3, .int (nI i33))]) hx hb dX2_least_65 hl (by decide) rfl (fun ls hl => ?_)
            have lp67 : ∀ (k67 i67 : Nat) (a : Nat) (sl2 : Nat → Int32), i67 + k67 = z → (a ≤ k67) → (a < 512) → (ylI mm i33 (nI b) k67 (nI a) sl2 = ylO z n F (nI t) mm (ylA sl z) (i33 + 1)) → ∀ (H : Heap) (locs : List Loc), XI (x2 g) s (n, F, L, sl2) H locs → ∀ ls : Array Slot, lv_has ls 6 [(0, .ref (g.2.1 0)), (1, .int (nI t)), (2, .int mm), (3, .int (nI i33)), (4, .int (nI b)), (5, .int (nI a))] → W p l e (rmd 2) s m args below meth c H locs 0 0 Q (F0 m 67 ls []) := by
              intro k67
              induction k67 with
              | zero =>
                intro i67 a sl2 e67 ha ha9 hq H locs I ls hl
                refine lv_iload hx hb dX2_least_67 (lv_at hl 5 rfl) ?_
                refine lv_if_le (tgt := 131) hx hb dX2_least_69 (by decide) (fun c_69 => ?_) (fun c_69 => absurd (nI_le0 ha) c_69)
                refine lv_iinc (v := nI (i33 + 1)) (lv' := [(3, .int (nI (i33 + 1))), (0, .ref (g.2.1 0)), (1, .int (nI t)), (2, .int mm), (4, .int (nI b)), (5, .int (nI a))]) hx hb dX2_least_131 hl (k := 3) rfl (nI_inc _) (by decide) rfl (fun ls hl => ?_)
                refine lv_goto (tgt := 33) hx hb dX2_least_134 (by decide) ?_
                have e_1 : ylO z n F (nI t) mm (ylA sl z) (i33 + 1) = sl2 := by first | exact hq.symm | (rw [← hq]; simp only [ylI, if_pos c_69])
                exact ih33 (i33 + 1)  (by omega)  _ _ (by first | (rw [e_1]; exact I) | exact I | (simp only [e_1]; exact I)) _ (by first | (rw [e_1]; exact lv_sub hl [1, 2, 3, 0] rfl) | exact lv_sub hl [1, 2, 3, 0] rfl | (simp only [e_1]; exact lv_sub hl [1, 2, 3, 0] rfl))
              | succ k67 ih67 =>
                intro i67 a sl2 e67 ha ha9 hq H locs I ls hl
                refine lv_iload hx hb dX2_least_67 (lv_at hl 5 rfl) ?_
                refine lv_if_le (tgt := 131) hx hb dX2_least_69 (by decide) (fun c_69 => ?_) (fun c_69 => ?_)
                · refine lv_iinc (v := nI (i33 + 1)) (lv' := [(3, .int (nI (i33 + 1))), (0, .ref (g.2.1 0)), (1, .int (nI t)), (2, .int mm), (4, .int (nI b)), (5, .int (nI a))]) hx hb dX2_least_131 hl (k := 3) rfl (nI_inc _) (by decide) rfl (fun ls hl => ?_)
                  refine lv_goto (tgt := 33) hx hb dX2_least_134 (by decide) ?_
                  have e_1 : ylO z n F (nI t) mm (ylA sl z) (i33 + 1) = sl2 := by first | exact hq.symm | (rw [← hq]; simp only [ylI, if_pos c_69])
                  exact ih33 (i33 + 1)  (by omega)  _ _ (by first | (rw [e_1]; exact I) | exact I | (simp only [e_1]; exact I)) _ (by first | (rw [e_1]; exact lv_sub hl [1, 2, 3, 0] rfl) | exact lv_sub hl [1, 2, 3, 0] rfl | (simp only [e_1]; exact lv_sub hl [1, 2, 3, 0] rfl))
                · refine lv_aload_n hx hb dX2_least_72 rfl (lv_at hl 0 rfl) ?_
                  refine lv_iload hx hb dX2_least_73 (lv_at hl 5 rfl) ?_
                  refine c2_i (As := [.int (nI a)]) (rest := []) S I (mX2_sizeOf l g n F L sl2 (by omega) (nI a)) (cw2_sizeOf S.2.2.2.2 (by decide)) rfl hl.1 rfl (Nat.le_of_ble_eq_true rfl) dX2_least_75 (fun r u' H locs hp I => ?_)
                  obtain ⟨rfl, rfl⟩ := hp
                  refine lv_iload_n hx hb dX2_least_78 rfl (lv_at hl 2 rfl) ?_
                  refine lv_icmp_gt (tgt := 119) hx hb dX2_least_79 (by decide) (fun c_79 => ?_) (fun c_79 => ?_)
                  · refine lv_iload hx hb dX2_least_119 (lv_at hl 5 rfl) ?_
                    refine lv_iconst (v := 1) hx hb dX2_least_121 (by decide) ?_
                    refine lv_isub hx hb dX2_least_122 ?_
                    refine x_top (v := nI (a - 1)) (nI_prd (nI_pos_of c_69)) ?_
                    refine lv_iload hx hb dX2_least_123 (lv_at hl 4 rfl) ?_
                    refine lv_iand hx hb dX2_least_125 ?_
                    refine x_top (v := nI ((a - 1) &&& b)) (nx_and _ _) ?_
                    refine lv_istore (lv' := [(5, .int (nI ((a - 1) &&& b))), (0, .ref (g.2.1 0)), (1, .int (nI t)), (2, .int mm), (3, .int (nI i33)), (4, .int (nI b))]) hx hb dX2_least_126 hl (by decide) rfl (fun ls hl => ?_)
                    refine lv_goto (tgt := 67) hx hb dX2_least_128 (by decide) ?_
                    exact ih67 (i67 + 1) ((a - 1) &&& b) sl2 (by omega) (by have := Nat.and_le_left (n := a - 1) (m := b); omega) (by have := Nat.and_le_left (n := a - 1) (m := b); omega) (by rw [← hq]; simp only [ylI, dec_and c_69, if_pos c_6, if_neg c_37, if_neg c_69, if_pos c_79]) _ _ I _ (lv_sub hl [1, 2, 3, 4, 5, 0] rfl)
                  · refine lv_aload_n hx hb dX2_least_82 rfl (lv_at hl 0 rfl) ?_
                    refine g2_sl S I dX2_least_83 ?_
                    refine lv_iload_n hx hb dX2_least_86 rfl (lv_at hl 3 rfl) ?_
                    refine a2_ldsl S I (k := i33) (by omega) dX2_least_87 ?_
                    refine lv_iconst (v := 1) hx hb dX2_least_88 (by decide) ?_
                    refine lv_iadd hx hb dX2_least_89 ?_
                    refine lv_aload_n hx hb dX2_least_90 rfl (lv_at hl 0 rfl) ?_
                    refine g2_sl S I dX2_least_91 ?_
                    refine lv_iload_n hx hb dX2_least_94 rfl (lv_at hl 3 rfl) ?_
                    refine lv_iload hx hb dX2_least_95 (lv_at hl 5 rfl) ?_
                    refine lv_ior hx hb dX2_least_97 ?_
                    refine a2_rdsl S I (or_in (by omega) ha9) dX2_least_98 ?_
                    refine lv_icmp_ge (tgt := 119) hx hb dX2_least_99 (by decide) (fun c_99 => ?_) (fun c_99 => ?_)
                    · refine lv_iload hx hb dX2_least_119 (lv_at hl 5 rfl) ?_
                      refine lv_iconst (v := 1) hx hb dX2_least_121 (by decide) ?_
                      refine lv_isub hx hb dX2_least_122 ?_
                      refine x_top (v := nI (a - 1)) (nI_prd (nI_pos_of c_69)) ?_
                      refine lv_iload hx hb dX2_least_123 (lv_at hl 4 rfl) ?_
                      refine lv_iand hx hb dX2_least_125 ?_
                      refine x_top (v := nI ((a - 1) &&& b)) (nx_and _ _) ?_
                      refine lv_istore (lv' := [(5, .int (nI ((a - 1) &&& b))), (0, .ref (g.2.1 0)), (1, .int (nI t)), (2, .int mm), (3, .int (nI i33)), (4, .int (nI b))]) hx hb dX2_least_126 hl (by decide) rfl (fun ls hl => ?_)
                      refine lv_goto (tgt := 67) hx hb dX2_least_128 (by decide) ?_
                      exact ih67 (i67 + 1) ((a - 1) &&& b) sl2 (by omega) (by have := Nat.and_le_left (n := a - 1) (m := b); omega) (by have := Nat.and_le_left (n := a - 1) (m := b); omega) (by rw [← hq]; simp only [ylI, dec_and c_69, if_pos c_6, if_neg c_37, if_neg c_69, if_neg c_79, if_pos c_99]) _ _ I _ (lv_sub hl [1, 2, 3, 4, 5, 0] rfl)
                    · refine lv_aload_n hx hb dX2_least_102 rfl (lv_at hl 0 rfl) ?_
                      refine g2_sl S I dX2_least_103 ?_
                      refine lv_iload_n hx hb dX2_least_106 rfl (lv_at hl 3 rfl) ?_
                      refine lv_iload hx hb dX2_least_107 (lv_at hl 5 rfl) ?_
                      refine lv_ior hx hb dX2_least_109 ?_
                      refine lv_aload_n hx hb dX2_least_110 rfl (lv_at hl 0 rfl) ?_
                      refine g2_sl S I dX2_least_111 ?_
                      refine lv_iload_n hx hb dX2_least_114 rfl (lv_at hl 3 rfl) ?_
                      refine a2_ldsl S I (k := i33) (by omega) dX2_least_115 ?_
                      refine lv_iconst (v := 1) hx hb dX2_least_116 (by decide) ?_
                      refine lv_iadd hx hb dX2_least_117 ?_
                      refine a2_wrsl S I (or_in (by omega) ha9) dX2_least_118 (fun H locs I => ?_)
                      refine lv_iload hx hb dX2_least_119 (lv_at hl 5 rfl) ?_
                      refine lv_iconst (v := 1) hx hb dX2_least_121 (by decide) ?_
                      refine lv_isub hx hb dX2_least_122 ?_
                      refine x_top (v := nI (a - 1)) (nI_prd (nI_pos_of c_69)) ?_
                      refine lv_iload hx hb dX2_least_123 (lv_at hl 4 rfl) ?_
                      refine lv_iand hx hb dX2_least_125 ?_
                      refine x_top (v := nI ((a - 1) &&& b)) (nx_and _ _) ?_
                      refine lv_istore (lv' := [(5, .int (nI ((a - 1) &&& b))), (0, .ref (g.2.1 0)), (1, .int (nI t)), (2, .int mm), (3, .int (nI i33)), (4, .int (nI b))]) hx hb dX2_least_126 hl (by decide) rfl (fun ls hl => ?_)
                      refine lv_goto (tgt := 67) hx hb dX2_least_128 (by decide) ?_
                      exact ih67 (i67 + 1) ((a - 1) &&& b) (upd sl2 ((nI i33) ||| (nI a)).toNatClampNeg ((sl2 i33) + 1)) (by omega) (by have := Nat.and_le_left (n := a - 1) (m := b); omega) (by have := Nat.and_le_left (n := a - 1) (m := b); omega) (by rw [← hq]; simp only [ylI, dec_and c_69, if_pos c_6, if_neg c_37, if_neg c_69, if_neg c_79, if_neg c_99]) _ _ I _ (lv_sub hl [1, 2, 3, 4, 5, 0] rfl)
            exact lp67 z 0 b (ylO z n F (nI t) mm (ylA sl z) i33) (by omega) (by omega) hb9 (by simp only [ylO, eb]) _ _ I _ (lv_sub hl [2, 3, 4, 5, 1, 0] rfl)
          refine lv_icmp_ne (tgt := 55) hx hb dX2_least_48 (by decide) (fun c_48 => ?_) (fun c_48 => ?_)
          · refine lv_aload_n hx hb dX2_least_55 rfl (lv_at hl 0 rfl) ?_
            refine lv_iload_n hx hb dX2_least_56 rfl (lv_at hl 1 rfl) ?_
            refine lv_iload_n hx hb dX2_least_57 rfl (lv_at hl 3 rfl) ?_
            refine c2_i (As := [.int (nI t), .int (nI i33)]) (rest := []) S I (mX2_open l g n F L (ylO z n F (nI t) mm (ylA sl z) i33) (by omega) (nI t) (nI i33)) (cw2_open S.2.2.2.2 (by decide)) rfl hl.1 rfl (Nat.le_of_ble_eq_true rfl) dX2_least_58 (fun r u' H locs hp I => ?_)
            obtain ⟨rfl, rfl⟩ := hp
            refine x_top (v := nI b) (by rw [← eb]; simp only [yOpn, if_pos c_6, if_neg c_37, if_neg c_48]) ?_
            exact jn61 _ _ I _ hl
          · refine lv_iconst (v := 0) hx hb dX2_least_51 (by decide) ?_
            refine lv_goto (tgt := 61) hx hb dX2_least_52 (by decide) ?_
            refine x_top (v := nI b) (by rw [← eb]; simp only [yOpn, if_pos c_6, if_neg c_37, if_pos c_48]) ?_
            exact jn61 _ _ I _ hl
      exact lp33 z 0  (by omega)  _ _ I _ (lv_sub hl [1, 2, 3, 0] rfl)
    | succ k2 ih2 =>
      intro i2  e2  H locs I ls hl
      refine lv_iload_n hx hb dX2_least_2 rfl (lv_at hl 3 rfl) ?_
      refine lv_sipush (v := nI z) hx hb dX2_least_3 (by rw [hz]; decide) ?_
      refine lv_icmp_ge (tgt := 31) hx hb dX2_least_6 (by decide) (fun c_6 => absurd c_6 (nI_ge (by omega) (by omega))) (fun c_6 => ?_)
      refine lv_aload_n hx hb dX2_least_9 rfl (lv_at hl 0 rfl) ?_
      refine g2_sl S I dX2_least_10 ?_
      refine lv_iload_n hx hb dX2_least_13 rfl (lv_at hl 3 rfl) ?_
      refine lv_iload_n hx hb dX2_least_14 rfl (lv_at hl 3 rfl) ?_
      refine lv_if_ne (tgt := 22) hx hb dX2_least_15 (by decide) (fun c_15 => ?_) (fun c_15 => ?_)
      · refine lv_bipush (v := 100) hx hb dX2_least_22 (by decide) ?_
        refine a2_stsl S I (k := i2) (by omega) dX2_least_24 (fun H locs I => ?_)
        refine lv_iinc (v := nI (i2 + 1)) (lv' := [(3, .int (nI (i2 + 1))), (0, .ref (g.2.1 0)), (1, .int (nI t)), (2, .int mm)]) hx hb dX2_least_25 hl (k := 3) rfl (nI_inc _) (by decide) rfl (fun ls hl => ?_)
        refine lv_goto (tgt := 2) hx hb dX2_least_28 (by decide) ?_
        have e_1 : ylA sl (i2 + 1) = (upd (ylA sl i2) i2 100) := by simp only [ylA, if_neg c_6, if_neg c_15]
        exact ih2 (i2 + 1)  (by omega)  _ _ (by first | (rw [e_1]; exact I) | exact I | (simp only [e_1]; exact I)) _ (by first | (rw [e_1]; exact lv_sub hl [1, 2, 3, 0] rfl) | exact lv_sub hl [1, 2, 3, 0] rfl | (simp only [e_1]; exact lv_sub hl [1, 2, 3, 0] rfl))
      · refine lv_iconst (v := 0) hx hb dX2_least_18 (by decide) ?_
        refine lv_goto (tgt := 24) hx hb dX2_least_19 (by decide) ?_
        refine a2_stsl S I (k := i2) (by omega) dX2_least_24 (fun H locs I => ?_)
        refine lv_iinc (v := nI (i2 + 1)) (lv' := [(3, .int (nI (i2 + 1))), (0, .ref (g.2.1 0)), (1, .int (nI t)), (2, .int mm)]) hx hb dX2_least_25 hl (k := 3) rfl (nI_inc _) (by decide) rfl (fun ls hl => ?_)
        refine lv_goto (tgt := 2) hx hb dX2_least_28 (by decide) ?_
        have e_1 : ylA sl (i2 + 1) = (upd (ylA sl i2) i2 0) := by simp only [ylA, if_neg c_6, if_pos c_15]
        exact ih2 (i2 + 1)  (by omega)  _ _ (by first | (rw [e_1]; exact I) | exact I | (simp only [e_1]; exact I)) _ (by first | (rw [e_1]; exact lv_sub hl [1, 2, 3, 0] rfl) | exact lv_sub hl [1, 2, 3, 0] rfl | (simp only [e_1]; exact lv_sub hl [1, 2, 3, 0] rfl))
  exact lp2 z 0  (by omega)  _ _ I _ (lv_sub hl [1, 2, 3, 0] rfl)
end
section
theorem mX2_leastY (l : Launch) (g : Geo) (n : Nat) (F L sl : Nat → Int32) (hn : n ≤ 9) (t : Nat) (ht : t < 512) (mm : Int32) (Y : Nat → Int32) (hY : Y = yLst 512 n F (nI t) mm sl) : MI (x2 g) l yX2_least cX2_least 6 .int 2 [.ref (g.2.1 0), .int (nI t), .int mm] (n, F, L, sl) (fun r u' => r = Y t ∧ u' = (n, F, L, Y)) := by
  rw [hY]
  exact mX2_least l g n F L sl hn 512 rfl t ht mm
set_option maxHeartbeats 4000000 in
set_option maxRecDepth 100000 in
theorem mX2_shortest_low (l : Launch) (g : Geo) (n : Nat) (F L sl : Nat → Int32) (hn : n ≤ 9) (v : Int32) (hv : v < 1) : MI (x2 g) l yX2_shortest cX2_shortest 2 .int 3 [.ref (g.2.1 0), .int v] (n, F, L, sl) (fun r u' => r = -1 ∧ u' = (n, F, L, sl)) := by
  refine MI_of (by decide) (Nat.le_of_ble_eq_true rfl) ?_
  intro p e s m args below meth c Q S kret ls hl I
  have hx := S.1
  have hb := S.2.1
  have hl : lv_has ls 2 [(0, .ref (g.2.1 0)), (1, .int v)] := hl
  refine lv_iload_n hx hb dX2_shortest_0 rfl (lv_at hl 1 rfl) ?_
  refine lv_iconst (v := 1) hx hb dX2_shortest_1 (by decide) ?_
  refine lv_icmp_lt (tgt := 11) hx hb dX2_shortest_2 (by decide) (fun c_2 => ?_) (fun c_2 => absurd hv c_2)
  refine lv_iconst (v := (-1)) hx hb dX2_shortest_11 (by decide) ?_
  exact kret _ _ _ _ _ _ dX2_shortest_12 rfl ⟨rfl, rfl⟩ I
set_option maxHeartbeats 4000000 in
set_option maxRecDepth 100000 in
theorem mX2_shortest_high (l : Launch) (g : Geo) (n : Nat) (F L sl : Nat → Int32) (hn : n ≤ 9) (v : Int32) (hv : ¬ v < 1) (hv9 : ¬ v ≤ 9) : MI (x2 g) l yX2_shortest cX2_shortest 2 .int 3 [.ref (g.2.1 0), .int v] (n, F, L, sl) (fun r u' => r = -1 ∧ u' = (n, F, L, sl)) := by
  refine MI_of (by decide) (Nat.le_of_ble_eq_true rfl) ?_
  intro p e s m args below meth c Q S kret ls hl I
  have hx := S.1
  have hb := S.2.1
  have hl : lv_has ls 2 [(0, .ref (g.2.1 0)), (1, .int v)] := hl
  refine lv_iload_n hx hb dX2_shortest_0 rfl (lv_at hl 1 rfl) ?_
  refine lv_iconst (v := 1) hx hb dX2_shortest_1 (by decide) ?_
  refine lv_icmp_lt (tgt := 11) hx hb dX2_shortest_2 (by decide) (fun c_2 => absurd c_2 hv) (fun c_2 => ?_)
  refine lv_iload_n hx hb dX2_shortest_5 rfl (lv_at hl 1 rfl) ?_
  refine lv_bipush (v := 9) hx hb dX2_shortest_6 (by decide) ?_
  refine lv_icmp_le (tgt := 13) hx hb dX2_shortest_8 (by decide) (fun c_8 => absurd c_8 hv9) (fun c_8 => ?_)
  refine lv_iconst (v := (-1)) hx hb dX2_shortest_11 (by decide) ?_
  exact kret _ _ _ _ _ _ dX2_shortest_12 rfl ⟨rfl, rfl⟩ I
set_option maxHeartbeats 4000000 in
set_option maxRecDepth 100000 in
theorem mX2_shortest_12 (l : Launch) (g : Geo) (n : Nat) (F L sl : Nat → Int32) (hn : n ≤ 9) (mm : Nat) (hm1 : 1 ≤ mm) (hm : mm ≤ 9) (e1 : mm < 3) (Y : Nat → Int32) (hY : Y = yLst 512 n F (nI (2 ^ n - 1)) (nI mm) sl) : MI (x2 g) l yX2_shortest cX2_shortest 2 .int 3 [.ref (g.2.1 0), .int (nI mm)] (n, F, L, sl) (fun r u' => r = Y (2 ^ n - 1) ∧ u' = (n, F, L, Y)) := by
  refine MI_of (by decide) (Nat.le_of_ble_eq_true rfl) ?_
  intro p e s m args below meth c Q S kret ls hl I
  have hx := S.1
  have hb := S.2.1
  have hl : lv_has ls 2 [(0, .ref (g.2.1 0)), (1, .int (nI mm))] := hl
  have HT : 2 ^ n - 1 < 512 := pow_512 hn
  refine lv_iload_n hx hb dX2_shortest_0 rfl (lv_at hl 1 rfl) ?_
  refine lv_iconst (v := 1) hx hb dX2_shortest_1 (by decide) ?_
  refine lv_icmp_lt (tgt := 11) hx hb dX2_shortest_2 (by decide) (fun c_2 => absurd c_2 (show ¬ nI mm < 1 from nI_nlt (a := mm) (b := 1) (by omega) (by omega))) (fun c_2 => ?_)
  refine lv_iload_n hx hb dX2_shortest_5 rfl (lv_at hl 1 rfl) ?_
  refine lv_bipush (v := nI 9) hx hb dX2_shortest_6 (by decide) ?_
  refine lv_icmp_le (tgt := 13) hx hb dX2_shortest_8 (by decide) (fun c_8 => ?_) (fun c_8 => absurd (show nI mm ≤ nI 9 from nI_le (by omega) (by decide)) c_8)
  refine lv_iload_n hx hb dX2_shortest_13 rfl (lv_at hl 1 rfl) ?_
  refine lv_iconst (v := nI 3) hx hb dX2_shortest_14 (by decide) ?_
  refine lv_icmp_lt (tgt := 28) hx hb dX2_shortest_15 (by decide) (fun c_15 => ?_) (fun c_15 => absurd (nI_lt (by omega) (by omega)) c_15)
  refine lv_aload_n hx hb dX2_shortest_28 rfl (lv_at hl 0 rfl) ?_
  refine lv_iconst (v := 1) hx hb dX2_shortest_29 (by decide) ?_
  refine lv_aload_n hx hb dX2_shortest_30 rfl (lv_at hl 0 rfl) ?_
  refine g2_n S I dX2_shortest_31 ?_
  refine lv_ishl hx hb dX2_shortest_34 ?_
  refine lv_iconst (v := 1) hx hb dX2_shortest_35 (by decide) ?_
  refine lv_isub hx hb dX2_shortest_36 ?_
  refine x_top (v := nI (2 ^ n - 1)) (xAll_nat hn) ?_
  refine lv_iload_n hx hb dX2_shortest_37 rfl (lv_at hl 1 rfl) ?_
  refine c2_i (As := [.int (nI (2 ^ n - 1)), .int (nI mm)]) (rest := []) S I (mX2_leastY l g n F L sl (by omega) (2 ^ n - 1) HT (nI mm) Y hY) (cw2_least S.2.2.2.2 (by decide)) rfl hl.1 rfl (Nat.le_of_ble_eq_true rfl) dX2_shortest_38 (fun r u' H locs hp I => ?_)
  obtain ⟨rfl, rfl⟩ := hp
  exact kret _ _ _ _ _ _ dX2_shortest_41 rfl ⟨rfl, rfl⟩ I
set_option maxHeartbeats 4000000 in
set_option maxRecDepth 100000 in
theorem mX2_shortest_none (l : Launch) (g : Geo) (n : Nat) (F L sl : Nat → Int32) (hn : n ≤ 9) (mm : Nat) (hm1 : 1 ≤ mm) (hm : mm ≤ 9) (e1 : 3 ≤ mm) (ht : yIT n F (yFind n F L) = 0) : MI (x2 g) l yX2_shortest cX2_shortest 2 .int 3 [.ref (g.2.1 0), .int (nI mm)] (n, F, L, sl) (fun r u' => r = -2 ∧ u' = (n, F, yFind n F L, sl)) := by
  refine MI_of (by decide) (Nat.le_of_ble_eq_true rfl) ?_
  intro p e s m args below meth c Q S kret ls hl I
  have hx := S.1
  have hb := S.2.1
  have hl : lv_has ls 2 [(0, .ref (g.2.1 0)), (1, .int (nI mm))] := hl
  refine lv_iload_n hx hb dX2_shortest_0 rfl (lv_at hl 1 rfl) ?_
  refine lv_iconst (v := 1) hx hb dX2_shortest_1 (by decide) ?_
  refine lv_icmp_lt (tgt := 11) hx hb dX2_shortest_2 (by decide) (fun c_2 => absurd c_2 (show ¬ nI mm < 1 from nI_nlt (a := mm) (b := 1) (by omega) (by omega))) (fun c_2 => ?_)
  refine lv_iload_n hx hb dX2_shortest_5 rfl (lv_at hl 1 rfl) ?_
  refine lv_bipush (v := nI 9) hx hb dX2_shortest_6 (by decide) ?_
  refine lv_icmp_le (tgt := 13) hx hb dX2_shortest_8 (by decide) (fun c_8 => ?_) (fun c_8 => absurd (show nI mm ≤ nI 9 from nI_le (by omega) (by decide)) c_8)
  refine lv_iload_n hx hb dX2_shortest_13 rfl (lv_at hl 1 rfl) ?_
  refine lv_iconst (v := nI 3) hx hb dX2_shortest_14 (by decide) ?_
  refine lv_icmp_lt (tgt := 28) hx hb dX2_shortest_15 (by decide) (fun c_15 => absurd c_15 (nI_nlt (by omega) (by omega))) (fun c_15 => ?_)
  refine lv_aload_n hx hb dX2_shortest_18 rfl (lv_at hl 0 rfl) ?_
  refine c2_i (As := []) (rest := []) S I (mX2_inTrees l g n F L sl (by omega) ) (cw2_inTrees S.2.2.2.2 (by decide)) rfl hl.1 rfl (Nat.le_of_ble_eq_true rfl) dX2_shortest_19 (fun r u' H locs hp I => ?_)
  obtain ⟨rfl, rfl⟩ := hp
  refine lv_if_ne (tgt := 28) hx hb dX2_shortest_22 (by decide) (fun c_22 => absurd ht c_22) (fun c_22 => ?_)
  refine lv_bipush (v := (-2)) hx hb dX2_shortest_25 (by decide) ?_
  exact kret _ _ _ _ _ _ dX2_shortest_27 rfl ⟨rfl, rfl⟩ I
set_option maxHeartbeats 4000000 in
set_option maxRecDepth 100000 in
theorem mX2_shortest_3 (l : Launch) (g : Geo) (n : Nat) (F L sl : Nat → Int32) (hn : n ≤ 9) (mm : Nat) (hm1 : 1 ≤ mm) (hm : mm ≤ 9) (e1 : 3 ≤ mm) (ht : ¬ yIT n F (yFind n F L) = 0) (Y : Nat → Int32) (hY : Y = yLst 512 n F (nI (2 ^ n - 1)) (nI mm) sl) : MI (x2 g) l yX2_shortest cX2_shortest 2 .int 3 [.ref (g.2.1 0), .int (nI mm)] (n, F, L, sl) (fun r u' => r = Y (2 ^ n - 1) ∧ u' = (n, F, yFind n F L, Y)) := by
  refine MI_of (by decide) (Nat.le_of_ble_eq_true rfl) ?_
  intro p e s m args below meth c Q S kret ls hl I
  have hx := S.1
  have hb := S.2.1
  have hl : lv_has ls 2 [(0, .ref (g.2.1 0)), (1, .int (nI mm))] := hl
  have HT : 2 ^ n - 1 < 512 := pow_512 hn
  refine lv_iload_n hx hb dX2_shortest_0 rfl (lv_at hl 1 rfl) ?_
  refine lv_iconst (v := 1) hx hb dX2_shortest_1 (by decide) ?_
  refine lv_icmp_lt (tgt := 11) hx hb dX2_shortest_2 (by decide) (fun c_2 => absurd c_2 (show ¬ nI mm < 1 from nI_nlt (a := mm) (b := 1) (by omega) (by omega))) (fun c_2 => ?_)
  refine lv_iload_n hx hb dX2_shortest_5 rfl (lv_at hl 1 rfl) ?_
  refine lv_bipush (v := nI 9) hx hb dX2_shortest_6 (by decide) ?_
  refine lv_icmp_le (tgt := 13) hx hb dX2_shortest_8 (by decide) (fun c_8 => ?_) (fun c_8 => absurd (show nI mm ≤ nI 9 from nI_le (by omega) (by decide)) c_8)
  refine lv_iload_n hx hb dX2_shortest_13 rfl (lv_at hl 1 rfl) ?_
  refine lv_iconst (v := nI 3) hx hb dX2_shortest_14 (by decide) ?_
  refine lv_icmp_lt (tgt := 28) hx hb dX2_shortest_15 (by decide) (fun c_15 => absurd c_15 (nI_nlt (by omega) (by omega))) (fun c_15 => ?_)
  refine lv_aload_n hx hb dX2_shortest_18 rfl (lv_at hl 0 rfl) ?_
  refine c2_i (As := []) (rest := []) S I (mX2_inTrees l g n F L sl (by omega) ) (cw2_inTrees S.2.2.2.2 (by decide)) rfl hl.1 rfl (Nat.le_of_ble_eq_true rfl) dX2_shortest_19 (fun r u' H locs hp I => ?_)
  obtain ⟨rfl, rfl⟩ := hp
  refine lv_if_ne (tgt := 28) hx hb dX2_shortest_22 (by decide) (fun c_22 => ?_) (fun c_22 => absurd c_22 ht)
  refine lv_aload_n hx hb dX2_shortest_28 rfl (lv_at hl 0 rfl) ?_
  refine lv_iconst (v := 1) hx hb dX2_shortest_29 (by decide) ?_
  refine lv_aload_n hx hb dX2_shortest_30 rfl (lv_at hl 0 rfl) ?_
  refine g2_n S I dX2_shortest_31 ?_
  refine lv_ishl hx hb dX2_shortest_34 ?_
  refine lv_iconst (v := 1) hx hb dX2_shortest_35 (by decide) ?_
  refine lv_isub hx hb dX2_shortest_36 ?_
  refine x_top (v := nI (2 ^ n - 1)) (xAll_nat hn) ?_
  refine lv_iload_n hx hb dX2_shortest_37 rfl (lv_at hl 1 rfl) ?_
  refine c2_i (As := [.int (nI (2 ^ n - 1)), .int (nI mm)]) (rest := []) S I (mX2_leastY l g n F (yFind n F L) sl (by omega) (2 ^ n - 1) HT (nI mm) Y hY) (cw2_least S.2.2.2.2 (by decide)) rfl hl.1 rfl (Nat.le_of_ble_eq_true rfl) dX2_shortest_38 (fun r u' H locs hp I => ?_)
  obtain ⟨rfl, rfl⟩ := hp
  exact kret _ _ _ _ _ _ dX2_shortest_41 rfl ⟨rfl, rfl⟩ I
set_option maxHeartbeats 4000000 in
set_option maxRecDepth 100000 in
theorem mX2_without_bad (l : Launch) (g : Geo) (n : Nat) (F L sl : Nat → Int32) (hn : n ≤ 9) (v : Int32) (hT : v < 0 ∨ nI n ≤ v) : MI (x2 g) l yX2_without cX2_without 2 .int 3 [.ref (g.2.1 0), .int v] (n, F, L, sl) (fun r u' => r = -1 ∧ u' = (n, F, L, sl)) := by
  refine MI_of (by decide) (Nat.le_of_ble_eq_true rfl) ?_
  intro p e s m args below meth c Q S kret ls hl I
  have hx := S.1
  have hb := S.2.1
  have hl : lv_has ls 2 [(0, .ref (g.2.1 0)), (1, .int v)] := hl
  have hT0 : xT n v = 0 := xT_out hT
  refine lv_aload_n hx hb dX2_without_0 rfl (lv_at hl 0 rfl) ?_
  refine lv_iload_n hx hb dX2_without_1 rfl (lv_at hl 1 rfl) ?_
  refine c2_i (As := [.int v]) (rest := []) S I (mX2_isTask l g n F L sl (by omega) v) (cw2_isTask S.2.2.2.2 (by decide)) rfl hl.1 rfl (Nat.le_of_ble_eq_true rfl) dX2_without_2 (fun r u' H locs hp I => ?_)
  obtain ⟨rfl, rfl⟩ := hp
  refine lv_if_ne (tgt := 10) hx hb dX2_without_5 (by decide) (fun c_5 => absurd hT0 c_5) (fun c_5 => ?_)
  refine lv_iconst (v := (-1)) hx hb dX2_without_8 (by decide) ?_
  exact kret _ _ _ _ _ _ dX2_without_9 rfl ⟨rfl, rfl⟩ I
set_option maxHeartbeats 4000000 in
set_option maxRecDepth 100000 in
theorem mX2_without (l : Launch) (g : Geo) (n : Nat) (F L sl : Nat → Int32) (hn : n ≤ 9) (k : Nat) (hk : k < n) (Y : Nat → Int32) (hY : Y = yLst 512 n F (nI (2 ^ n - 1 - 2 ^ k)) (nI 2) sl) : MI (x2 g) l yX2_without cX2_without 2 .int 3 [.ref (g.2.1 0), .int (nI k)] (n, F, L, sl) (fun r u' => r = Y (2 ^ n - 1 - 2 ^ k) ∧ u' = (n, F, L, Y)) := by
  refine MI_of (by decide) (Nat.le_of_ble_eq_true rfl) ?_
  intro p e s m args below meth c Q S kret ls hl I
  have hx := S.1
  have hb := S.2.1
  have hl : lv_has ls 2 [(0, .ref (g.2.1 0)), (1, .int (nI k))] := hl
  have hT1 : ¬ xT n (nI k) = 0 := xT_in hk hn
  have HT : 2 ^ n - 1 - 2 ^ k < 512 := Nat.lt_of_le_of_lt (Nat.sub_le _ _) (pow_512 hn)
  refine lv_aload_n hx hb dX2_without_0 rfl (lv_at hl 0 rfl) ?_
  refine lv_iload_n hx hb dX2_without_1 rfl (lv_at hl 1 rfl) ?_
  refine c2_i (As := [.int (nI k)]) (rest := []) S I (mX2_isTask l g n F L sl (by omega) (nI k)) (cw2_isTask S.2.2.2.2 (by decide)) rfl hl.1 rfl (Nat.le_of_ble_eq_true rfl) dX2_without_2 (fun r u' H locs hp I => ?_)
  obtain ⟨rfl, rfl⟩ := hp
  refine lv_if_ne (tgt := 10) hx hb dX2_without_5 (by decide) (fun c_5 => ?_) (fun c_5 => absurd c_5 hT1)
  refine lv_aload_n hx hb dX2_without_10 rfl (lv_at hl 0 rfl) ?_
  refine lv_iconst (v := 1) hx hb dX2_without_11 (by decide) ?_
  refine lv_aload_n hx hb dX2_without_12 rfl (lv_at hl 0 rfl) ?_
  refine g2_n S I dX2_without_13 ?_
  refine lv_ishl hx hb dX2_without_16 ?_
  refine lv_iconst (v := 1) hx hb dX2_without_17 (by decide) ?_
  refine lv_isub hx hb dX2_without_18 ?_
  refine lv_iconst (v := 1) hx hb dX2_without_19 (by decide) ?_
  refine lv_iload_n hx hb dX2_without_20 rfl (lv_at hl 1 rfl) ?_
  refine lv_ishl hx hb dX2_without_21 ?_
  refine lv_iconst (v := (-1)) hx hb dX2_without_22 (by decide) ?_
  refine lv_ixor hx hb dX2_without_23 ?_
  refine lv_iand hx hb dX2_without_24 ?_
  refine x_top (v := nI (2 ^ n - 1 - 2 ^ k)) (xWo_nat hn hk) ?_
  refine lv_iconst (v := nI 2) hx hb dX2_without_25 (by decide) ?_
  refine c2_i (As := [.int (nI (2 ^ n - 1 - 2 ^ k)), .int (nI 2)]) (rest := []) S I (mX2_leastY l g n F L sl (by omega) (2 ^ n - 1 - 2 ^ k) HT (nI 2) Y hY) (cw2_least S.2.2.2.2 (by decide)) rfl hl.1 rfl (Nat.le_of_ble_eq_true rfl) dX2_without_26 (fun r u' H locs hp I => ?_)
  obtain ⟨rfl, rfl⟩ := hp
  exact kret _ _ _ _ _ _ dX2_without_29 rfl ⟨rfl, rfl⟩ I
end
section
/-! bits of the words that the two classes compute with -/
theorem bt_1 : ∀ i, i < 32 → bt 1 i = decide (i = 0) := by decide +kernel
theorem bt_lt {x : Int32} {i : Nat} (h : bt x i = true) : i < 32 := by
  rcases Nat.lt_or_ge i 32 with q | q
  · exact q
  · rw [b_big q] at h; cases h
theorem tb_val {x : Int32} {v : Nat} (hv : v < 32) : tb x (nI v) = if bt x v = true then 1 else 0 := by
  apply b_ext
  intro i hi
  rw [tb, b_and, b_sshr v hv x hi, bt_1 i hi]
  by_cases h0 : i = 0
  · subst h0
    rw [if_pos (by omega : v + 0 < 32), Nat.add_zero]
    cases hb : bt x v
    · rw [if_neg (by simp), b_0]; rfl
    · rw [if_pos rfl, bt_1 0 (by decide)]; rfl
  · rw [decide_eq_false h0, Bool.and_false]
    split
    · rw [bt_1 i hi, decide_eq_false h0]
    · rw [b_0]
theorem tb_0 {x : Int32} {v : Nat} (hv : v < 32) : tb x (nI v) = 0 ↔ bt x v = false := by
  rw [tb_val hv]
  cases bt x v
  · simp
  · simp
theorem xin_val {x : Int32} {v : Nat} (hv : v < 32) : xin x (nI v) = if bt x v = true then 1 else 0 := by
  have h := tb_val (x := x) hv
  unfold xin
  rw [show (x >>> (nI v &&& 31)) &&& 1 = tb x (nI v) from rfl, h]
  cases bt x v
  · simp
  · simp
theorem xin_0 {x : Int32} {v : Nat} (hv : v < 32) : xin x (nI v) = 0 ↔ bt x v = false := by
  rw [xin_val hv]
  cases bt x v
  · simp
  · simp
theorem bt_bit {v i : Nat} (hv : v < 32) (hi : i < 32) : bt (xBit v) i = decide (i = v) := by
  rw [xBit, b_shl v hv 1 hi, bt_1 _ (by omega)]
  by_cases h : i = v
  · subst h; simp
  · rw [decide_eq_false h]
    by_cases h2 : v ≤ i
    · rw [decide_eq_false (by omega : ¬ i - v = 0), Bool.and_false]
    · rw [decide_eq_false h2, Bool.false_and]
theorem bt_not {x : Int32} {i : Nat} (hi : i < 32) : bt (x ^^^ (-1)) i = !bt x i := by
  rw [b_xor, b_m1 i hi]
  cases bt x i <;> rfl
theorem bt_all : ∀ n, n ≤ 9 → ∀ i, i < 32 → bt (xAll n) i = decide (i < n) := by decide +kernel
theorem bt_wo : ∀ n, n ≤ 9 → ∀ k, k < n → ∀ i, i < 32 → bt (xWo n k) i = (decide (i < n) && !decide (i = k)) := by decide +kernel
theorem b_eq0 {x : Int32} : x = 0 ↔ ∀ i, bt x i = false := by
  constructor
  · rintro rfl i
    exact b_0 i
  · intro h
    apply b_ext
    intro i _
    rw [h i, b_0]
theorem b_ne0 {x : Int32} : ¬ x = 0 ↔ ∃ i, bt x i = true := by
  constructor
  · intro h
    apply Classical.byContradiction
    intro hn
    apply h
    rw [b_eq0]
    intro i
    cases hb : bt x i
    · rfl
    · exact absurd ⟨i, hb⟩ hn
  · rintro ⟨i, hi⟩ h
    rw [b_eq0.mp h i] at hi
    cases hi
/-- as naturals -/
theorem bt_nI {a i : Nat} (hi : i < 32) : bt (nI a) i = a.testBit i := by
  show (BitVec.ofNat 32 a).getLsbD i = _
  rw [BitVec.getLsbD_ofNat]
  simp [hi]
theorem nI_bits {x : Int32} {n : Nat} (hn : n ≤ 9) (h : ∀ i, bt x i = true → i < n) : ∃ a, a < 2 ^ n ∧ x = nI a := by
  obtain ⟨k, hk, e⟩ := nI_of32 x
  refine ⟨k, ?_, e⟩
  apply Nat.lt_pow_two_of_testBit
  intro i hi
  rcases Nat.lt_or_ge i 32 with q | q
  · rw [← bt_nI q, ← e]
    cases hb : bt x i
    · rfl
    · have := h i hb
      omega
  · exact Nat.testBit_lt_two_pow (Nat.lt_of_lt_of_le hk (Nat.pow_le_pow_right (by decide) q))
theorem nI_bits9 {x : Int32} (h : ∀ i, bt x i = true → i < 9) : ∃ a, a < 512 ∧ x = nI a := nI_bits (n := 9) (by decide) h
end
section
/-! sets of numbers below n, as propositions: how many, least, greatest -/
noncomputable def pb (q : Prop) : Bool := @decide q (Classical.propDecidable q)
theorem pb_iff {q : Prop} : pb q = true ↔ q :=
  ⟨fun h => @of_decide_eq_true q (Classical.propDecidable q) h, fun h => @decide_eq_true q (Classical.propDecidable q) h⟩
theorem pb_cong {p q : Prop} (h : p ↔ q) : pb p = pb q := by rw [propext h]
theorem pb_not {q : Prop} (h : ¬ q) : pb q = false := by
  cases e : pb q
  · rfl
  · exact absurd (pb_iff.mp e) h
noncomputable def cn (p : Nat → Prop) (n : Nat) : Nat := fb_ct (fun x => pb (p x)) n
theorem cn_sub {p q : Nat → Prop} {n : Nat} (h : ∀ x, x < n → p x → q x) : cn p n ≤ cn q n :=
  fb_ct_sub (fun k hk h1 => pb_iff.mpr (h k hk (pb_iff.mp h1)))
theorem cn_cong {p q : Nat → Prop} {n : Nat} (h : ∀ x, x < n → (p x ↔ q x)) : cn p n = cn q n :=
  Nat.le_antisymm (cn_sub (fun x hx => (h x hx).mp)) (cn_sub (fun x hx => (h x hx).mpr))
theorem cn_bool {p : Nat → Bool} {n : Nat} : cn (fun x => p x = true) n = fb_ct p n := by
  apply fb_ct_cong
  intro k _
  show pb (p k = true) = p k
  cases e : p k
  · exact pb_not Bool.false_ne_true
  · exact pb_iff.mpr rfl
theorem cn_rm {p : Nat → Prop} {n w : Nat} (hw : w < n) (h : p w) : cn (fun x => p x ∧ x ≠ w) n + 1 = cn p n := by
  have e : fb_ct (fun k => if k = w then false else pb (p k)) n + (if pb (p w) = true then 1 else 0) = fb_ct (fun x => pb (p x)) n + 0 := fb_ct_upd (fun x => pb (p x)) false hw
  rw [if_pos (pb_iff.mpr h)] at e
  have e2 : cn (fun x => p x ∧ x ≠ w) n = fb_ct (fun k => if k = w then false else pb (p k)) n := by
    apply fb_ct_cong
    intro k hk
    show pb (p k ∧ k ≠ w) = if k = w then false else pb (p k)
    by_cases q : k = w
    · rw [if_pos q]
      exact pb_not (fun h => h.2 q)
    · rw [if_neg q]
      exact pb_cong ⟨fun h => h.1, fun h => ⟨h, q⟩⟩
  rw [e2, e]
  rfl
theorem cn_pos {p : Nat → Prop} {n : Nat} : 0 < cn p n ↔ ∃ k, k < n ∧ p k := by
  unfold cn
  rw [fb_ct_pos]
  constructor
  · rintro ⟨k, hk, h⟩
    exact ⟨k, hk, pb_iff.mp h⟩
  · rintro ⟨k, hk, h⟩
    exact ⟨k, hk, pb_iff.mpr h⟩
theorem cn_lt {p q : Nat → Prop} {n w : Nat} (h : ∀ x, x < n → p x → q x) (hw : w < n) (h1 : q w) (h2 : ¬ p w) : cn p n < cn q n := by
  have e := cn_rm hw h1
  have s : cn p n ≤ cn (fun x => q x ∧ x ≠ w) n := cn_sub (fun x hx hp => ⟨h x hx hp, fun e => h2 (e ▸ hp)⟩)
  omega
theorem cn_or {p q : Nat → Prop} {n : Nat} (hd : ∀ k, k < n → ¬ (p k ∧ q k)) : cn (fun x => p x ∨ q x) n = cn p n + cn q n := by
  have e : fb_ct (fun k => pb (p k) || pb (q k)) n = fb_ct (fun x => pb (p x)) n + fb_ct (fun x => pb (q x)) n :=
    fb_ct_or (p := fun x => pb (p x)) (q := fun x => pb (q x)) (n := n) (fun k hk h => hd k hk ⟨pb_iff.mp h.1, pb_iff.mp h.2⟩)
  show _ = fb_ct (fun x => pb (p x)) n + fb_ct (fun x => pb (q x)) n
  rw [← e]
  apply fb_ct_cong
  intro k _
  show pb (p k ∨ q k) = (pb (p k) || pb (q k))
  by_cases h1 : p k
  · rw [pb_iff.mpr h1, pb_iff.mpr (Or.inl h1 : p k ∨ q k)]
    rfl
  · rw [pb_not h1]
    show pb (p k ∨ q k) = pb (q k)
    exact pb_cong ⟨fun h => h.resolve_left h1, Or.inr⟩
theorem cn_two {p : Nat → Prop} {n i j : Nat} (hi : i < n) (hj : j < n) (pi : p i) (pj : p j) (hij : i ≠ j) : 2 ≤ cn p n := by
  have e1 := cn_rm hi pi
  have e3 : 0 < cn (fun x => p x ∧ x ≠ i) n := cn_pos.mpr ⟨j, hj, pj, fun e => hij e.symm⟩
  omega
theorem cn_three {p : Nat → Prop} {n i j z : Nat} (h : cn p n ≤ 2) (hi : i < n) (hj : j < n) (hz : z < n) (pi : p i) (pj : p j) (pz : p z) (hij : i ≠ j) : z = i ∨ z = j := by
  apply Classical.byContradiction
  intro hn
  have hzi : z ≠ i := fun e => hn (Or.inl e)
  have hzj : z ≠ j := fun e => hn (Or.inr e)
  have e1 := cn_rm hi pi
  have e2 : 2 ≤ cn (fun x => p x ∧ x ≠ i) n := cn_two (i := j) (j := z) hj hz ⟨pj, fun e => hij e.symm⟩ ⟨pz, hzi⟩ (fun e => hzj e.symm)
  omega
theorem cn_inj {R : Nat → Nat → Prop} {n : Nat} (hR : ∀ y x x', R y x → R y x' → x = x') : ∀ {n1 : Nat} {p q : Nat → Prop}, (∀ x, x < n1 → p x → ∃ y, y < n ∧ q y ∧ R y x) → cn p n1 ≤ cn q n := by
  intro n1
  induction n1 with
  | zero => intro p q _; exact Nat.zero_le _
  | succ n1 ih =>
    intro p q h
    show fb_ct (fun x => pb (p x)) n1 + (if pb (p n1) = true then 1 else 0) ≤ cn q n
    by_cases hp : p n1
    · obtain ⟨y, hy, hq, hr⟩ := h n1 (by omega) hp
      have e := cn_rm hy hq
      have h2 : cn p n1 ≤ cn (fun k => q k ∧ k ≠ y) n := ih (fun x hx hpx => by
        obtain ⟨y', hy', hq', hr'⟩ := h x (by omega) hpx
        refine ⟨y', hy', ⟨hq', fun e => ?_⟩, hr'⟩
        rw [e] at hr'
        have := hR y n1 x hr hr'
        omega)
      rw [if_pos (pb_iff.mpr hp)]
      have h3 : fb_ct (fun x => pb (p x)) n1 = cn p n1 := rfl
      omega
    · rw [if_neg (fun e => hp (pb_iff.mp e))]
      exact ih (fun x hx => h x (by omega))
theorem cn_slots_hi {P : Nat → Prop} {σ : Nat → Nat} {n m : Nat} (h : ∀ j, cn (fun x => P x ∧ σ x = j) n ≤ m) (a : Nat) : ∀ d, cn (fun x => P x ∧ (a ≤ σ x ∧ σ x < a + d)) n ≤ m * d := by
  intro d
  induction d with
  | zero =>
    rcases Nat.eq_zero_or_pos (cn (fun x => P x ∧ (a ≤ σ x ∧ σ x < a + 0)) n) with q | q
    · omega
    · obtain ⟨k, _, _, h1, h2⟩ := cn_pos.mp q
      omega
  | succ d ih =>
    have e : cn (fun x => (P x ∧ (a ≤ σ x ∧ σ x < a + d)) ∨ (P x ∧ σ x = a + d)) n = cn (fun x => P x ∧ (a ≤ σ x ∧ σ x < a + d)) n + cn (fun x => P x ∧ σ x = a + d) n :=
      cn_or (fun k _ hh => by
        have := hh.1.2.2
        have := hh.2.2
        omega)
    have s : cn (fun x => P x ∧ (a ≤ σ x ∧ σ x < a + (d + 1))) n ≤ cn (fun x => (P x ∧ (a ≤ σ x ∧ σ x < a + d)) ∨ (P x ∧ σ x = a + d)) n := cn_sub (fun k _ hk => by
      obtain ⟨h1, h2, h3⟩ := hk
      by_cases q : σ k = a + d
      · exact Or.inr ⟨h1, q⟩
      · exact Or.inl ⟨h1, h2, by omega⟩)
    have := h (a + d)
    rw [Nat.mul_succ]
    omega
theorem cn_slots_lo {P : Nat → Prop} {σ : Nat → Nat} {n m a : Nat} : ∀ {d : Nat}, (∀ j, a ≤ j → j < a + d → m ≤ cn (fun x => P x ∧ σ x = j) n) → m * d ≤ cn (fun x => P x ∧ (a ≤ σ x ∧ σ x < a + d)) n := by
  intro d
  induction d with
  | zero => intro _; exact Nat.zero_le _
  | succ d ih =>
    intro h
    have e : cn (fun x => (P x ∧ (a ≤ σ x ∧ σ x < a + d)) ∨ (P x ∧ σ x = a + d)) n = cn (fun x => P x ∧ (a ≤ σ x ∧ σ x < a + d)) n + cn (fun x => P x ∧ σ x = a + d) n :=
      cn_or (fun k _ hh => by
        have := hh.1.2.2
        have := hh.2.2
        omega)
    have s : cn (fun x => (P x ∧ (a ≤ σ x ∧ σ x < a + d)) ∨ (P x ∧ σ x = a + d)) n ≤ cn (fun x => P x ∧ (a ≤ σ x ∧ σ x < a + (d + 1))) n := cn_sub (fun k _ hk => by
      rcases hk with ⟨h1, h2, h3⟩ | ⟨h1, h2⟩
      · exact ⟨h1, h2, by omega⟩
      · exact ⟨h1, by omega, by omega⟩)
    have i := ih (fun j h1 h2 => h j h1 (by omega))
    have := h (a + d) (by omega) (by omega)
    rw [Nat.mul_succ]
    omega
theorem ex_min {p : Nat → Prop} (f : Nat → Nat) (h : ∃ x, p x) : ∃ x, p x ∧ ∀ y, p y → f x ≤ f y := by
  obtain ⟨x, hx⟩ := h
  have key : ∀ k x, f x ≤ k → p x → ∃ x, p x ∧ ∀ y, p y → f x ≤ f y := by
    intro k
    induction k with
    | zero =>
      intro x hk hx
      exact ⟨x, hx, fun y _ => by omega⟩
    | succ k ih =>
      intro x hk hx
      by_cases q : ∃ y, p y ∧ f y < f x
      · obtain ⟨y, hy, hlt⟩ := q
        exact ih y (by omega) hy
      · refine ⟨x, hx, fun y hy => ?_⟩
        rcases Nat.lt_or_ge (f y) (f x) with r | r
        · exact absurd ⟨y, hy, r⟩ q
        · exact r
  exact key (f x) x (Nat.le_refl _) hx
theorem ex_max {p : Nat → Prop} (f : Nat → Nat) (B : Nat) (hB : ∀ x, p x → f x ≤ B) (h : ∃ x, p x) : ∃ x, p x ∧ ∀ y, p y → f y ≤ f x := by
  obtain ⟨x, hx, hm⟩ := ex_min (fun x => B - f x) h
  refine ⟨x, hx, fun y hy => ?_⟩
  have h1 : B - f x ≤ B - f y := hm y hy
  have h2 := hB x hx
  have h3 := hB y hy
  omega
/-! schedules: σ gives each task of P its slot (0 .. k - 1), at most m in a slot, lt kept -/
def sq_ok (n m k : Nat) (P : Nat → Prop) (lt : Nat → Nat → Prop) (σ : Nat → Nat) : Prop :=
  (∀ x, P x → σ x < k) ∧ (∀ x y, P x → P y → lt x y → σ x < σ y) ∧ (∀ j, cn (fun x => P x ∧ σ x = j) n ≤ m)
/-- every slot takes the ready tasks of the greatest α -/
def sq_greedy (n m T : Nat) (P : Nat → Prop) (lt : Nat → Nat → Prop) (α τ : Nat → Nat) : Prop :=
  sq_ok n m T P lt τ ∧ (∀ t, t < T → ∃ x, P x ∧ τ x = t) ∧ (∀ x, P x → ∀ t, t < τ x → (∀ y, P y → lt y x → τ y < t) → cn (fun z => P z ∧ τ z = t) n = m ∧ ∀ z, P z → τ z = t → α x ≤ α z)
def sq_im (P : Nat → Prop) (lt : Nat → Nat → Prop) (u w : Nat) : Prop := P w ∧ lt u w ∧ ∀ y, P y → lt u y → ¬ lt y w
def sq_lex (P : Nat → Prop) (lt : Nat → Nat → Prop) (α : Nat → Nat) (u v : Nat) : Prop :=
  (∀ w, sq_im P lt u w ↔ sq_im P lt v w) ∨ ∃ x, sq_im P lt v x ∧ ¬ sq_im P lt u x ∧ ∀ y, P y → α x < α y → (sq_im P lt u y ↔ sq_im P lt v y)
def cg_good (n : Nat) (P : Nat → Prop) (τ α : Nat → Nat) (t v : Nat) : Prop := 2 ≤ cn (fun z => P z ∧ τ z = t) n ∧ ∀ z, P z → τ z = t → α v < α z
def cg_top (P : Nat → Prop) (τ α : Nat → Nat) (t v : Nat) : Prop := P v ∧ τ v = t ∧ ∀ z, P z → τ z = t → α z ≤ α v
def cg_X (P : Nat → Prop) (τ : Nat → Nat) (a t v x : Nat) : Prop := P x ∧ (x = v ∨ (a ≤ τ x ∧ τ x < t))
set_option maxHeartbeats 4000000 in
/-- Coffman and Graham: block by block, each task of the earlier block is before each of the later -/
theorem cg_pre {n : Nat} {P : Nat → Prop} {lt : Nat → Nat → Prop} {α τ : Nat → Nat} (hP : ∀ x, P x → x < n)
    (htr : ∀ x y z, P x → P y → P z → lt x y → lt y z → lt x z) (hinj : ∀ x y, P x → P y → α x = α y → x = y)
    (hmo : ∀ x y, P x → P y → lt x y → α y < α x) (hlex : ∀ u v, P u → P v → α u < α v → sq_lex P lt α u v)
    (hτlt : ∀ x y, P x → P y → lt x y → τ x < τ y) (hτ2 : ∀ j, cn (fun x => P x ∧ τ x = j) n ≤ 2)
    (hgr : ∀ x, P x → ∀ t, t < τ x → (∀ y, P y → lt y x → τ y < t) → cn (fun z => P z ∧ τ z = t) n = 2 ∧ ∀ z, P z → τ z = t → α x ≤ α z)
    {t a t' a' v v' : Nat} (ha : a = t' + 1) (hat : a ≤ t) (hv : cg_top P τ α t v) (hgood : ∀ j, a ≤ j → j < t → cg_good n P τ α j v)
    (hlow : ¬ cg_good n P τ α t' v) (hv' : cg_top P τ α t' v') (ha' : a' ≤ t') (hgood' : ∀ j, a' ≤ j → j < t' → cg_good n P τ α j v') :
    ∀ z x, cg_X P τ a' t' v' z → cg_X P τ a t v x → lt z x := by
  obtain ⟨pv, tv, mv⟩ := hv
  obtain ⟨pv', tv', mv'⟩ := hv'
  have two : ∀ w, P w → τ w = t' → w ≠ v' → α v < α w → False := by
    intro w pw tw hne1 hw
    apply hlow
    have h2 : 2 ≤ cn (fun z => P z ∧ τ z = t') n := cn_two (hP w pw) (hP v' pv') ⟨pw, tw⟩ ⟨pv', tv'⟩ hne1
    refine ⟨h2, ?_⟩
    intro z pz tz
    rcases cn_three (hτ2 t') (hP w pw) (hP v' pv') (hP z pz) ⟨pw, tw⟩ ⟨pv', tv'⟩ ⟨pz, tz⟩ hne1 with e | e
    · rw [e]; exact hw
    · rw [e]
      have := mv' w pw tw
      omega
  have f1 : ∀ x, cg_X P τ a t v x → P x ∧ α v ≤ α x ∧ a ≤ τ x := by
    intro x hx
    obtain ⟨px, e | ⟨h1, h2⟩⟩ := hx
    · refine ⟨px, ?_, ?_⟩
      · rw [e]; exact Nat.le_refl _
      · rw [e, tv]; exact hat
    · exact ⟨px, Nat.le_of_lt ((hgood (τ x) h1 h2).2 x px rfl), h1⟩
  have f2 : ∀ b y, τ y < b → P y → t ≤ τ y → α y ≤ α v := by
    intro b
    induction b with
    | zero => intro y h; omega
    | succ b ih =>
      intro y hb py hy
      apply Classical.byContradiction
      intro hn
      by_cases e : τ y = t
      · have := mv y py e
        omega
      · have r : ∀ p, P p → lt p y → τ p < t := by
          intro p pp hpy
          apply Classical.byContradiction
          intro hq
          have h1 := hτlt p y pp py hpy
          have h2 := hmo p y pp py hpy
          have h3 := ih p (by omega) pp (by omega)
          omega
        have := (hgr y py t (by omega) r).2 v pv tv
        omega
  have f3 : ∀ y, P y → a ≤ τ y → α v ≤ α y → cg_X P τ a t v y := by
    intro y py h1 h2
    refine ⟨py, ?_⟩
    rcases Nat.lt_or_ge (τ y) t with q | q
    · exact Or.inr ⟨h1, q⟩
    · left
      have := f2 (τ y + 1) y (by omega) py q
      exact hinj y v py pv (by omega)
  have f4 : ∀ b x, τ x < b → cg_X P τ a t v x → lt v' x := by
    intro b
    induction b with
    | zero => intro x h; omega
    | succ b ih =>
      intro x hb hx
      obtain ⟨px, h1, h2⟩ := f1 x hx
      apply Classical.byContradiction
      intro hn
      have r : ∀ p, P p → lt p x → τ p < t' := by
        intro p pp hpx
        apply Classical.byContradiction
        intro hq
        have h3 := hτlt p x pp px hpx
        have h4 := hmo p x pp px hpx
        rcases Nat.lt_or_ge (τ p) a with q | q
        · have e : τ p = t' := by omega
          by_cases ev : p = v'
          · exact hn (ev ▸ hpx)
          · exact two p pp e ev (by omega)
        · exact hn (htr v' p x pv' pp px (ih p (by omega) (f3 p pp q (by omega))) hpx)
      obtain ⟨c1, c2⟩ := hgr x px t' (by omega) r
      apply hlow
      refine ⟨by omega, fun z pz tz => ?_⟩
      have c3 := c2 z pz tz
      have c4 : α v ≠ α z := fun e => by
        have e2 := hinj v z pv pz e
        rw [← e2] at tz
        omega
      omega
  have f5 : ∀ b z, t' ≤ τ z + b → cg_X P τ a' t' v' z → ∀ x, cg_X P τ a t v x → lt z x := by
    intro b
    induction b with
    | zero =>
      intro z hb hz x hx
      obtain ⟨pz, e | ⟨_, h⟩⟩ := hz
      · rw [e]; exact f4 _ x (Nat.lt_succ_self _) hx
      · omega
    | succ b ih =>
      intro z hb hz x hx
      obtain ⟨pz, e | ⟨h1, h2⟩⟩ := hz
      · rw [e]; exact f4 _ x (Nat.lt_succ_self _) hx
      · have hα : α v' < α z := (hgood' (τ z) h1 h2).2 z pz rfl
        by_cases hsuc : ∃ z2, cg_X P τ a' t' v' z2 ∧ lt z z2
        · obtain ⟨z2, hz2, l2⟩ := hsuc
          have := hτlt z z2 pz hz2.1 l2
          exact htr z z2 x pz hz2.1 (f1 x hx).1 l2 (ih z2 (by omega) hz2 x hx)
        · have g3 : ∀ w, P w → lt z w → α v ≤ α w → cg_X P τ a t v w := by
            intro w pw lw hw
            have h3 := hτlt z w pz pw lw
            rcases Nat.lt_trichotomy (τ w) t' with q | q | q
            · exact absurd ⟨w, ⟨pw, Or.inr ⟨by omega, q⟩⟩, lw⟩ hsuc
            · by_cases ew : w = v'
              · exact absurd ⟨w, ⟨pw, Or.inl ew⟩, lw⟩ hsuc
              · exfalso
                have c4 : α v ≠ α w := fun e => by
                  have e2 := hinj v w pv pw e
                  rw [← e2] at q
                  omega
                exact two w pw q ew (by omega)
            · exact f3 w pw (by omega) hw
          have hR : ∀ w, cg_X P τ a t v w → (∀ y, cg_X P τ a t v y → ¬ lt y w) → sq_im P lt v' w := by
            intro w hw hmin
            obtain ⟨pw, w1, w2⟩ := f1 w hw
            refine ⟨pw, f4 _ w (Nat.lt_succ_self _) hw, ?_⟩
            intro y py l1 l2
            have := hτlt v' y pv' py l1
            have := hmo y w py pw l2
            exact hmin y (f3 y py (by omega) (by omega)) l2
          have hmin : ∀ w, cg_X P τ a t v w → ∃ r, cg_X P τ a t v r ∧ (r = w ∨ lt r w) ∧ ∀ y, cg_X P τ a t v y → ¬ lt y r := by
            intro w hw
            obtain ⟨r, ⟨r1, r2⟩, r3⟩ := ex_min (p := fun r => cg_X P τ a t v r ∧ (r = w ∨ lt r w)) τ ⟨w, hw, Or.inl rfl⟩
            refine ⟨r, r1, r2, ?_⟩
            intro y hy l
            have h3 := hτlt y r hy.1 r1.1 l
            have h4 := r3 y ⟨hy, Or.inr (by
              rcases r2 with e | e
              · rw [← e]; exact l
              · exact htr y r w hy.1 r1.1 hw.1 l e)⟩
            omega
          have hz : ∀ r, cg_X P τ a t v r → (∀ y, cg_X P τ a t v y → ¬ lt y r) → lt z r := by
            intro r hr hmr
            have hvr := hR r hr hmr
            rcases hlex v' z pv' pz hα with e | ⟨x0, e1, e2, e3⟩
            · exact ((e r).mp hvr).2.1
            · rcases Nat.lt_or_ge (α x0) (α v) with q | q
              · have := (f1 r hr).2.1
                exact ((e3 r hr.1 (by omega)).mp hvr).2.1
              · exfalso
                have hx0 := g3 x0 e1.1 e1.2.1 q
                obtain ⟨r', r1, r2, r3⟩ := hmin x0 hx0
                rcases r2 with e | e
                · exact e2 (e ▸ hR r' r1 r3)
                · have h5 := hmo r' x0 r1.1 hx0.1 e
                  have h6 := (e3 r' r1.1 h5).mp (hR r' r1 r3)
                  exact e1.2.2 r' r1.1 h6.2.1 e
          obtain ⟨r, r1, r2, r3⟩ := hmin x hx
          rcases r2 with e | e
          · rw [← e]; exact hz r r1 r3
          · exact htr z r x pz r1.1 hx.1 (hz r r1 r3) e
  intro z x hz hx
  exact f5 t' z (by omega) hz x hx
set_option maxHeartbeats 4000000 in
/-- two in a slot: no schedule is shorter than the greedy one on Coffman and Graham's labels -/
theorem cg_opt {n T k B : Nat} {P : Nat → Prop} {lt : Nat → Nat → Prop} {α τ σ : Nat → Nat} (hP : ∀ x, P x → x < n)
    (htr : ∀ x y z, P x → P y → P z → lt x y → lt y z → lt x z) (hB : ∀ x, P x → α x ≤ B) (hinj : ∀ x y, P x → P y → α x = α y → x = y)
    (hmo : ∀ x y, P x → P y → lt x y → α y < α x) (hlex : ∀ u v, P u → P v → α u < α v → sq_lex P lt α u v)
    (hg : sq_greedy n 2 T P lt α τ) (hs : sq_ok n 2 k P lt σ) : T ≤ k := by
  obtain ⟨⟨hτT, hτlt, hτ2⟩, hne, hgr⟩ := hg
  obtain ⟨hσk, hσlt, hσ2⟩ := hs
  have gap : ∀ v s, ∃ a, a ≤ s ∧ (∀ j, a ≤ j → j < s → cg_good n P τ α j v) ∧ (a = 0 ∨ ∃ t', a = t' + 1 ∧ ¬ cg_good n P τ α t' v) := by
    intro v s
    induction s with
    | zero => exact ⟨0, Nat.le_refl _, fun j _ h => absurd h (Nat.not_lt_zero j), Or.inl rfl⟩
    | succ s ih =>
      by_cases q : cg_good n P τ α s v
      · obtain ⟨a, h1, h2, h3⟩ := ih
        refine ⟨a, by omega, fun j j1 j2 => ?_, h3⟩
        by_cases e : j = s
        · rw [e]; exact q
        · exact h2 j j1 (by omega)
      · exact ⟨s + 1, Nat.le_refl _, fun j j1 j2 => by omega, Or.inr ⟨s, rfl, q⟩⟩
  have top : ∀ t, t < T → ∃ v, cg_top P τ α t v := by
    intro t ht
    obtain ⟨x, px, tx⟩ := hne t ht
    obtain ⟨v, ⟨pv, tv⟩, mv⟩ := ex_max (p := fun x => P x ∧ τ x = t) α B (fun x h => hB x h.1) ⟨x, px, tx⟩
    exact ⟨v, pv, tv, fun z pz tz => mv z ⟨pz, tz⟩⟩
  have count : ∀ t v a, cg_top P τ α t v → a ≤ t → (∀ j, a ≤ j → j < t → cg_good n P τ α j v) → (∀ x, cg_X P τ a t v x → a ≤ σ x) → ∃ x, cg_X P τ a t v x ∧ t ≤ σ x := by
    intro t v a hv hat hgd hlow
    apply Classical.byContradiction
    intro hn
    have hall : ∀ x, cg_X P τ a t v x → σ x < t := by
      intro x hx
      rcases Nat.lt_or_ge (σ x) t with q | q
      · exact q
      · exact absurd ⟨x, hx, q⟩ hn
    have lo : 2 * (t - a) ≤ cn (fun x => P x ∧ (a ≤ τ x ∧ τ x < a + (t - a))) n := cn_slots_lo (fun j h1 h2 => (hgd j h1 (by omega)).1)
    have up : cn (fun x => P x ∧ (a ≤ σ x ∧ σ x < a + (t - a))) n ≤ 2 * (t - a) := cn_slots_hi hσ2 a (t - a)
    have lt1 : cn (fun x => P x ∧ (a ≤ τ x ∧ τ x < a + (t - a))) n < cn (fun x => P x ∧ (a ≤ σ x ∧ σ x < a + (t - a))) n := by
      apply cn_lt (w := v)
      · intro x hx hh
        obtain ⟨px, h1, h2⟩ := hh
        have hX : cg_X P τ a t v x := ⟨px, Or.inr ⟨h1, by omega⟩⟩
        have := hall x hX
        exact ⟨px, hlow x hX, by omega⟩
      · exact hP v hv.1
      · have hX : cg_X P τ a t v v := ⟨hv.1, Or.inl rfl⟩
        have := hall v hX
        exact ⟨hv.1, hlow v hX, by omega⟩
      · rintro ⟨_, _, h2⟩
        have := hv.2.1
        omega
    omega
  have bound : ∀ b t, t < b → t < T → ∀ v a, cg_top P τ α t v → a ≤ t → (∀ j, a ≤ j → j < t → cg_good n P τ α j v) → (a = 0 ∨ ∃ t', a = t' + 1 ∧ ¬ cg_good n P τ α t' v) → ∃ x, cg_X P τ a t v x ∧ t ≤ σ x := by
    intro b
    induction b with
    | zero => intro t h; omega
    | succ b ih =>
      intro t hb hT v a hv hat hgd hlow
      rcases hlow with e | ⟨t', e, hl⟩
      · exact count t v a hv hat hgd (fun x _ => by omega)
      · obtain ⟨v', hv'⟩ := top t' (by omega)
        obtain ⟨a', g1, g2, g3⟩ := gap v' t'
        obtain ⟨y, y1, y2⟩ := ih t' (by omega) (by omega) v' a' hv' g1 g2 g3
        refine count t v a hv hat hgd (fun x hx => ?_)
        have h := cg_pre hP htr hinj hmo hlex hτlt hτ2 hgr e hat hv hgd hl hv' g1 g2 y x y1 hx
        have := hσlt y x y1.1 hx.1 h
        omega
  rcases Nat.eq_zero_or_pos T with q | q
  · omega
  · obtain ⟨v, hv⟩ := top (T - 1) (by omega)
    obtain ⟨a, g1, g2, g3⟩ := gap v (T - 1)
    obtain ⟨x, x1, x2⟩ := bound T (T - 1) (by omega) (by omega) v a hv g1 g2 g3
    have := hσk x x1.1
    omega
/-! Hu: trees, the greatest heights first -/
def hu_rd (P : Nat → Prop) (lt : Nat → Nat → Prop) (τ α : Nat → Nat) (θ j z : Nat) : Prop := P z ∧ θ ≤ α z ∧ j ≤ τ z ∧ ∀ y, P y → lt y z → τ y < j
set_option maxHeartbeats 4000000 in
theorem hu_opt {n m T k : Nat} {P : Nat → Prop} {lt : Nat → Nat → Prop} {α τ σ : Nat → Nat} (hP : ∀ x, P x → x < n)
    (h1 : ∀ x, P x → 1 ≤ α x) (hmo : ∀ x y, P x → P y → lt x y → α y < α x) (h2 : ∀ x, P x → 2 ≤ α x → ∃ y, P y ∧ lt x y ∧ α x ≤ α y + 1)
    (hf : ∀ y x x', P y → sq_im P lt y x → sq_im P lt y x' → x = x')
    (hg : sq_greedy n m T P lt α τ) (hs : sq_ok n m k P lt σ) : T ≤ k := by
  obtain ⟨⟨hτT, hτlt, hτ2⟩, hne, hgr⟩ := hg
  obtain ⟨hσk, hσlt, hσ2⟩ := hs
  have bnd : ∀ b x, α x ≤ b → P x → σ x + α x ≤ k := by
    intro b
    induction b with
    | zero =>
      intro x hb px
      have := h1 x px
      omega
    | succ b ih =>
      intro x hb px
      have a1 := h1 x px
      rcases Nat.lt_or_ge 1 (α x) with q | q
      · obtain ⟨y, py, l, e⟩ := h2 x px q
        have := hσlt x y px py l
        have := hmo x y px py l
        have := ih y (by omega) py
        omega
      · have := hσk x px
        omega
  have cntθ : ∀ θ, 1 ≤ θ → cn (fun x => P x ∧ θ ≤ α x) n ≤ m * (k + 1 - θ) := by
    intro θ hθ
    have up := cn_slots_hi hσ2 0 (k + 1 - θ)
    refine Nat.le_trans (cn_sub ?_) up
    intro x hx hh
    obtain ⟨px, h⟩ := hh
    have := bnd (α x) x (Nat.le_refl _) px
    exact ⟨px, Nat.zero_le _, by omega⟩
  have main : ∀ b t, t < b → ∀ x, P x → t ≤ τ x → T ≤ t + α x → T ≤ k := by
    intro b
    induction b with
    | zero => intro t h; omega
    | succ b ih =>
      intro t hb x px hx hT
      have hθ := h1 x px
      by_cases q : ∀ j, j < t → m ≤ cn (fun z => P z ∧ τ z = j) n ∧ ∀ z, P z → τ z = j → α x ≤ α z
      · have lo : m * t ≤ cn (fun z => P z ∧ (0 ≤ τ z ∧ τ z < 0 + t)) n := cn_slots_lo (fun j _ h => (q j (by omega)).1)
        have lt1 : cn (fun z => P z ∧ (0 ≤ τ z ∧ τ z < 0 + t)) n < cn (fun z => P z ∧ α x ≤ α z) n := by
          apply cn_lt (w := x)
          · intro z hz hh
            obtain ⟨pz, _, h⟩ := hh
            exact ⟨pz, (q (τ z) (by omega)).2 z pz rfl⟩
          · exact hP x px
          · exact ⟨px, Nat.le_refl _⟩
          · rintro ⟨_, _, h⟩
            omega
        have up := cntθ (α x) hθ
        have h3 : m * t < m * (k + 1 - α x) := by omega
        have h4 : t < k + 1 - α x := Nat.lt_of_mul_lt_mul_left h3
        omega
      · obtain ⟨t1, ht1, hbad⟩ : ∃ t1, t1 < t ∧ ¬ (m ≤ cn (fun z => P z ∧ τ z = t1) n ∧ ∀ z, P z → τ z = t1 → α x ≤ α z) := by
          apply Classical.byContradiction
          intro hn
          exact q (fun j hj => Classical.byContradiction (fun h => hn ⟨j, hj, h⟩))
        have rdy : ∀ d, cn (fun z => hu_rd P lt τ α (α x) (t1 + d) z) n < m ∧ ∀ z, hu_rd P lt τ α (α x) (t1 + d) z → τ z = t1 + d := by
          intro d
          induction d with
          | zero =>
            have sub : ∀ z, hu_rd P lt τ α (α x) (t1 + 0) z → τ z = t1 := by
              intro z hz
              obtain ⟨pz, z1, z2, z3⟩ := hz
              apply Classical.byContradiction
              intro hq
              obtain ⟨c1, c2⟩ := hgr z pz t1 (by omega) z3
              exact hbad ⟨by omega, fun w pw tw => by
                have := c2 w pw tw
                omega⟩
            refine ⟨?_, sub⟩
            have le : cn (fun z => hu_rd P lt τ α (α x) (t1 + 0) z) n ≤ cn (fun z => P z ∧ τ z = t1) n := cn_sub (fun z _ h => ⟨h.1, sub z h⟩)
            by_cases full : m ≤ cn (fun z => P z ∧ τ z = t1) n
            · obtain ⟨w, pw, tw, hw⟩ : ∃ w, P w ∧ τ w = t1 ∧ α w < α x := by
                apply Classical.byContradiction
                intro hn
                exact hbad ⟨full, fun w pw tw => by
                  rcases Nat.lt_or_ge (α w) (α x) with r | r
                  · exact absurd ⟨w, pw, tw, r⟩ hn
                  · exact r⟩
              have h5 : cn (fun z => hu_rd P lt τ α (α x) (t1 + 0) z) n < cn (fun z => P z ∧ τ z = t1) n := cn_lt (w := w) (fun z _ h => ⟨h.1, sub z h⟩) (hP w pw) ⟨pw, tw⟩ (fun h => by
                have := h.2.1
                omega)
              have := hτ2 t1
              omega
            · omega
          | succ d ihd =>
            obtain ⟨i1, i2⟩ := ihd
            have le : cn (fun z => hu_rd P lt τ α (α x) (t1 + (d + 1)) z) n ≤ cn (fun z => hu_rd P lt τ α (α x) (t1 + d) z) n := by
              apply cn_inj (R := fun y z => P y ∧ sq_im P lt y z) (fun y z z' h h' => hf y z z' h.1 h.2 h'.2)
              intro z hz hh
              obtain ⟨pz, z1, z2, z3⟩ := hh
              obtain ⟨y, py, l, hy⟩ : ∃ y, P y ∧ lt y z ∧ t1 + d ≤ τ y := by
                apply Classical.byContradiction
                intro hn
                have := i2 z ⟨pz, z1, by omega, fun y py l => by
                  rcases Nat.lt_or_ge (τ y) (t1 + d) with r | r
                  · exact r
                  · exact absurd ⟨y, py, l, r⟩ hn⟩
                omega
              have y3 := z3 y py l
              have y4 := hmo y z py pz l
              refine ⟨y, hP y py, ⟨py, by omega, hy, fun p pp lp => by
                have := hτlt p y pp py lp
                omega⟩, py, pz, l, ?_⟩
              intro w pw l1 l2
              have := hτlt y w py pw l1
              have := z3 w pw l2
              omega
            refine ⟨by omega, ?_⟩
            intro z hh
            obtain ⟨pz, z1, z2, z3⟩ := hh
            apply Classical.byContradiction
            intro hq
            obtain ⟨c1, c2⟩ := hgr z pz (t1 + (d + 1)) (by omega) z3
            have h6 : cn (fun w => P w ∧ τ w = t1 + (d + 1)) n ≤ cn (fun w => hu_rd P lt τ α (α x) (t1 + (d + 1)) w) n := cn_sub (fun w _ h => ⟨h.1, by
              have := c2 w h.1 h.2
              omega, by
              have := h.2
              omega, fun p pp lp => by
              have := hτlt p w pp h.1 lp
              have := h.2
              omega⟩)
            omega
        have down : ∀ d, d ≤ t - t1 → ∃ y, P y ∧ t - d ≤ τ y ∧ α x + d ≤ α y := by
          intro d
          induction d with
          | zero => intro _; exact ⟨x, px, hx, Nat.le_refl _⟩
          | succ d ihd =>
            intro hd
            obtain ⟨y, py, y1, y2⟩ := ihd (by omega)
            apply Classical.byContradiction
            intro hn
            have hr : hu_rd P lt τ α (α x) (t1 + (t - (d + 1) - t1)) y := by
              refine ⟨py, by omega, by omega, ?_⟩
              intro p pp l
              apply Classical.byContradiction
              intro hq
              have := hmo p y pp py l
              exact hn ⟨p, pp, by omega, by omega⟩
            have := (rdy (t - (d + 1) - t1)).2 y hr
            omega
        obtain ⟨y, py, y1, y2⟩ := down (t - t1) (Nat.le_refl _)
        exact ih t1 (by omega) y py (by omega) (by omega)
  rcases Nat.eq_zero_or_pos T with q | q
  · omega
  · obtain ⟨x, px, tx⟩ := hne (T - 1) (by omega)
    have := h1 x px
    exact main T (T - 1) (by omega) x px (by omega) (by omega)
/-- one in a slot -/
theorem one_len {n T : Nat} {P : Nat → Prop} {lt : Nat → Nat → Prop} {α τ : Nat → Nat} (hP : ∀ x, P x → x < n) (hg : sq_greedy n 1 T P lt α τ) : T ≤ cn P n := by
  obtain ⟨⟨hτT, hτlt, hτ2⟩, hne, hgr⟩ := hg
  have lo : 1 * T ≤ cn (fun z => P z ∧ (0 ≤ τ z ∧ τ z < 0 + T)) n := cn_slots_lo (fun j _ h => by
    obtain ⟨x, px, tx⟩ := hne j (by omega)
    exact cn_pos.mpr ⟨x, hP x px, px, tx⟩)
  have up : cn (fun z => P z ∧ (0 ≤ τ z ∧ τ z < 0 + T)) n ≤ cn P n := cn_sub (fun x _ h => h.1)
  omega
theorem one_le {n k : Nat} {P : Nat → Prop} {lt : Nat → Nat → Prop} {σ : Nat → Nat} (hs : sq_ok n 1 k P lt σ) : cn P n ≤ k := by
  obtain ⟨hσk, hσlt, hσ2⟩ := hs
  have up := cn_slots_hi hσ2 0 k
  have : cn P n ≤ cn (fun x => P x ∧ (0 ≤ σ x ∧ σ x < 0 + k)) n := cn_sub (fun x _ h => ⟨h, Nat.zero_le _, by
    have := hσk x h
    omega⟩)
  omega
end
section
/-! runs: the sets of tasks that are done, slot by slot, as numbers by their bits -/
def rn_st (m : Nat) (P : Nat → Prop) (E : Nat → Nat → Prop) (A B : Nat) : Prop :=
  (∀ x, A.testBit x = true → B.testBit x = true) ∧ (∀ x, B.testBit x = true → A.testBit x = false → P x ∧ ∀ u, P u → A.testBit u = false → ¬ E u x) ∧ cn (fun x => B.testBit x = true ∧ A.testBit x = false) 9 ≤ m
def rn_run (m : Nat) (P : Nat → Prop) (E : Nat → Nat → Prop) (k : Nat) (f : Nat → Nat) (D : Nat) : Prop := f 0 = 0 ∧ f k = D ∧ ∀ t, t < k → rn_st m P E (f t) (f (t + 1))
def rn_gr (m : Nat) (P : Nat → Prop) (lt : Nat → Nat → Prop) (α : Nat → Nat) (A B : Nat) : Prop :=
  (∃ x, B.testBit x = true ∧ A.testBit x = false) ∧ ∀ x, P x → B.testBit x = false → (∀ y, P y → lt y x → A.testBit y = true) → cn (fun z => B.testBit z = true ∧ A.testBit z = false) 9 = m ∧ ∀ z, B.testBit z = true → A.testBit z = false → α x ≤ α z
theorem rn_tau {k : Nat} {f : Nat → Nat} (h0 : f 0 = 0) (hm : ∀ t, t < k → ∀ x, (f t).testBit x = true → (f (t + 1)).testBit x = true) : ∃ τ : Nat → Nat, ∀ x t, t ≤ k → ((f t).testBit x = true ↔ τ x < t) := by
  have key : ∀ x, ∃ a, ∀ t, t ≤ k → ((f t).testBit x = true ↔ a < t) := by
    intro x
    have g : ∀ j, j ≤ k → ∃ a, a ≤ j ∧ ∀ t, t ≤ j → ((f t).testBit x = true ↔ a < t) := by
      intro j
      induction j with
      | zero =>
        intro _
        refine ⟨0, Nat.le_refl _, fun t ht => ?_⟩
        have e : t = 0 := by omega
        rw [e, h0, Nat.zero_testBit]
        exact ⟨fun h => (by cases h), fun h => (by omega)⟩
      | succ j ih =>
        intro hj
        obtain ⟨a, a1, a2⟩ := ih (by omega)
        by_cases q : (f j).testBit x = true
        · have a3 := (a2 j (Nat.le_refl _)).mp q
          refine ⟨a, by omega, fun t ht => ?_⟩
          by_cases e : t = j + 1
          · rw [e]
            exact ⟨fun _ => by omega, fun _ => hm j (by omega) x q⟩
          · exact a2 t (by omega)
        · have a3 : ¬ a < j := fun h => q ((a2 j (Nat.le_refl _)).mpr h)
          have a4 : ∀ t, t ≤ j → ¬ (f t).testBit x = true := fun t ht h => by
            have := (a2 t ht).mp h
            omega
          by_cases r : (f (j + 1)).testBit x = true
          · refine ⟨j, by omega, fun t ht => ?_⟩
            by_cases e : t = j + 1
            · rw [e]
              exact ⟨fun _ => by omega, fun _ => r⟩
            · exact ⟨fun h => absurd h (a4 t (by omega)), fun h => by omega⟩
          · refine ⟨j + 1, by omega, fun t ht => ?_⟩
            by_cases e : t = j + 1
            · rw [e]
              exact ⟨fun h => absurd h r, fun h => by omega⟩
            · exact ⟨fun h => absurd h (a4 t (by omega)), fun h => by omega⟩
    obtain ⟨a, _, h⟩ := g k (Nat.le_refl _)
    exact ⟨a, h⟩
  exact ⟨fun x => Classical.choose (key x), fun x => Classical.choose_spec (key x)⟩
theorem rn_okτ {m k : Nat} {P : Nat → Prop} {E : Nat → Nat → Prop} {f : Nat → Nat} {D : Nat} (hD : ∀ x, P x → D.testBit x = true) (h : rn_run m P E k f D) :
    ∃ τ : Nat → Nat, (∀ x t, t ≤ k → ((f t).testBit x = true ↔ τ x < t)) ∧ sq_ok 9 m k P E τ := by
  obtain ⟨h0, hk, hst⟩ := h
  obtain ⟨τ, hτ⟩ := rn_tau (k := k) (f := f) h0 (fun t ht => (hst t ht).1)
  have inP : ∀ x, P x → τ x < k := fun x px => (hτ x k (Nat.le_refl _)).mp (by rw [hk]; exact hD x px)
  refine ⟨τ, hτ, inP, ?_, ?_⟩
  · intro x y px py e
    have ky := inP y py
    have y1 : (f (τ y + 1)).testBit y = true := (hτ y (τ y + 1) (by omega)).mpr (by omega)
    have y2 : (f (τ y)).testBit y = false := by
      cases q : (f (τ y)).testBit y
      · rfl
      · have := (hτ y (τ y) (by omega)).mp q
        omega
    have s := ((hst (τ y) ky).2.1 y y1 y2).2 x px
    cases q : (f (τ y)).testBit x
    · exact absurd e (s q)
    · exact (hτ x (τ y) (by omega)).mp q
  · intro j
    rcases Nat.lt_or_ge j k with q | q
    · refine Nat.le_trans (cn_sub ?_) (hst j q).2.2
      intro x _ hh
      obtain ⟨px, e⟩ := hh
      refine ⟨(hτ x (j + 1) (by omega)).mpr (by omega), ?_⟩
      cases r : (f j).testBit x
      · rfl
      · have := (hτ x j (by omega)).mp r
        omega
    · rcases Nat.eq_zero_or_pos (cn (fun x => P x ∧ τ x = j) 9) with r | r
      · omega
      · obtain ⟨x, _, px, e⟩ := cn_pos.mp r
        have := inP x px
        omega
theorem rn_ok {m k : Nat} {P : Nat → Prop} {E : Nat → Nat → Prop} {f : Nat → Nat} {D : Nat} (hD : ∀ x, P x → D.testBit x = true) (h : rn_run m P E k f D) : ∃ τ : Nat → Nat, sq_ok 9 m k P E τ := by
  obtain ⟨τ, _, h⟩ := rn_okτ hD h
  exact ⟨τ, h⟩
theorem rn_greedy {m k : Nat} {P : Nat → Prop} {lt : Nat → Nat → Prop} {α : Nat → Nat} {f : Nat → Nat} {D : Nat} (hD : ∀ x, P x ↔ D.testBit x = true) (h : rn_run m P lt k f D) (hg : ∀ t, t < k → rn_gr m P lt α (f t) (f (t + 1))) :
    ∃ τ : Nat → Nat, sq_greedy 9 m k P lt α τ := by
  obtain ⟨τ, hτ, ok⟩ := rn_okτ (fun x => (hD x).mp) h
  obtain ⟨h0, hk, hst⟩ := h
  have slot : ∀ t, t < k → ∀ x, ((f (t + 1)).testBit x = true ∧ (f t).testBit x = false) ↔ (P x ∧ τ x = t) := by
    intro t ht x
    constructor
    · rintro ⟨b1, b2⟩
      have c1 := (hτ x (t + 1) (by omega)).mp b1
      have c2 : ¬ τ x < t := fun h => by
        rw [(hτ x t (by omega)).mpr h] at b2
        cases b2
      refine ⟨(hD x).mpr ?_, by omega⟩
      rw [← hk]
      exact (hτ x k (Nat.le_refl _)).mpr (by omega)
    · rintro ⟨px, e⟩
      refine ⟨(hτ x (t + 1) (by omega)).mpr (by omega), ?_⟩
      cases r : (f t).testBit x
      · rfl
      · have := (hτ x t (by omega)).mp r
        omega
  refine ⟨τ, ok, ?_, ?_⟩
  · intro t ht
    obtain ⟨x, hx⟩ := (hg t ht).1
    exact ⟨x, (slot t ht x).mp hx⟩
  · intro x px t ht hr
    have tk : t < k := by
      have := ok.1 x px
      omega
    have b : (f (t + 1)).testBit x = false := by
      cases r : (f (t + 1)).testBit x
      · rfl
      · have := (hτ x (t + 1) (by omega)).mp r
        omega
    obtain ⟨c1, c2⟩ := (hg t tk).2 x px b (fun y py l => (hτ y t (by omega)).mpr (hr y py l))
    refine ⟨?_, fun z pz tz => ?_⟩
    · rw [← c1]
      exact cn_cong (fun z _ => (slot t tk z).symm)
    · have s := (slot t tk z).mpr ⟨pz, tz⟩
      exact c2 z s.1 s.2
theorem rn_less {m k : Nat} {P : Nat → Prop} {E E' : Nat → Nat → Prop} {f : Nat → Nat} {D : Nat} (hE : ∀ u x, P u → P x → E' u x → E u x) (h : rn_run m P E k f D) : rn_run m P E' k f D := by
  obtain ⟨h0, hk, hst⟩ := h
  refine ⟨h0, hk, fun t ht => ?_⟩
  obtain ⟨s1, s2, s3⟩ := hst t ht
  refine ⟨s1, fun x b1 b2 => ?_, s3⟩
  obtain ⟨px, hu⟩ := s2 x b1 b2
  exact ⟨px, fun u pu hb e => hu u pu hb (hE u x pu px e)⟩
theorem rn_ext {m k : Nat} {P : Nat → Prop} {E : Nat → Nat → Prop} {f : Nat → Nat} {A B : Nat} (h : rn_run m P E k f A) (s : rn_st m P E A B) : ∃ f', rn_run m P E (k + 1) f' B := by
  obtain ⟨h0, hk, hst⟩ := h
  refine ⟨fun t => if t ≤ k then f t else B, ?_, ?_, ?_⟩
  · show (if 0 ≤ k then f 0 else B) = 0
    rw [if_pos (Nat.zero_le _)]
    exact h0
  · exact if_neg (by omega)
  · intro t ht
    show rn_st m P E (if t ≤ k then f t else B) (if t + 1 ≤ k then f (t + 1) else B)
    by_cases e : t < k
    · rw [if_pos (by omega), if_pos (by omega)]
      exact hst t e
    · have e : t = k := by omega
      rw [e, if_pos (Nat.le_refl _), if_neg (by omega), hk]
      exact s
/-! the sets within a set, from the greatest down -/
theorem sm_next : ∀ (K a b c : Nat), a < 2 ^ K → a &&& b = a → c &&& b = c → c < a → c ≤ (a - 1) &&& b := by
  intro K
  induction K with
  | zero =>
    intro a b c h _ _ hc
    rw [Nat.pow_zero] at h
    omega
  | succ K ih =>
    intro a b c ha h1 h2 hc
    have a1 : (a / 2) &&& (b / 2) = a / 2 := by rw [← Nat.and_div_two, h1]
    have c1 : (c / 2) &&& (b / 2) = c / 2 := by rw [← Nat.and_div_two, h2]
    have X0 : ((a - 1) &&& b) / 2 = ((a - 1) / 2) &&& (b / 2) := Nat.and_div_two
    have Xm : ((a - 1) &&& b) % 2 = 1 ↔ (a - 1) % 2 = 1 ∧ b % 2 = 1 := Nat.and_mod_two_eq_one
    have cm : c % 2 = 1 → b % 2 = 1 := fun h => (Nat.and_mod_two_eq_one.mp (by rw [h2]; exact h)).2
    obtain ⟨X, hX⟩ : ∃ X, X = (a - 1) &&& b := ⟨_, rfl⟩
    rw [← hX] at X0 Xm ⊢
    rw [Nat.pow_succ] at ha
    rcases Nat.mod_two_eq_zero_or_one a with ea | ea
    · have i := ih (a / 2) (b / 2) (c / 2) (by omega) a1 c1 (by omega)
      have e : (a - 1) / 2 = a / 2 - 1 := by omega
      rw [e] at X0
      rw [← X0] at i
      rcases Nat.mod_two_eq_zero_or_one c with ec | ec
      · omega
      · have := Xm.mpr ⟨by omega, cm ec⟩
        omega
    · have e : (a - 1) / 2 = a / 2 := by omega
      rw [e, a1] at X0
      omega
theorem and_sub {a b : Nat} (h : a &&& b = a) {i : Nat} (hi : a.testBit i = true) : b.testBit i = true := by
  rw [← h, Nat.testBit_and] at hi
  cases q : b.testBit i
  · rw [q, Bool.and_false] at hi; cases hi
  · rfl
theorem and_of {a b : Nat} (h : ∀ i, a.testBit i = true → b.testBit i = true) : a &&& b = a := by
  apply Nat.eq_of_testBit_eq
  intro i
  rw [Nat.testBit_and]
  cases q : a.testBit i
  · rfl
  · rw [h i q]; rfl
theorem or_gt {d b w : Nat} (hdb : d &&& b = 0) (hw : w &&& b = w) (h0 : 0 < w) : d < d ||| w := by
  have h1 : d ≤ d ||| w := Nat.left_le_or
  rcases Nat.lt_or_ge d (d ||| w) with q | q
  · exact q
  · exfalso
    have e : d ||| w = d := by omega
    obtain ⟨i, hi⟩ := Nat.exists_testBit_of_ne_zero (x := w) (by omega)
    have b1 := and_sub hw hi
    have d1 : d.testBit i = true := by
      rw [← e, Nat.testBit_or, hi, Bool.or_true]
    have : (d &&& b).testBit i = true := by
      rw [Nat.testBit_and, d1, b1]; rfl
    rw [hdb, Nat.zero_testBit] at this
    cases this
/-! the table of CoffmanGrahamModel.least over naturals -/
def szN (a : Nat) : Nat := fb_ct (fun i => a.testBit i) 9
def updN (g : Nat → Nat) (k x : Nat) : Nat → Nat := fun j => if j = k then x else g j
def ng1 (m d a : Nat) (g : Nat → Nat) : Nat → Nat := if m < szN a then g else if g (d ||| a) ≤ g d + 1 then g else updN g (d ||| a) (g d + 1)
def ngI (m d b : Nat) : Nat → Nat → (Nat → Nat) → (Nat → Nat)
  | 0, _, g => g
  | K + 1, a, g => if a = 0 then g else ngI m d b K ((a - 1) &&& b) (ng1 m d a g)
theorem ng1_spec {m d a : Nat} {g : Nat → Nat} (D : Nat) : ng1 m d a g D = g D ∨ (D = d ||| a ∧ szN a ≤ m ∧ ng1 m d a g D = g d + 1 ∧ g d + 1 < g D) := by
  unfold ng1
  by_cases c1 : m < szN a
  · rw [if_pos c1]; exact Or.inl rfl
  · rw [if_neg c1]
    by_cases c2 : g (d ||| a) ≤ g d + 1
    · rw [if_pos c2]; exact Or.inl rfl
    · rw [if_neg c2]
      unfold updN
      by_cases e : D = d ||| a
      · rw [if_pos e]
        exact Or.inr ⟨e, by omega, rfl, by rw [e]; omega⟩
      · rw [if_neg e]; exact Or.inl rfl
theorem ng1_at {m d a : Nat} {g : Nat → Nat} (h : szN a ≤ m) : ng1 m d a g (d ||| a) ≤ g d + 1 := by
  unfold ng1
  rw [if_neg (by omega)]
  by_cases c2 : g (d ||| a) ≤ g d + 1
  · rw [if_pos c2]; exact c2
  · rw [if_neg c2]
    unfold updN
    rw [if_pos rfl]
    exact Nat.le_refl _
theorem ngI_spec {m d b : Nat} (hdb : d &&& b = 0) : ∀ (K a : Nat) (g : Nat → Nat), a ≤ K → a < 512 → a &&& b = a →
    (∀ D, ngI m d b K a g D = g D ∨ ∃ w, 0 < w ∧ w ≤ a ∧ w &&& b = w ∧ szN w ≤ m ∧ D = d ||| w ∧ ngI m d b K a g D = g d + 1 ∧ g d + 1 < g D) ∧
    (∀ w, 0 < w → w ≤ a → w &&& b = w → szN w ≤ m → ngI m d b K a g (d ||| w) ≤ g d + 1) := by
  intro K
  induction K with
  | zero =>
    intro a g h1 _ h2
    exact ⟨fun D => Or.inl rfl, fun w w1 w2 => by omega⟩
  | succ K ih =>
    intro a g h1 h9 h2
    by_cases e : a = 0
    · have e1 : ngI m d b (K + 1) a g = g := by
        show (if a = 0 then g else _) = g
        rw [if_pos e]
      rw [e1]
      exact ⟨fun D => Or.inl rfl, fun w w1 w2 => by omega⟩
    · have e1 : ngI m d b (K + 1) a g = ngI m d b K ((a - 1) &&& b) (ng1 m d a g) := by
        show (if a = 0 then g else _) = _
        rw [if_neg e]
      rw [e1]
      have le : (a - 1) &&& b ≤ a - 1 := Nat.and_le_left
      obtain ⟨i1, i2⟩ := ih ((a - 1) &&& b) (ng1 m d a g) (by omega) (by omega) (by rw [Nat.and_assoc, Nat.and_self])
      have gt := or_gt hdb h2 (by omega)
      have gd : ng1 m d a g d = g d := by
        rcases ng1_spec (m := m) (d := d) (a := a) (g := g) d with q | ⟨q, _⟩
        · exact q
        · omega
      rw [gd] at i1 i2
      constructor
      · intro D
        rcases i1 D with q | ⟨w, w1, w2, w3, w4, w5, w6, w7⟩
        · rcases ng1_spec (m := m) (d := d) (a := a) (g := g) D with r | ⟨r1, r2, r3, r4⟩
          · left; rw [q, r]
          · right
            exact ⟨a, by omega, Nat.le_refl _, h2, r2, r1, by rw [q, r3], r4⟩
        · right
          refine ⟨w, w1, by omega, w3, w4, w5, w6, ?_⟩
          rcases ng1_spec (m := m) (d := d) (a := a) (g := g) D with r | ⟨r1, r2, r3, r4⟩
          · rw [r] at w7; exact w7
          · exact r4
      · intro w w1 w2 w3 w4
        by_cases ew : w = a
        · rcases i1 (d ||| w) with q | ⟨_, _, _, _, _, _, q, _⟩
          · rw [q, ew]
            rw [ew] at w4
            exact ng1_at w4
          · omega
        · exact i2 w w1 (sm_next 9 a b w h9 h2 w3 (by omega)) w3 w4
end
section
/-! CoffmanGrahamModel.least: the table over Int32 is the one over naturals; what it holds -/
theorem yz_nat (a : Nat) : ∀ v, v ≤ 9 → yzI (nI a) v = nI (fb_ct (fun i => a.testBit i) v) := by
  intro v
  induction v with
  | zero => intro _; exact nI_0.symm
  | succ v ih =>
    intro h
    rw [yzI, ih (by omega), fb_ct_succ]
    by_cases q : a.testBit v = true
    · have n0 : ¬ xin (nI a) (nI v) = 0 := fun e => by
        rw [xin_0 (by omega), bt_nI (by omega), q] at e
        cases e
      rw [if_neg n0, if_pos q, nI_1]
    · have e0 : xin (nI a) (nI v) = 0 := (xin_0 (by omega)).mpr (by rw [bt_nI (by omega)]; exact eq_false_of_ne_true q)
      rw [if_pos e0, if_neg q]
      rfl
theorem ySz_nat (a : Nat) : ySz (nI a) = nI (szN a) := yz_nat a 9 (by decide)
theorem szN_le (a : Nat) : szN a ≤ 9 := fb_ct_le _ 9
def sl_is (sl : Nat → Int32) (g : Nat → Nat) : Prop := ∀ D, D < 512 → sl D = nI (g D) ∧ g D ≤ 100
set_option maxHeartbeats 4000000 in
theorem ylI_nat {m d b : Nat} (hm : m ≤ 9) (hd : d < 512) : ∀ (K a : Nat) (sl : Nat → Int32) (g : Nat → Nat), a < 512 → sl_is sl g → sl_is (ylI (nI m) d (nI b) K (nI a) sl) (ngI m d b K a g) := by
  intro K
  induction K with
  | zero => intro a sl g _ h; exact h
  | succ K ih =>
    intro a sl g ha h
    rw [ylI, ngI]
    rcases Nat.eq_zero_or_pos a with q | q
    · rw [if_pos q, if_pos (show nI a ≤ 0 by rw [q]; decide)]
      exact h
    · have q1 : ¬ nI a ≤ 0 := nI_nle q (by omega)
      have hor : d ||| a < 512 := Nat.or_lt_two_pow (n := 9) hd ha
      have e1 : (nI d ||| nI a).toNatClampNeg = d ||| a := by rw [nx_or, nI_clamp (by omega)]
      rw [if_neg q1, if_neg (by omega : ¬ a = 0), dec_and q1, e1, ySz_nat]
      have hsz := szN_le a
      obtain ⟨d1, d2⟩ := h d hd
      obtain ⟨o1, o2⟩ := h (d ||| a) hor
      refine ih _ _ _ (Nat.lt_of_le_of_lt Nat.and_le_left (by omega)) ?_
      unfold ng1
      by_cases c1 : m < szN a
      · rw [if_pos c1, if_pos ((nI_ltI (by omega) (by omega)).mpr c1)]
        exact h
      · rw [if_neg c1, if_neg (fun x => c1 ((nI_ltI (by omega) (by omega)).mp x)), d1, o1, nI_1]
        by_cases c2 : g (d ||| a) ≤ g d + 1
        · rw [if_pos c2, if_pos ((nI_leI (by omega) (by omega)).mpr c2)]
          exact h
        · rw [if_neg c2, if_neg (fun x => c2 ((nI_leI (by omega) (by omega)).mp x))]
          intro D hD
          by_cases e : D = d ||| a
          · simp only [upd, updN, if_pos e]
            exact ⟨trivial, by omega⟩
          · simp only [upd, updN, if_neg e]
            exact h D hD
theorem nI_toNat (x : Int32) : nI x.toBitVec.toNat = x := by
  apply Int32.toBitVec_inj.mp
  show BitVec.ofNat 32 _ = _
  simp
theorem yo_bt {F : Nat → Int32} {t d x : Nat} : ∀ n, n ≤ 9 → (bt (yoI F (nI t) (nI d) n) x = true ↔ ∃ u, u < n ∧ t.testBit u = true ∧ d.testBit u = false ∧ bt (F u) x = true) := by
  intro n
  induction n with
  | zero =>
    intro _
    rw [yoI, b_0]
    exact ⟨fun h => (by cases h), fun ⟨u, h, _⟩ => (by omega)⟩
  | succ n ih =>
    intro hn
    have ih := ih (by omega)
    have up : (∃ u, u < n ∧ t.testBit u = true ∧ d.testBit u = false ∧ bt (F u) x = true) → ∃ u, u < n + 1 ∧ t.testBit u = true ∧ d.testBit u = false ∧ bt (F u) x = true := fun ⟨u, h, r⟩ => ⟨u, by omega, r⟩
    rw [yoI]
    by_cases q1 : t.testBit n = true
    · have n0 : ¬ xin (nI t) (nI n) = 0 := fun e => by
        rw [xin_0 (by omega), bt_nI (by omega), q1] at e
        cases e
      rw [if_neg n0]
      by_cases q2 : d.testBit n = true
      · have n1 : ¬ xin (nI d) (nI n) = 0 := fun e => by
          rw [xin_0 (by omega), bt_nI (by omega), q2] at e
          cases e
        rw [if_neg n1, ih]
        refine ⟨up, fun ⟨u, h, r1, r2, r3⟩ => ⟨u, ?_, r1, r2, r3⟩⟩
        by_cases e : u = n
        · rw [e, q2] at r2; cases r2
        · omega
      · have e1 : xin (nI d) (nI n) = 0 := (xin_0 (by omega)).mpr (by rw [bt_nI (by omega)]; exact eq_false_of_ne_true q2)
        rw [if_pos e1, b_or, Bool.or_eq_true, ih]
        constructor
        · intro h
          rcases h with h | h
          · exact up h
          · exact ⟨n, by omega, q1, eq_false_of_ne_true q2, h⟩
        · intro ⟨u, h, r1, r2, r3⟩
          by_cases e : u = n
          · rw [e] at r3; exact Or.inr r3
          · exact Or.inl ⟨u, by omega, r1, r2, r3⟩
    · have e0 : xin (nI t) (nI n) = 0 := (xin_0 (by omega)).mpr (by rw [bt_nI (by omega)]; exact eq_false_of_ne_true q1)
      rw [if_pos e0, ih]
      refine ⟨up, fun ⟨u, h, r1, r2, r3⟩ => ⟨u, ?_, r1, r2, r3⟩⟩
      by_cases e : u = n
      · rw [e] at r1; exact absurd r1 q1
      · omega
theorem bit_lt {a i n : Nat} (h : a < 2 ^ n) (hi : a.testBit i = true) : i < n := by
  rcases Nat.lt_or_ge i n with q | q
  · exact q
  · rw [Nat.testBit_lt_two_pow (Nat.lt_of_lt_of_le h (Nat.pow_le_pow_right (by decide) q))] at hi
    cases hi
/-- the tasks that may come now -/
def dp_op (P : Nat → Prop) (E : Nat → Nat → Prop) (D x : Nat) : Prop := P x ∧ D.testBit x = false ∧ ∀ u, P u → D.testBit u = false → ¬ E u x
theorem yOp_bt {F : Nat → Int32} {n t d : Nat} (hn : n ≤ 9) (ht : t < 2 ^ n) (x : Nat) :
    (yOp n F (nI t) (nI d)).toBitVec.toNat.testBit x = true ↔ dp_op (fun x => t.testBit x = true) (fun u x => bt (F u) x = true) d x := by
  show bt (yOp n F (nI t) (nI d)) x = true ↔ _
  unfold yOp dp_op
  rcases Nat.lt_or_ge x 32 with hx | hx
  · rw [b_and, b_and, bt_not hx, bt_not hx, bt_nI hx, bt_nI hx, Bool.and_eq_true, Bool.and_eq_true]
    constructor
    · rintro ⟨⟨h1, h2⟩, h3⟩
      refine ⟨h1, by simpa using h2, fun u pu hu e => ?_⟩
      rw [(yo_bt n hn).mpr ⟨u, bit_lt ht pu, pu, hu, e⟩] at h3
      cases h3
    · rintro ⟨h1, h2, h3⟩
      refine ⟨⟨h1, by rw [h2]; rfl⟩, ?_⟩
      cases q : bt (yoI F (nI t) (nI d) n) x
      · rfl
      · obtain ⟨u, _, r1, r2, r3⟩ := (yo_bt n hn).mp q
        exact absurd r3 (h3 u r1 r2)
  · rw [b_big hx]
    constructor
    · intro h; cases h
    · rintro ⟨h1, _⟩
      have := bit_lt ht h1
      omega
theorem ylA_at (sl : Nat → Int32) : ∀ d D, D < d → ylA sl d D = if nI D = 0 then 0 else 100 := by
  intro d
  induction d with
  | zero => intro D h; omega
  | succ d ih =>
    intro D h
    show upd (ylA sl d) d _ D = _
    unfold upd
    by_cases e : D = d
    · rw [if_pos e, e]
    · rw [if_neg e]
      exact ih D (by omega)
def dp_inv (m : Nat) (P : Nat → Prop) (E : Nat → Nat → Prop) (d : Nat) (sl : Nat → Int32) (g : Nat → Nat) : Prop :=
  sl_is sl g ∧ g 0 = 0 ∧ (∀ D, D < 512 → g D < 100 → ∃ f, rn_run m P E (g D) f D) ∧
  (∀ D, D < d → g D < 100 → ∀ w, 0 < w → (∀ x, w.testBit x = true → dp_op P E D x) → szN w ≤ m → g (D ||| w) ≤ g D + 1)
theorem cn_diff {A B : Nat} : szN (A ^^^ B) = cn (fun x => A.testBit x ≠ B.testBit x) 9 := by
  unfold szN
  rw [← cn_bool]
  apply cn_cong
  intro x _
  rw [Nat.testBit_xor]
  cases A.testBit x <;> cases B.testBit x <;> simp
theorem dp_stp {m : Nat} {P : Nat → Prop} {E : Nat → Nat → Prop} {d w : Nat} (h : ∀ x, w.testBit x = true → dp_op P E d x) (hs : szN w ≤ m) : rn_st m P E d (d ||| w) := by
  refine ⟨?_, ?_, ?_⟩
  · intro x hx
    rw [Nat.testBit_or, hx]; rfl
  · intro x h1 h2
    rw [Nat.testBit_or, h2, Bool.false_or] at h1
    obtain ⟨r1, _, r3⟩ := h x h1
    exact ⟨r1, r3⟩
  · refine Nat.le_trans ?_ hs
    show _ ≤ fb_ct (fun i => w.testBit i) 9
    rw [← cn_bool]
    apply cn_sub
    intro x _ hh
    obtain ⟨h1, h2⟩ := hh
    rw [Nat.testBit_or, h2, Bool.false_or] at h1
    exact h1
set_option maxHeartbeats 4000000 in
theorem dp_all {n t m : Nat} {F : Nat → Int32} (hn : n ≤ 9) (ht : t < 2 ^ n) (hm : m ≤ 9) (sl : Nat → Int32) (z : Nat) (hz : z = 512) :
    ∀ d, d ≤ 512 → ∃ g, dp_inv m (fun x => t.testBit x = true) (fun u x => bt (F u) x = true) d (ylO z n F (nI t) (nI m) (ylA sl z) d) g := by
  intro d
  induction d with
  | zero =>
    intro _
    refine ⟨fun D => if D = 0 then 0 else 100, ?_, rfl, ?_, fun D h => by omega⟩
    · intro D hD
      show ylA sl z D = nI (if D = 0 then 0 else 100) ∧ (if D = 0 then 0 else 100) ≤ 100
      rw [ylA_at sl z D (by omega)]
      by_cases e : D = 0
      · rw [e]; exact ⟨rfl, by decide⟩
      · rw [if_neg e, if_neg (nI_ne0 (by omega) (by omega))]
        exact ⟨rfl, by decide⟩
    · intro D hD h
      have h : (if D = 0 then 0 else 100) < 100 := h
      by_cases e : D = 0
      · refine ⟨fun _ => 0, rfl, ?_, ?_⟩
        · exact e.symm
        · intro t h
          have h : t < (if D = 0 then 0 else 100) := h
          rw [if_pos e] at h
          omega
      · rw [if_neg e] at h
        omega
  | succ d ih =>
    intro hd
    obtain ⟨g, i0, i1, i2, i3⟩ := ih (by omega)
    obtain ⟨s, hs⟩ : ∃ s, s = ylO z n F (nI t) (nI m) (ylA sl z) d := ⟨_, rfl⟩
    show ∃ g, dp_inv m _ _ (d + 1) (ylI (nI m) d (yOpn n F (nI t) (ylO z n F (nI t) (nI m) (ylA sl z) d) d) z (yOpn n F (nI t) (ylO z n F (nI t) (nI m) (ylA sl z) d) d) (ylO z n F (nI t) (nI m) (ylA sl z) d)) g
    rw [← hs] at i0 ⊢
    obtain ⟨d1, d2⟩ := i0 d (by omega)
    by_cases c : g d = 100
    · have e : yOpn n F (nI t) s d = 0 := by
        unfold yOpn
        rw [if_pos (by rw [d1, c]; rfl)]
      have e2 : ylI (nI m) d 0 z 0 s = s := by
        rw [hz]
        show (if (0 : Int32) ≤ 0 then s else _) = s
        rw [if_pos (by decide)]
      rw [e, e2]
      refine ⟨g, i0, i1, i2, ?_⟩
      intro D hD hg
      by_cases eD : D = d
      · rw [eD] at hg; omega
      · exact i3 D (by omega) hg
    · have e : yOpn n F (nI t) s d = yOp n F (nI t) (nI d) := by
        unfold yOpn
        rw [if_neg]
        rw [d1]
        intro e
        have := (nI_eq (a := g d) (b := 100) (by omega) (by omega)).mp e
        omega
      obtain ⟨b, hb⟩ : ∃ b, b = (yOp n F (nI t) (nI d)).toBitVec.toNat := ⟨_, rfl⟩
      have eb : yOp n F (nI t) (nI d) = nI b := by rw [hb, nI_toNat]
      have bits : ∀ x, b.testBit x = true ↔ dp_op (fun x => t.testBit x = true) (fun u x => bt (F u) x = true) d x := by
        intro x
        rw [hb]
        exact yOp_bt hn ht x
      have hb9 : b < 512 := by
        apply Nat.lt_pow_two_of_testBit (n := 9)
        intro i hi
        cases q : b.testBit i
        · rfl
        · have := bit_lt ht ((bits i).mp q).1
          omega
      have hdb : d &&& b = 0 := by
        apply Nat.eq_of_testBit_eq
        intro i
        rw [Nat.testBit_and, Nat.zero_testBit]
        cases q : b.testBit i
        · rw [Bool.and_false]
        · rw [((bits i).mp q).2.1]; rfl
      rw [e, eb]
      obtain ⟨n1, n2⟩ := ngI_spec (m := m) hdb z b g (by omega) hb9 (Nat.and_self b)
      have same : ∀ D, D ≤ d → ngI m d b z b g D = g D := by
        intro D hD
        rcases n1 D with q | ⟨w, w1, _, w3, _, w5, _⟩
        · exact q
        · have := or_gt hdb w3 w1
          omega
      refine ⟨ngI m d b z b g, ylI_nat hm (by omega) z b s g hb9 i0, ?_, ?_, ?_⟩
      · rw [same 0 (by omega)]; exact i1
      · intro D hD hg
        rcases n1 D with q | ⟨w, w1, _, w3, w4, w5, w6, w7⟩
        · rw [q] at hg ⊢
          exact i2 D hD hg
        · rw [w6]
          obtain ⟨f, hf⟩ := i2 d (by omega) (by omega)
          rw [w5]
          exact rn_ext hf (dp_stp (fun x hx => (bits x).mp (and_sub w3 hx)) w4)
      · intro D hD hg w w1 w2 w3
        rw [same D (by omega)] at hg ⊢
        by_cases eD : D = d
        · rw [eD]
          rw [eD] at w2
          have wb : w &&& b = w := and_of (fun x hx => (bits x).mpr (w2 x hx))
          have wle : w ≤ b := by
            rw [← wb]; exact Nat.and_le_right
          exact n2 w w1 wle wb w3
        · have := i3 D (by omega) hg w w1 w2 w3
          rcases n1 (D ||| w) with q | ⟨_, _, _, _, _, _, q, r⟩
          · rw [q]; exact this
          · omega
/-- the shortest run is found, and it is one -/
theorem dp_main {n t m : Nat} {F : Nat → Int32} (hn : n ≤ 9) (ht : t < 2 ^ n) (hm : m ≤ 9) (sl : Nat → Int32) :
    ∃ k, yLst 512 n F (nI t) (nI m) sl t = nI k ∧ (k < 100 → ∃ f, rn_run m (fun x => t.testBit x = true) (fun u x => bt (F u) x = true) k f t) ∧
      (∀ k' f, k' < 100 → rn_run m (fun x => t.testBit x = true) (fun u x => bt (F u) x = true) k' f t → k ≤ k') := by
  obtain ⟨g, i0, i1, i2, i3⟩ := dp_all (F := F) hn ht hm sl 512 rfl 512 (Nat.le_refl _)
  have h9 : ∀ D : Nat, (∀ x, D.testBit x = true → t.testBit x = true) → D < 512 := by
    intro D h
    apply Nat.lt_pow_two_of_testBit (n := 9)
    intro i hi
    cases q : D.testBit i
    · rfl
    · have := bit_lt ht (h i q)
      omega
  have t9 : t < 512 := h9 t (fun _ h => h)
  refine ⟨g t, (i0 t t9).1, i2 t t9, ?_⟩
  have key : ∀ k f D, k < 100 → rn_run m (fun x => t.testBit x = true) (fun u x => bt (F u) x = true) k f D → (∀ x, D.testBit x = true → t.testBit x = true) → g D ≤ k := by
    intro k
    induction k with
    | zero =>
      intro f D _ h _
      obtain ⟨h0, hk, _⟩ := h
      rw [← hk, h0, i1]
      exact Nat.le_refl _
    | succ k ih =>
      intro f D hk h hD
      obtain ⟨h0, hk1, hst⟩ := h
      obtain ⟨s1, s2, s3⟩ := hst k (by omega)
      rw [hk1] at s1 s2 s3
      have i := ih f (f k) (by omega) ⟨h0, rfl, fun t ht => hst t (by omega)⟩ (fun x hx => hD x (s1 x hx))
      have eor : f k ||| (D ^^^ f k) = D := by
        apply Nat.eq_of_testBit_eq
        intro x
        rw [Nat.testBit_or, Nat.testBit_xor]
        cases q : (f k).testBit x
        · cases D.testBit x <;> rfl
        · rw [s1 x q]; rfl
      have dif : ∀ x, (D ^^^ f k).testBit x = true → D.testBit x = true ∧ (f k).testBit x = false := by
        intro x hx
        rw [Nat.testBit_xor] at hx
        cases q : (f k).testBit x
        · rw [q] at hx
          cases r : D.testBit x
          · rw [r] at hx; cases hx
          · exact ⟨rfl, rfl⟩
        · rw [q, s1 x q] at hx; cases hx
      rcases Nat.eq_zero_or_pos (D ^^^ f k) with q | q
      · rw [q, Nat.or_zero] at eor
        rw [← eor]
        omega
      · have := i3 (f k) (h9 (f k) (fun x hx => hD x (s1 x hx))) (by omega) (D ^^^ f k) q (fun x hx => by
            obtain ⟨r1, r2⟩ := dif x hx
            obtain ⟨p1, p2⟩ := s2 x r1 r2
            exact ⟨p1, r2, p2⟩) (by
          refine Nat.le_trans ?_ s3
          rw [cn_diff]
          apply cn_sub
          intro x _ hx
          apply dif
          rw [Nat.testBit_xor]
          cases q1 : D.testBit x <;> cases q2 : (f k).testBit x <;> simp_all)
        rw [eor] at this
        omega
  intro k' f hk' h
  exact key k' f t hk' h (fun _ h => h)
end
section
/-! orders as rows of bits; the transitive closure, by its being the least -/
def wf (n : Nat) (F : Nat → Int32) : Prop := ∀ u, u < n → ∀ v, bt (F u) v = true → v < n
def isTC (n : Nat) (F L : Nat → Int32) : Prop :=
  wf n L ∧ (∀ u v, u < n → bt (F u) v = true → bt (L u) v = true) ∧ (∀ u v w, u < n → bt (L u) v = true → bt (L v) w = true → bt (L u) w = true) ∧
  (∀ R : Nat → Nat → Prop, (∀ u v, u < n → bt (F u) v = true → R u v) → (∀ u v w, R u v → R v w → R u w) → ∀ u v, u < n → bt (L u) v = true → R u v)
def irr (n : Nat) (L : Nat → Int32) : Prop := ∀ u, u < n → bt (L u) u = false
theorem b_eq {x y : Int32} (h : ∀ i, bt x i = true ↔ bt y i = true) : x = y := by
  apply b_ext
  intro i _
  cases q : bt x i
  · cases r : bt y i
    · rfl
    · rw [(h i).mpr r] at q; cases q
  · rw [(h i).mp q]
theorem b_or' {x y : Int32} {i : Nat} : bt (x ||| y) i = true ↔ (bt x i = true ∨ bt y i = true) := by rw [b_or, Bool.or_eq_true]
theorem b_and' {x y : Int32} {i : Nat} : bt (x &&& y) i = true ↔ (bt x i = true ∧ bt y i = true) := by rw [b_and, Bool.and_eq_true]
theorem b_andn {x y : Int32} {i : Nat} : bt (x &&& (y ^^^ (-1))) i = true ↔ (bt x i = true ∧ bt y i = false) := by
  rw [b_and']
  rcases Nat.lt_or_ge i 32 with q | q
  · rw [bt_not q]
    cases bt y i <;> simp
  · rw [b_big q, b_big q]
    simp
theorem b_bit {v i : Nat} (hv : v < 32) : bt (xBit v) i = true ↔ i = v := by
  rcases Nat.lt_or_ge i 32 with q | q
  · rw [bt_bit hv q]
    simp
  · rw [b_big q]
    constructor
    · intro h; cases h
    · intro h; omega
theorem tb_ne {x : Int32} {v : Nat} (hv : v < 32) : ¬ tb x (nI v) = 0 ↔ bt x v = true := by
  rw [tb_0 hv]
  cases bt x v <;> simp
theorem xin_ne {x : Int32} {v : Nat} (hv : v < 32) : ¬ xin x (nI v) = 0 ↔ bt x v = true := by
  rw [xin_0 hv]
  cases bt x v <;> simp
theorem TC_sub {n : Nat} {F L F' L' : Nat → Int32} (h1 : isTC n F L) (h2 : isTC n F' L') (hF : ∀ u, u < n → F u = F' u) {u v : Nat} (hu : u < n) (h : bt (L u) v = true) : bt (L' u) v = true :=
  (h1.2.2.2 (fun u v => u < n ∧ bt (L' u) v = true) (fun u v hu h => ⟨hu, h2.2.1 u v hu (by rw [← hF u hu]; exact h)⟩) (fun u v w a b => ⟨a.1, h2.2.2.1 u v w a.1 a.2 b.2⟩) u v hu h).2
theorem TC_same {n : Nat} {F L F' L' : Nat → Int32} (h1 : isTC n F L) (h2 : isTC n F' L') (hF : ∀ u, u < n → F u = F' u) : ∀ u, u < n → L u = L' u := by
  intro u hu
  exact b_eq (fun i => ⟨fun h => TC_sub h1 h2 hF hu h, fun h => TC_sub h2 h1 (fun u hu => (hF u hu).symm) hu h⟩)
theorem TC_irr {n : Nat} {F L : Nat → Int32} (h : isTC n F L) (R : Nat → Nat → Prop) (h1 : ∀ u v, u < n → bt (F u) v = true → R u v) (h2 : ∀ u v w, R u v → R v w → R u w) (h3 : ∀ u, u < n → ¬ R u u) : irr n L := by
  intro u hu
  cases q : bt (L u) u
  · rfl
  · exact absurd (h.2.2.2 R h1 h2 u u hu q) (h3 u hu)
/-- CoffmanGraham.closeOrders -/
theorem coA_at (F L : Nat → Int32) : ∀ i j, coA F L i j = if j < i then F j else L j := by
  intro i
  induction i with
  | zero => intro j; rw [if_neg (by omega)]; rfl
  | succ i ih =>
    intro j
    show upd (coA F L i) i (F i) j = _
    unfold upd
    by_cases e : j = i
    · rw [if_pos e, if_pos (by omega), e]
    · rw [if_neg e, ih]
      by_cases q : j < i
      · rw [if_pos q, if_pos (by omega)]
      · rw [if_neg q, if_neg (by omega)]
theorem coI_at {md : Nat} (hmd : md < 32) (L : Nat → Int32) : ∀ u j, coI md L u j = if j < u ∧ bt (L j) md = true then L j ||| L md else L j := by
  intro u
  induction u with
  | zero => intro j; rw [if_neg (fun h => by omega)]; rfl
  | succ u ih =>
    intro j
    have e1 : coI md L u u = L u := by rw [ih, if_neg (fun h => by omega)]
    have e2 : coI md L u md = L md := by
      rw [ih]
      split
      · apply b_eq
        intro i
        rw [b_or']
        exact ⟨fun h => h.elim id id, Or.inl⟩
      · rfl
    rw [coI, e1, e2]
    by_cases c : tb (L u) (nI md) = 0
    · rw [if_pos c, ih]
      by_cases e : j = u
      · have c2 : ¬ bt (L j) md = true := fun h => by
          rw [e, (tb_0 hmd).mp c] at h; cases h
        rw [if_neg (fun h => c2 h.2), if_neg (fun h => c2 h.2)]
      · by_cases q : j < u ∧ bt (L j) md = true
        · rw [if_pos q, if_pos ⟨by omega, q.2⟩]
        · rw [if_neg q, if_neg (fun h => q ⟨by omega, h.2⟩)]
    · rw [if_neg c]
      unfold upd
      by_cases e : j = u
      · rw [if_pos e, if_pos ⟨by omega, by rw [e]; exact (tb_ne hmd).mp c⟩, e]
      · rw [if_neg e, ih]
        by_cases q : j < u ∧ bt (L j) md = true
        · rw [if_pos q, if_pos ⟨by omega, q.2⟩]
        · rw [if_neg q, if_neg (fun h => q ⟨by omega, h.2⟩)]
theorem coI_bt {md n : Nat} (hmd : md < 32) {L : Nat → Int32} {j v : Nat} (hj : j < n) : bt (coI md L n j) v = true ↔ (bt (L j) v = true ∨ (bt (L j) md = true ∧ bt (L md) v = true)) := by
  rw [coI_at hmd]
  by_cases q : bt (L j) md = true
  · rw [if_pos ⟨hj, q⟩, b_or']
    exact ⟨fun h => h.elim Or.inl (fun h => Or.inr ⟨q, h⟩), fun h => h.elim Or.inl (fun h => Or.inr h.2)⟩
  · rw [if_neg (fun h => q h.2)]
    exact ⟨Or.inl, fun h => h.elim id (fun h => absurd h.1 q)⟩
theorem coO_inv {n : Nat} (hn : n ≤ 9) {L : Nat → Int32} (hL : wf n L) : ∀ k, k ≤ n →
    wf n (coO n L k) ∧ (∀ u v, u < n → bt (L u) v = true → bt (coO n L k u) v = true) ∧
    (∀ u v w, u < n → w < k → bt (coO n L k u) w = true → bt (coO n L k w) v = true → bt (coO n L k u) v = true) ∧
    (∀ R : Nat → Nat → Prop, (∀ u v, u < n → bt (L u) v = true → R u v) → (∀ u v w, R u v → R v w → R u w) → ∀ u v, u < n → bt (coO n L k u) v = true → R u v) := by
  intro k
  induction k with
  | zero =>
    intro _
    exact ⟨hL, fun u v _ h => h, fun u v w _ h => by omega, fun R h1 _ u v hu h => h1 u v hu h⟩
  | succ k ih =>
    intro hk
    obtain ⟨i1, i2, i3, i4⟩ := ih (by omega)
    have B : ∀ {j v : Nat}, j < n → (bt (coO n L (k + 1) j) v = true ↔ (bt (coO n L k j) v = true ∨ (bt (coO n L k j) k = true ∧ bt (coO n L k k) v = true))) := fun {j v} hj => coI_bt (by omega) hj
    refine ⟨?_, ?_, ?_, ?_⟩
    · intro u hu v h
      rcases (B hu).mp h with h | h
      · exact i1 u hu v h
      · exact i1 k (by omega) v h.2
    · intro u v hu h
      exact (B hu).mpr (Or.inl (i2 u v hu h))
    · intro u v w hu hw h1 h2
      rw [B hu] at h1 ⊢
      rw [B (by omega)] at h2
      by_cases e : w = k
      · rw [e] at h1 h2
        have h1 : bt (coO n L k u) k = true := h1.elim id (fun h => h.1)
        have h2 : bt (coO n L k k) v = true := h2.elim id (fun h => h.2)
        exact Or.inr ⟨h1, h2⟩
      · rcases h1 with h1 | ⟨h1, h1'⟩
        · rcases h2 with h2 | ⟨h2, h2'⟩
          · exact Or.inl (i3 u v w hu (by omega) h1 h2)
          · exact Or.inr ⟨i3 u k w hu (by omega) h1 h2, h2'⟩
        · rcases h2 with h2 | ⟨h2, h2'⟩
          · exact Or.inr ⟨h1, i3 k v w (by omega) (by omega) h1' h2⟩
          · exact Or.inr ⟨h1, h2'⟩
    · intro R h1 h2 u v hu h
      rcases (B hu).mp h with h | h
      · exact i4 R h1 h2 u v hu h
      · exact h2 u k v (i4 R h1 h2 u k hu h.1) (i4 R h1 h2 k v (by omega) h.2)
theorem coA_in {n : Nat} {F L : Nat → Int32} {u : Nat} (hu : u < n) : coA F L n u = F u := by rw [coA_at, if_pos hu]
theorem coA_wf {n : Nat} {F L : Nat → Int32} (hF : wf n F) : wf n (coA F L n) := by
  intro u hu v h
  rw [coA_in hu] at h
  exact hF u hu v h
theorem close_TC {n : Nat} (hn : n ≤ 9) {F L : Nat → Int32} (hF : wf n F) : isTC n F (xClose n F L) := by
  obtain ⟨i1, i2, i3, i4⟩ := coO_inv hn (coA_wf (L := L) hF) n (Nat.le_refl _)
  refine ⟨i1, ?_, ?_, ?_⟩
  · intro u v hu h
    exact i2 u v hu (by rw [coA_in hu]; exact h)
  · intro u v w hu h1 h2
    exact i3 u w v hu (i1 u hu v h1) h1 h2
  · intro R h1 h2 u v hu h
    refine i4 R ?_ h2 u v hu h
    intro u v hu h
    rw [coA_in hu] at h
    exact h1 u v hu h
/-- CoffmanGrahamModel.findLater, row by row -/
def rp (F : Nat → Int32) (x : Int32) : Nat → Int32
  | 0 => x
  | w + 1 => if xin (rp F x w) (nI w) = 0 then rp F x w else rp F x w ||| F w
theorem flI_at {n : Nat} (hn : 0 < n) (F L : Nat → Int32) : ∀ u w, w ≤ n → ∀ r, flI n F L (u * n + w) r = if r < u then rp F (L r) n else if r = u then rp F (L r) w else L r := by
  intro u
  induction u with
  | zero =>
    intro w
    induction w with
    | zero =>
      intro _ r
      rw [if_neg (by omega), Nat.zero_mul]
      show L r = _
      split
      · rfl
      · rfl
    | succ w ih =>
      intro hw r
      have ih := ih (by omega)
      have e1 : (0 * n + w) / n = 0 := by rw [Nat.zero_mul, Nat.zero_add]; exact Nat.div_eq_of_lt (by omega)
      have e2 : (0 * n + w) % n = w := by rw [Nat.zero_mul, Nat.zero_add]; exact Nat.mod_eq_of_lt (by omega)
      have e3 : flI n F L (0 * n + w) 0 = rp F (L 0) w := by rw [ih, if_neg (by omega), if_pos rfl]
      show flI n F L ((0 * n + w) + 1) r = _
      rw [flI, e1, e2, e3]
      by_cases c : xin (rp F (L 0) w) (nI w) = 0
      · rw [if_pos c, ih]
        by_cases e : r = 0
        · rw [if_neg (show ¬ r < 0 by omega), if_neg (show ¬ r < 0 by omega), if_pos e, if_pos e, rp, e, if_pos c]
        · rw [if_neg (show ¬ r < 0 by omega), if_neg (show ¬ r < 0 by omega), if_neg e, if_neg e]
      · rw [if_neg c]
        unfold upd
        by_cases e : r = 0
        · rw [if_pos e, if_neg (show ¬ r < 0 by omega), if_pos e, rp, e, if_neg c]
        · rw [if_neg e, ih, if_neg (show ¬ r < 0 by omega), if_neg (show ¬ r < 0 by omega), if_neg e, if_neg e]
  | succ u ihu =>
    intro w
    induction w with
    | zero =>
      intro _ r
      have h := ihu n (Nat.le_refl _) r
      rw [show (u + 1) * n + 0 = u * n + n by rw [Nat.add_zero, Nat.succ_mul], h]
      by_cases q : r < u
      · rw [if_pos q, if_pos (by omega)]
      · rw [if_neg q]
        by_cases e : r = u
        · rw [if_pos e, if_pos (by omega)]
        · rw [if_neg e, if_neg (by omega)]
          split
          · rfl
          · rfl
    | succ w ih =>
      intro hw r
      have ih := ih (by omega)
      have e1 : ((u + 1) * n + w) / n = u + 1 := by
        rw [Nat.mul_comm, Nat.mul_add_div hn, Nat.div_eq_of_lt (by omega), Nat.add_zero]
      have e2 : ((u + 1) * n + w) % n = w := by
        rw [Nat.mul_comm, Nat.mul_add_mod, Nat.mod_eq_of_lt (by omega)]
      have e3 : flI n F L ((u + 1) * n + w) (u + 1) = rp F (L (u + 1)) w := by rw [ih, if_neg (by omega), if_pos rfl]
      show flI n F L (((u + 1) * n + w) + 1) r = _
      rw [flI, e1, e2, e3]
      by_cases c : xin (rp F (L (u + 1)) w) (nI w) = 0
      · rw [if_pos c, ih]
        by_cases e : r = u + 1
        · rw [if_neg (show ¬ r < u + 1 by omega), if_neg (show ¬ r < u + 1 by omega), if_pos e, if_pos e, rp, e, if_pos c]
        · by_cases q : r < u + 1
          · rw [if_pos q, if_pos q]
          · rw [if_neg q, if_neg q, if_neg e, if_neg e]
      · rw [if_neg c]
        unfold upd
        by_cases e : r = u + 1
        · rw [if_pos e, if_neg (show ¬ r < u + 1 by omega), if_pos e, rp, e, if_neg c]
        · rw [if_neg e, ih]
          by_cases q : r < u + 1
          · rw [if_pos q, if_pos q]
          · rw [if_neg q, if_neg q, if_neg e, if_neg e]
theorem flI_row {n : Nat} (F L : Nat → Int32) {r : Nat} (hr : r < n) : flI n F L (n * n) r = rp F (L r) n := by
  have h := flI_at (n := n) (by omega) F L n 0 (by omega) r
  rw [Nat.add_zero, if_pos hr] at h
  exact h
theorem rp_up {F : Nat → Int32} {x : Int32} {v a : Nat} : ∀ d, bt (rp F x a) v = true → bt (rp F x (a + d)) v = true := by
  intro d
  induction d with
  | zero => exact id
  | succ d ih =>
    intro h
    show bt (rp F x (a + d + 1)) v = true
    rw [rp]
    split
    · exact ih h
    · exact b_or'.mpr (Or.inl (ih h))
theorem rp_in {F : Nat → Int32} {x : Int32} {T : Nat → Prop} {n : Nat} (h0 : ∀ v, bt x v = true → T v) (h1 : ∀ w v, w < n → T w → bt (F w) v = true → T v) (hn : n ≤ 9) : ∀ w, w ≤ n → ∀ v, bt (rp F x w) v = true → T v := by
  intro w
  induction w with
  | zero => intro _; exact h0
  | succ w ih =>
    intro hw v h
    rw [rp] at h
    by_cases c : xin (rp F x w) (nI w) = 0
    · rw [if_pos c] at h
      exact ih (by omega) v h
    · rw [if_neg c] at h
      rcases b_or'.mp h with h | h
      · exact ih (by omega) v h
      · exact h1 w v (by omega) (ih (by omega) w ((xin_ne (by omega)).mp c)) h
def cld (n : Nat) (F : Nat → Int32) (x : Int32) : Prop := ∀ w v, w < n → bt x w = true → bt (F w) v = true → bt x v = true
theorem rp_cld {n : Nat} (hn : n ≤ 9) {F : Nat → Int32} {x : Int32} (h : rp F x n = x) : cld n F x := by
  intro w v hw h1 h2
  have e1 : bt (rp F x w) w = true := by
    have := rp_up (F := F) (a := 0) w (show bt (rp F x 0) w = true from h1)
    rw [Nat.zero_add] at this
    exact this
  have e2 : bt (rp F x (w + 1)) v = true := by
    rw [rp, if_neg ((xin_ne (by omega)).mpr e1)]
    exact b_or'.mpr (Or.inr h2)
  have e3 := rp_up (F := F) (a := w + 1) (n - (w + 1)) e2
  rw [show w + 1 + (n - (w + 1)) = n by omega, h] at e3
  exact e3
theorem cld_rp {n : Nat} (hn : n ≤ 9) {F : Nat → Int32} {x : Int32} (h : cld n F x) : rp F x n = x := by
  apply b_eq
  intro i
  constructor
  · intro q
    exact rp_in (T := fun v => bt x v = true) (fun _ h => h) (fun w v hw h1 h2 => h w v hw h1 h2) hn n (Nat.le_refl _) i q
  · intro q
    have := rp_up (F := F) (a := 0) n (show bt (rp F x 0) i = true from q)
    rw [Nat.zero_add] at this
    exact this
theorem flO_row {n : Nat} {F L : Nat → Int32} {u : Nat} (hu : u < n) (r : Nat) : flO n F L (r + 1) u = rp F (flO n F L r u) n := flI_row F _ hu
theorem flO_up {n : Nat} {F L : Nat → Int32} {u v : Nat} (hu : u < n) : ∀ r, bt (L u) v = true → bt (flO n F L r u) v = true := by
  intro r
  induction r with
  | zero => exact id
  | succ r ih =>
    intro h
    rw [flO_row hu]
    have := rp_up (F := F) (a := 0) n (show bt (rp F (flO n F L r u) 0) v = true from ih h)
    rw [Nat.zero_add] at this
    exact this
theorem flO_in {n : Nat} (hn : n ≤ 9) {F L : Nat → Int32} {u : Nat} (hu : u < n) {T : Nat → Prop} (h0 : ∀ v, bt (L u) v = true → T v) (h1 : ∀ w v, w < n → T w → bt (F w) v = true → T v) : ∀ r v, bt (flO n F L r u) v = true → T v := by
  intro r
  induction r with
  | zero => exact h0
  | succ r ih =>
    intro v h
    rw [flO_row hu] at h
    exact rp_in ih h1 hn n (Nat.le_refl _) v h
theorem flO_grow {n : Nat} (hn : n ≤ 9) {F L : Nat → Int32} {u : Nat} (hu : u < n) (hx : ∀ r v, bt (flO n F L r u) v = true → v < n) : ∀ r, cld n F (flO n F L r u) ∨ r ≤ cn (fun v => bt (flO n F L r u) v = true) 9 := by
  intro r
  induction r with
  | zero => exact Or.inr (Nat.zero_le _)
  | succ r ih =>
    by_cases c : cld n F (flO n F L r u)
    · left
      rw [flO_row hu, cld_rp hn c]
      exact c
    · right
      have ih := ih.resolve_left c
      have up : ∀ v, bt (flO n F L r u) v = true → bt (flO n F L (r + 1) u) v = true := by
        intro v h
        rw [flO_row hu]
        have := rp_up (F := F) (a := 0) n (show bt (rp F (flO n F L r u) 0) v = true from h)
        rw [Nat.zero_add] at this
        exact this
      obtain ⟨v, v1, v2⟩ : ∃ v, bt (flO n F L (r + 1) u) v = true ∧ ¬ bt (flO n F L r u) v = true := by
        apply Classical.byContradiction
        intro hn1
        apply c
        apply rp_cld hn
        rw [← flO_row hu]
        apply b_eq
        intro i
        exact ⟨fun h => Classical.byContradiction (fun h2 => hn1 ⟨i, h, h2⟩), up i⟩
      have : cn (fun v => bt (flO n F L r u) v = true) 9 < cn (fun v => bt (flO n F L (r + 1) u) v = true) 9 := cn_lt (w := v) (fun x _ h => up x h) (by
        have := hx (r + 1) v v1
        omega) v1 v2
      omega
theorem cn_full {p : Nat → Prop} {n : Nat} (h : n ≤ cn p n) : ∀ k, k < n → p k := by
  intro k hk
  apply Classical.byContradiction
  intro hp
  have h1 : cn p n < cn (fun _ => True) n := cn_lt (w := k) (fun _ _ _ => trivial) hk trivial hp
  have h2 : cn (fun _ => True) n ≤ n := fb_ct_le _ n
  omega
theorem find_TC {n : Nat} (hn : n ≤ 9) {F L : Nat → Int32} (hF : wf n F) : isTC n F (yFind n F L) := by
  have hw : ∀ u, u < n → ∀ r v, bt (flO n F (coA F L n) r u) v = true → v < n := fun u hu => flO_in hn hu (coA_wf hF u hu) (fun w v hw _ h => hF w hw v h)
  have hc : ∀ u, u < n → cld n F (yFind n F L u) := by
    intro u hu
    rcases flO_grow hn hu (hw u hu) 9 with h | h
    · exact h
    · intro w v hw' _ h2
      exact cn_full h v (by
        have := hF w hw' v h2
        omega)
  have h4 : ∀ R : Nat → Nat → Prop, (∀ u v, u < n → bt (F u) v = true → R u v) → (∀ u v w, R u v → R v w → R u w) → ∀ u v, u < n → bt (yFind n F L u) v = true → R u v := by
    intro R h1 h2 u v hu h
    exact flO_in hn hu (T := fun v => R u v) (fun v h => h1 u v hu (by rw [coA_in hu] at h; exact h)) (fun w v hw h3 h4 => h2 u w v h3 (h1 w v hw h4)) 9 v h
  refine ⟨fun u hu v h => hw u hu 9 v h, ?_, ?_, h4⟩
  · intro u v hu h
    exact flO_up hu 9 (by rw [coA_in hu]; exact h)
  · intro u v w hu h1 h2
    exact h4 (fun a b => ∀ u, u < n → bt (yFind n F L u) a = true → bt (yFind n F L u) b = true) (fun a b ha hab u hu h => hc u hu a b ha h hab) (fun a b c h1 h2 u hu h => h2 u hu (h1 u hu h)) v w (hw u hu 9 v h1) h2 u hu h1
end
section
/-! tasks and orders: what both classes keep -/
def Inv1 (n : Nat) (F L : Nat → Int32) : Prop := n ≤ 9 ∧ wf n F ∧ isTC n F L ∧ irr n L
theorem op_add {n : Nat} {F L : Nat → Int32} (h : Inv1 n F L) (h9 : n < 9) : Inv1 (n + 1) (upd F n 0) (xClose (n + 1) (upd F n 0) L) := by
  obtain ⟨h1, h2, h3, h4⟩ := h
  have hu : ∀ u v, u < n + 1 → bt (upd F n 0 u) v = true → u < n ∧ bt (F u) v = true := by
    intro u v hu hv
    unfold upd at hv
    by_cases e : u = n
    · rw [if_pos e, b_0] at hv; cases hv
    · rw [if_neg e] at hv
      exact ⟨by omega, hv⟩
  have hF : wf (n + 1) (upd F n 0) := by
    intro u hu1 v hv
    obtain ⟨a, b⟩ := hu u v hu1 hv
    have := h2 u a v b
    omega
  have tc := close_TC (by omega) (L := L) hF
  refine ⟨by omega, hF, tc, TC_irr tc (fun u v => u < n ∧ bt (L u) v = true) ?_ ?_ ?_⟩
  · intro u v hu1 hv
    obtain ⟨a, b⟩ := hu u v hu1 hv
    exact ⟨a, h3.2.1 u v a b⟩
  · intro u v w a b
    exact ⟨a.1, h3.2.2.1 u v w a.1 a.2 b.2⟩
  · intro u _ hh
    obtain ⟨a, b⟩ := hh
    rw [h4 u a] at b
    cases b
/-- the place that a task came from when task k went -/
def sk (k u : Nat) : Nat := if u < k then u else u + 1
theorem rmF_at (F : Nat → Int32) (k : Nat) : ∀ j u, rmF F k j u = if k ≤ u ∧ u < k + j then F (u + 1) else F u := by
  intro j
  induction j with
  | zero => intro u; rw [if_neg (fun h => by omega)]; rfl
  | succ j ih =>
    intro u
    have e1 : rmF F k j (k + j + 1) = F (k + j + 1) := by rw [ih, if_neg (fun h => by omega)]
    show upd (rmF F k j) (k + j) (rmF F k j (k + j + 1)) u = _
    unfold upd
    rw [e1]
    by_cases e : u = k + j
    · rw [if_pos e, if_pos (show k ≤ u ∧ u < k + (j + 1) from ⟨by omega, by omega⟩), e]
    · rw [if_neg e, ih]
      by_cases q : k ≤ u ∧ u < k + j
      · rw [if_pos q, if_pos (show k ≤ u ∧ u < k + (j + 1) from ⟨q.1, by omega⟩)]
      · rw [if_neg q, if_neg (show ¬ (k ≤ u ∧ u < k + (j + 1)) from fun h => q ⟨h.1, by omega⟩)]
theorem rlF_at (low : Int32) (F : Nat → Int32) : ∀ i j, rlF low F i j = if j < i then (F j &&& low) ||| ((F j >>> ((1 : Int32) &&& 31)) &&& (low ^^^ (-1))) else F j := by
  intro i
  induction i with
  | zero => intro j; rw [if_neg (by omega)]; rfl
  | succ i ih =>
    intro j
    have e1 : rlF low F i i = F i := by rw [ih, if_neg (by omega)]
    show upd (rlF low F i) i _ j = _
    unfold upd
    rw [e1]
    by_cases e : j = i
    · rw [if_pos e, if_pos (show j < i + 1 by omega), e]
    · rw [if_neg e, ih]
      by_cases q : j < i
      · rw [if_pos q, if_pos (show j < i + 1 by omega)]
      · rw [if_neg q, if_neg (show ¬ j < i + 1 by omega)]
theorem ycF_at (k : Nat) (F : Nat → Int32) : ∀ i j, ycF k F i j = if j < i then yCut (F j) k else F j := by
  intro i
  induction i with
  | zero => intro j; rw [if_neg (by omega)]; rfl
  | succ i ih =>
    intro j
    have e1 : ycF k F i i = F i := by rw [ih, if_neg (by omega)]
    show upd (ycF k F i) i _ j = _
    unfold upd
    rw [e1]
    by_cases e : j = i
    · rw [if_pos e, if_pos (show j < i + 1 by omega), e]
    · rw [if_neg e, ih]
      by_cases q : j < i
      · rw [if_pos q, if_pos (show j < i + 1 by omega)]
      · rw [if_neg q, if_neg (show ¬ j < i + 1 by omega)]
theorem rm_row {n : Nat} {F : Nat → Int32} {k u : Nat} (hk : k < n) (hu : u < n - 1) : rmF F k (n - 1 - k) u = F (sk k u) := by
  rw [rmF_at]
  unfold sk
  by_cases q : u < k
  · rw [if_neg (show ¬ (k ≤ u ∧ u < k + (n - 1 - k)) from fun h => by omega), if_pos q]
  · rw [if_pos (show k ≤ u ∧ u < k + (n - 1 - k) from ⟨by omega, by omega⟩), if_neg q]
theorem low_bt {k i : Nat} (hk : k ≤ 9) (hi : i < 32) : bt (xLow k) i = decide (i < k) := bt_all k hk i hi
theorem xcut_bt {k : Nat} (hk : k ≤ 9) {x : Int32} (hx : ∀ i, bt x i = true → i < 9) (v : Nat) :
    bt ((x &&& xLow k) ||| ((x >>> ((1 : Int32) &&& 31)) &&& (xLow k ^^^ (-1)))) v = true ↔ bt x (sk k v) = true := by
  unfold sk
  rcases Nat.lt_or_ge v 32 with q | q
  · rw [b_or', b_and', b_andn, low_bt hk q, show (x >>> ((1 : Int32) &&& 31)) = x >>> (nI 1 &&& 31) from rfl, b_sshr 1 (by decide) x q]
    by_cases c : v < k
    · rw [if_pos c, decide_eq_true c]
      simp
    · rw [if_neg c, decide_eq_false c]
      by_cases d : 1 + v < 32
      · rw [if_pos d, Nat.add_comm 1 v]
        simp
      · rw [if_neg d]
        constructor
        · intro h
          simp at h
          have := hx _ h
          omega
        · intro h
          have := hx _ h
          omega
  · rw [b_big q]
    constructor
    · intro h; cases h
    · intro h
      have := hx _ h
      split at this <;> omega
theorem ycut_bt {k : Nat} (hk : k ≤ 9) {x : Int32} (hx : ∀ i, bt x i = true → i < 9) (v : Nat) : bt (yCut x k) v = true ↔ bt x (sk k v) = true := by
  unfold yCut sk
  rcases Nat.lt_or_ge v 32 with q | q
  · rw [b_or', b_and', show bt (xBit k - 1) v = decide (v < k) from bt_all k hk v q, b_shl k (by omega) _ q]
    by_cases c : v < k
    · rw [if_pos c, decide_eq_true c, decide_eq_false (show ¬ k ≤ v by omega)]
      simp
    · rw [if_neg c, decide_eq_false c, decide_eq_true (show k ≤ v by omega), b_sshr (k + 1) (by omega) x (by omega), show k + 1 + (v - k) = v + 1 by omega]
      by_cases d : v + 1 < 32
      · rw [if_pos d]
        simp
      · rw [if_neg d]
        constructor
        · intro h
          simp at h
          have := hx _ h
          omega
        · intro h
          have := hx _ h
          omega
  · rw [b_big q]
    constructor
    · intro h; cases h
    · intro h
      have := hx _ h
      split at this <;> omega
theorem sk_lt {k u n : Nat} (hk : k < n) (hu : u < n - 1) : sk k u < n := by
  unfold sk; split <;> omega
theorem sk_of {k v n : Nat} (hk : k < n) (h : sk k v < n) : v < n - 1 := by
  unfold sk at h; split at h <;> omega
theorem wf9 {n : Nat} {F : Nat → Int32} (hn : n ≤ 9) (hF : wf n F) {u : Nat} (hu : u < n) : ∀ i, bt (F u) i = true → i < 9 := fun i h => by
  have := hF u hu i h
  omega
theorem xRem_bt {n : Nat} {F : Nat → Int32} {k u : Nat} (hn : n ≤ 9) (hF : wf n F) (hk : k < n) (hu : u < n - 1) (v : Nat) : bt (xRem n F k u) v = true ↔ bt (F (sk k u)) (sk k v) = true := by
  unfold xRem
  rw [rlF_at, if_pos hu, rm_row hk hu]
  exact xcut_bt (by omega) (wf9 hn hF (sk_lt hk hu)) v
theorem yRem_bt {n : Nat} {F : Nat → Int32} {k u : Nat} (hn : n ≤ 9) (hF : wf n F) (hk : k < n) (hu : u < n - 1) (v : Nat) : bt (yRem n F k u) v = true ↔ bt (F (sk k u)) (sk k v) = true := by
  unfold yRem
  rw [ycF_at, if_pos hu]
  have e : upd (rmF F k (n - 1 - k)) (n - 1) 0 u = F (sk k u) := by
    unfold upd
    rw [if_neg (by omega)]
    exact rm_row hk hu
  rw [e]
  exact ycut_bt (by omega) (wf9 hn hF (sk_lt hk hu)) v
theorem op_rem {n : Nat} {F L : Nat → Int32} {k : Nat} (h : Inv1 n F L) (hk : k < n) : Inv1 (n - 1) (xRem n F k) (xClose (n - 1) (xRem n F k) L) := by
  obtain ⟨h1, h2, h3, h4⟩ := h
  have hF : wf (n - 1) (xRem n F k) := by
    intro u hu v hv
    rw [xRem_bt h1 h2 hk hu] at hv
    exact sk_of hk (h2 _ (sk_lt hk hu) _ hv)
  have tc := close_TC (by omega) (L := L) hF
  refine ⟨by omega, hF, tc, TC_irr tc (fun u v => u < n - 1 ∧ bt (L (sk k u)) (sk k v) = true) ?_ ?_ ?_⟩
  · intro u v hu hv
    rw [xRem_bt h1 h2 hk hu] at hv
    exact ⟨hu, h3.2.1 _ _ (sk_lt hk hu) hv⟩
  · intro u v w a b
    exact ⟨a.1, h3.2.2.1 _ _ _ (sk_lt hk a.1) a.2 b.2⟩
  · intro u hu hh
    have b := hh.2
    rw [h4 _ (sk_lt hk hu)] at b
    cases b
theorem op_rem_same {n : Nat} {F F' : Nat → Int32} {k : Nat} (hn : n ≤ 9) (hF : wf n F) (hk : k < n) (he : ∀ w, w < n → F w = F' w) : ∀ u, u < n - 1 → xRem n F k u = yRem n F' k u := by
  intro u hu
  have hF' : wf n F' := fun w hw v h => hF w hw v (by rw [he w hw]; exact h)
  apply b_eq
  intro i
  rw [xRem_bt hn hF hk hu, yRem_bt hn hF' hk hu, he _ (sk_lt hk hu)]
theorem aoL_at {u : Nat} (hu : u < 9) (gn : Int32) (L : Nat → Int32) : ∀ w, w ≤ 9 → ∀ j, aoL u gn L w j = if j < w ∧ (j = u ∨ bt (L j) u = true) then L j ||| gn else L j := by
  intro w
  induction w with
  | zero => intro _ j; rw [if_neg (fun h => by omega)]; rfl
  | succ w ih =>
    intro hw j
    have ih := ih (by omega)
    have e1 : aoL u gn L w w = L w := by rw [ih, if_neg (fun h => by omega)]
    rw [aoL, e1]
    by_cases e : j = w
    · by_cases c : w = u
      · rw [if_pos (show nI w = nI u by rw [c])]
        unfold upd
        rw [if_pos e, if_pos (show j < w + 1 ∧ (j = u ∨ bt (L j) u = true) from ⟨by omega, Or.inl (by omega)⟩), e]
      · rw [if_neg (show ¬ nI w = nI u from fun q => c ((nI_eq (by omega) (by omega)).mp q))]
        by_cases d : tb (L w) (nI u) = 0
        · have d2 : ¬ bt (L j) u = true := fun q => by
            rw [e, (tb_0 (by omega)).mp d] at q; cases q
          rw [if_pos d, ih, if_neg (show ¬ (j < w ∧ (j = u ∨ bt (L j) u = true)) from fun h => by omega), if_neg (show ¬ (j < w + 1 ∧ (j = u ∨ bt (L j) u = true)) from fun h => h.2.elim (fun q => c (by omega)) d2)]
        · rw [if_neg d]
          unfold upd
          rw [if_pos e, if_pos (show j < w + 1 ∧ (j = u ∨ bt (L j) u = true) from ⟨by omega, Or.inr (by rw [e]; exact (tb_ne (by omega)).mp d)⟩), e]
    · have r : (if j < w ∧ (j = u ∨ bt (L j) u = true) then L j ||| gn else L j) = (if j < w + 1 ∧ (j = u ∨ bt (L j) u = true) then L j ||| gn else L j) := by
        by_cases q : j < w ∧ (j = u ∨ bt (L j) u = true)
        · rw [if_pos q, if_pos (show j < w + 1 ∧ (j = u ∨ bt (L j) u = true) from ⟨by omega, q.2⟩)]
        · rw [if_neg q, if_neg (show ¬ (j < w + 1 ∧ (j = u ∨ bt (L j) u = true)) from fun h => q ⟨by omega, h.2⟩)]
      by_cases c : nI w = nI u
      · rw [if_pos c]
        unfold upd
        rw [if_neg e, ih, r]
      · rw [if_neg c]
        by_cases d : tb (L w) (nI u) = 0
        · rw [if_pos d, ih, r]
        · rw [if_neg d]
          unfold upd
          rw [if_neg e, ih, r]
theorem upd_or_bt {F : Nat → Int32} {u v a b : Nat} (hv : v < 32) : bt (upd F u (F u ||| xBit v) a) b = true ↔ (bt (F a) b = true ∨ (a = u ∧ b = v)) := by
  unfold upd
  by_cases e : a = u
  · rw [if_pos e, b_or', b_bit hv, e]
    exact ⟨fun h => h.elim Or.inl (fun h => Or.inr ⟨rfl, h⟩), fun h => h.elim Or.inl (fun h => Or.inr h.2)⟩
  · rw [if_neg e]
    exact ⟨Or.inl, fun h => h.elim id (fun h => absurd h.1 e)⟩
theorem op_ao {n : Nat} {F L : Nat → Int32} {u v : Nat} (h : Inv1 n F L) (hu : u < n) (hv : v < n) (huv : u ≠ v) (hc : bt (L v) u = false) : Inv1 n (upd F u (F u ||| xBit v)) (aoL u (L v ||| xBit v) L n) := by
  obtain ⟨h1, h2, h3, h4⟩ := h
  have B : ∀ {a b : Nat}, a < n → (bt (aoL u (L v ||| xBit v) L n a) b = true ↔ (bt (L a) b = true ∨ ((a = u ∨ bt (L a) u = true) ∧ (b = v ∨ bt (L v) b = true)))) := by
    intro a b ha
    rw [aoL_at (by omega) _ _ n h1]
    by_cases q : a = u ∨ bt (L a) u = true
    · rw [if_pos ⟨ha, q⟩, b_or', b_or', b_bit (by omega)]
      constructor
      · rintro (h | h | h)
        · exact Or.inl h
        · exact Or.inr ⟨q, Or.inr h⟩
        · exact Or.inr ⟨q, Or.inl h⟩
      · rintro (h | ⟨_, h | h⟩)
        · exact Or.inl h
        · exact Or.inr (Or.inr h)
        · exact Or.inr (Or.inl h)
    · rw [if_neg (fun h => q h.2)]
      exact ⟨Or.inl, fun h => h.elim id (fun h => absurd h.1 q)⟩
  refine ⟨h1, ?_, ⟨?_, ?_, ?_, ?_⟩, ?_⟩
  · intro a ha b hb
    rcases (upd_or_bt (by omega)).mp hb with q | q
    · exact h2 a ha b q
    · omega
  · intro a ha b hb
    rcases (B ha).mp hb with q | ⟨_, q | q⟩
    · exact h3.1 a ha b q
    · omega
    · exact h3.1 v hv b q
  · intro a b ha hb
    rw [B ha]
    rcases (upd_or_bt (by omega)).mp hb with q | q
    · exact Or.inl (h3.2.1 a b ha q)
    · exact Or.inr ⟨Or.inl q.1, Or.inl q.2⟩
  · intro a b c ha hab hbc
    have hb : b < n := by
      rcases (B ha).mp hab with q | ⟨_, q | q⟩
      · exact h3.1 a ha b q
      · omega
      · exact h3.1 v hv b q
    rw [B ha] at hab ⊢
    rw [B hb] at hbc
    rcases hab with p | ⟨p1, p2⟩
    · rcases hbc with q | ⟨q1, q2⟩
      · exact Or.inl (h3.2.2.1 a b c ha p q)
      · refine Or.inr ⟨Or.inr ?_, q2⟩
        rcases q1 with e | q1
        · rw [← e]; exact p
        · exact h3.2.2.1 a b u ha p q1
    · rcases hbc with q | ⟨q1, q2⟩
      · refine Or.inr ⟨p1, Or.inr ?_⟩
        rcases p2 with e | p2
        · rw [← e]; exact q
        · exact h3.2.2.1 v b c hv p2 q
      · exact Or.inr ⟨p1, q2⟩
  · intro R r1 r2 a b ha hab
    have LR : ∀ a b, a < n → bt (L a) b = true → R a b := fun a b ha h => h3.2.2.2 R (fun x y hx hxy => r1 x y hx ((upd_or_bt (by omega)).mpr (Or.inl hxy))) r2 a b ha h
    have uv : R u v := r1 u v hu ((upd_or_bt (by omega)).mpr (Or.inr ⟨rfl, rfl⟩))
    rcases (B ha).mp hab with p | ⟨p1, p2⟩
    · exact LR a b ha p
    · have av : R a v := by
        rcases p1 with e | p1
        · rw [e]; exact uv
        · exact r2 a u v (LR a u ha p1) uv
      rcases p2 with e | p2
      · rw [e]; exact av
      · exact r2 a v b av (LR v b hv p2)
  · intro a ha
    apply eq_false_of_ne_true
    intro hab
    rcases (B ha).mp hab with p | ⟨p1, p2⟩
    · rw [h4 a ha] at p; cases p
    · rcases p1 with e | p1
      · rcases p2 with e2 | p2
        · omega
        · rw [e, hc] at p2; cases p2
      · rcases p2 with e2 | p2
        · rw [e2, hc] at p1; cases p1
        · rw [h3.2.2.1 v a u hv p2 p1] at hc; cases hc
theorem op_less {n : Nat} {F L F1 : Nat → Int32} {L1 : Nat → Int32} (h : Inv1 n F L) (hs : ∀ a b, a < n → bt (F1 a) b = true → bt (F a) b = true) (tc : wf n F1 → isTC n F1 L1) : Inv1 n F1 L1 := by
  obtain ⟨h1, h2, h3, h4⟩ := h
  have hF : wf n F1 := fun a ha b hb => h2 a ha b (hs a b ha hb)
  refine ⟨h1, hF, tc hF, TC_irr (tc hF) (fun u v => u < n ∧ bt (L u) v = true) ?_ ?_ ?_⟩
  · intro u v hu hv
    exact ⟨hu, h3.2.1 u v hu (hs u v hu hv)⟩
  · intro u v w a b
    exact ⟨a.1, h3.2.2.1 u v w a.1 a.2 b.2⟩
  · intro u hu hh
    have b := hh.2
    rw [h4 u hu] at b
    cases b
theorem op_ro {n : Nat} {F L : Nat → Int32} {u v : Nat} (h : Inv1 n F L) : Inv1 n (upd F u (F u &&& (xBit v ^^^ (-1)))) (xClose n (upd F u (F u &&& (xBit v ^^^ (-1)))) L) := by
  have h1 := h.1
  refine op_less h ?_ (fun hF => close_TC h1 hF)
  intro a b ha hb
  unfold upd at hb
  by_cases e : a = u
  · rw [if_pos e, b_andn] at hb
    rw [e]
    exact hb.1
  · rw [if_neg e] at hb
    exact hb
theorem op_wo {n : Nat} {F L : Nat → Int32} {k : Nat} (h : Inv1 n F L) : Inv1 n (upd F k 0) (xClose n (upd F k 0) L) := by
  have h1 := h.1
  refine op_less h ?_ (fun hF => close_TC h1 hF)
  intro a b ha hb
  unfold upd at hb
  by_cases e : a = k
  · rw [if_pos e, b_0] at hb; cases hb
  · rw [if_neg e] at hb
    exact hb
theorem op_close {n : Nat} {F L L' : Nat → Int32} (h : Inv1 n F L) : Inv1 n F (xClose n F L') := by
  have h1 := h.1
  exact op_less h (fun a b _ hb => hb) (fun hF => close_TC h1 hF)
theorem upd_back (F : Nat → Int32) (k : Nat) : upd (upd F k 0) k (F k) = F := by
  funext j
  unfold upd
  by_cases e : j = k
  · rw [if_pos e, e]
  · rw [if_neg e, if_neg e]
end
section
/-! chains, heights; superfluous orders; trees -/
def ch (n : Nat) (L : Nat → Int32) : Nat → Nat → Prop
  | 0, _ => True
  | k + 1, u => ∃ v, v < n ∧ bt (L u) v = true ∧ ch n L k v
theorem ch_dec {n : Nat} {L : Nat → Int32} : ∀ k u, ch n L (k + 1) u → ch n L k u := by
  intro k
  induction k with
  | zero => intro u _; exact trivial
  | succ k ih =>
    intro u h
    obtain ⟨v, h1, h2, h3⟩ := h
    exact ⟨v, h1, h2, ih v h3⟩
theorem ch_down {n : Nat} {L : Nat → Int32} {u j : Nat} : ∀ d, ch n L (j + d) u → ch n L j u := by
  intro d
  induction d with
  | zero => exact id
  | succ d ih => intro h; exact ih (ch_dec _ _ h)
theorem ch_LF {n : Nat} {F L : Nat → Int32} (hF : wf n F) (tc : isTC n F L) : ∀ k u, u < n → ch n L k u → ch n F k u := by
  intro k
  induction k with
  | zero => intro u _ _; exact trivial
  | succ k ih =>
    intro u hu h
    obtain ⟨v, h1, h2, h3⟩ := h
    refine tc.2.2.2 (fun u v => ∀ k, ch n F k v → ch n F (k + 1) u) ?_ ?_ u v hu h2 k (ih v h1 h3)
    · intro a b ha hab k hk
      exact ⟨b, hF a ha b hab, hab, hk⟩
    · intro a b c h1 h2 k hk
      exact ch_dec _ _ (h1 (k + 1) (h2 k hk))
theorem ch_FL {n : Nat} {F L : Nat → Int32} (tc : isTC n F L) : ∀ k u, u < n → ch n F k u → ch n L k u := by
  intro k
  induction k with
  | zero => intro u _ _; exact trivial
  | succ k ih =>
    intro u hu h
    obtain ⟨v, h1, h2, h3⟩ := h
    exact ⟨v, h1, tc.2.1 u v hu h2, ih v h1 h3⟩
theorem ch_cn {n : Nat} {F L : Nat → Int32} (h : Inv1 n F L) : ∀ k u, u < n → ch n L k u → k ≤ cn (fun w => bt (L u) w = true) n := by
  obtain ⟨h1, h2, h3, h4⟩ := h
  intro k
  induction k with
  | zero => intro u _ _; exact Nat.zero_le _
  | succ k ih =>
    intro u hu h
    obtain ⟨v, v1, v2, v3⟩ := h
    have i := ih v v1 v3
    have : cn (fun w => bt (L v) w = true) n < cn (fun w => bt (L u) w = true) n := cn_lt (w := v) (fun x _ hx => h3.2.2.1 u v x hu v2 hx) v1 v2 (fun e => by
      rw [h4 v v1] at e; cases e)
    omega
theorem ch_lt {n : Nat} {F L : Nat → Int32} (h : Inv1 n F L) {k u : Nat} (hu : u < n) (hc : ch n L k u) : k < n := by
  have i := ch_cn h k u hu hc
  have h1 : cn (fun w => bt (L u) w = true) n < cn (fun _ => True) n := cn_lt (w := u) (fun _ _ _ => trivial) hu trivial (fun e => by
    rw [h.2.2.2 u hu] at e; cases e)
  have h2 : cn (fun _ => True) n ≤ n := fb_ct_le _ n
  omega
noncomputable def lev (n : Nat) (L : Nat → Int32) (u : Nat) : Nat := Classical.epsilon (fun h => ∀ k, ch n L k u ↔ k < h)
theorem lev_spec {n : Nat} {F L : Nat → Int32} (h : Inv1 n F L) {u : Nat} (hu : u < n) : ∀ k, ch n L k u ↔ k < lev n L u := by
  apply Classical.epsilon_spec (p := fun h => ∀ k, ch n L k u ↔ k < h)
  have n9 : ¬ ch n L n u := fun q => by
    have := ch_lt h hu q
    omega
  obtain ⟨b, b1, b2⟩ := ex_min (p := fun k => ¬ ch n L k u) (fun k => k) ⟨n, n9⟩
  refine ⟨b, fun k => ?_⟩
  constructor
  · intro hk
    rcases Nat.lt_or_ge k b with q | q
    · exact q
    · exfalso
      apply b1
      apply ch_down (k - b)
      rw [show b + (k - b) = k by omega]
      exact hk
  · intro hk
    apply Classical.byContradiction
    intro hn
    have := b2 k hn
    have : b ≤ k := this
    omega
theorem lev_pos {n : Nat} {F L : Nat → Int32} (h : Inv1 n F L) {u : Nat} (hu : u < n) : 1 ≤ lev n L u := (lev_spec h hu 0).mp trivial
theorem lev_le {n : Nat} {F L : Nat → Int32} (h : Inv1 n F L) {u : Nat} (hu : u < n) : lev n L u ≤ n := by
  have p := lev_pos h hu
  have := ch_lt h hu ((lev_spec h hu (lev n L u - 1)).mpr (by omega))
  omega
theorem lev_lt {n : Nat} {F L : Nat → Int32} (h : Inv1 n F L) {u v : Nat} (hu : u < n) (huv : bt (L u) v = true) : lev n L v < lev n L u := by
  have hv := h.2.2.1.1 u hu v huv
  have p := lev_pos h hv
  have c := (lev_spec h hv (lev n L v - 1)).mpr (by omega)
  have : ch n L (lev n L v - 1 + 1) u := ⟨v, hv, huv, c⟩
  have := (lev_spec h hu _).mp this
  omega
theorem lev_next {n : Nat} {F L : Nat → Int32} (h : Inv1 n F L) {u : Nat} (hu : u < n) (h2 : 2 ≤ lev n L u) : ∃ v, v < n ∧ bt (L u) v = true ∧ lev n L u ≤ lev n L v + 1 := by
  have c := (lev_spec h hu (lev n L u - 2 + 1)).mpr (by omega)
  obtain ⟨v, v1, v2, v3⟩ := c
  have := (lev_spec h v1 _).mp v3
  exact ⟨v, v1, v2, by omega⟩
/-- CoffmanGraham.heightOf -/
theorem ho_bt {n : Nat} {L : Nat → Int32} {rest : Int32} {v : Nat} : ∀ w, w ≤ 9 → (bt (hoI L rest w) v = true ↔ (v < w ∧ bt rest v = true ∧ ∃ i, bt (L v) i = true ∧ bt rest i = true)) := by
  intro w
  induction w with
  | zero =>
    intro _
    rw [hoI, b_0]
    exact ⟨fun h => (by cases h), fun h => (by omega)⟩
  | succ w ih =>
    intro hw
    have ih := ih (by omega)
    have up : (v < w ∧ bt rest v = true ∧ ∃ i, bt (L v) i = true ∧ bt rest i = true) → (v < w + 1 ∧ bt rest v = true ∧ ∃ i, bt (L v) i = true ∧ bt rest i = true) := fun h => ⟨by omega, h.2⟩
    rw [hoI]
    by_cases c : tb rest (nI w) = 0
    · rw [if_pos c, ih]
      refine ⟨up, fun h => ⟨?_, h.2⟩⟩
      by_cases e : v = w
      · have := h.2.1
        rw [e, (tb_0 (by omega)).mp c] at this
        cases this
      · omega
    · rw [if_neg c]
      by_cases d : L w &&& rest = 0
      · rw [if_pos d, ih]
        refine ⟨up, fun h => ⟨?_, h.2⟩⟩
        by_cases e : v = w
        · obtain ⟨i, i1, i2⟩ := h.2.2
          have := b_eq0.mp d i
          rw [e] at i1
          rw [b_and, i1, i2] at this
          cases this
        · omega
      · rw [if_neg d, b_or', ih, b_bit (by omega)]
        constructor
        · rintro (h | h)
          · exact up h
          · obtain ⟨i, hi⟩ := b_ne0.mp d
            rw [b_and'] at hi
            rw [h]
            exact ⟨by omega, (tb_ne (by omega)).mp c, i, hi⟩
        · intro h
          by_cases e : v = w
          · exact Or.inr e
          · exact Or.inl ⟨by omega, h.2⟩
theorem xHt_lev {n : Nat} {F L : Nat → Int32} (h : Inv1 n F L) {u : Nat} (hu : u < n) : xHt n L u = nI (lev n L u) := by
  have h1 := h.1
  have key : ∀ k j rest, j + k = 9 → ch n L j u → (∀ w, bt rest w = true ↔ (w < n ∧ bt (L u) w = true ∧ ch n L j w)) → hoO n L k rest (nI (j + 1)) = nI (lev n L u) := by
    intro k
    induction k with
    | zero =>
      intro j rest hj hc _
      have := ch_lt h hu hc
      omega
    | succ k ih =>
      intro j rest hj hc hr
      have hj1 := (lev_spec h hu j).mp hc
      rw [hoO]
      by_cases c : rest = 0
      · rw [if_pos c]
        have : ¬ ch n L (j + 1) u := fun hh => by
          obtain ⟨v, v1, v2, v3⟩ := hh
          have := (hr v).mpr ⟨v1, v2, v3⟩
          rw [c, b_0] at this
          cases this
        have : ¬ j + 1 < lev n L u := fun q => this ((lev_spec h hu (j + 1)).mpr q)
        rw [show lev n L u = j + 1 by omega]
      · rw [if_neg c, nI_1]
        apply ih (j + 1) _ (by omega)
        · obtain ⟨i, hi⟩ := b_ne0.mp c
          exact ⟨i, (hr i).mp hi⟩
        · intro w
          rw [ho_bt (n := n) n h1]
          constructor
          · rintro ⟨w1, w2, i, i1, i2⟩
            obtain ⟨_, w4, _⟩ := (hr w).mp w2
            obtain ⟨i3, _, i5⟩ := (hr i).mp i2
            exact ⟨w1, w4, i, i3, i1, i5⟩
          · rintro ⟨w1, w2, w3⟩
            refine ⟨w1, (hr w).mpr ⟨w1, w2, ch_dec _ _ w3⟩, ?_⟩
            obtain ⟨i, i1, i2, i3⟩ := w3
            exact ⟨i, i2, (hr i).mpr ⟨i1, h.2.2.1.2.2.1 u w i hu w2 i2, i3⟩⟩
  refine key 9 0 (L u) rfl trivial (fun w => ?_)
  exact ⟨fun q => ⟨h.2.2.1.1 u hu w q, q, trivial⟩, fun q => q.2.1⟩
/-- CoffmanGrahamModel.height -/
theorem yh_bt {F : Nat → Int32} {rc : Int32} {v : Nat} : ∀ w, w ≤ 9 → (bt (yhI F rc w) v = true ↔ ∃ a, a < w ∧ bt rc a = true ∧ bt (F a) v = true) := by
  intro w
  induction w with
  | zero =>
    intro _
    rw [yhI, b_0]
    exact ⟨fun h => (by cases h), fun ⟨a, h, _⟩ => (by omega)⟩
  | succ w ih =>
    intro hw
    have ih := ih (by omega)
    have up : (∃ a, a < w ∧ bt rc a = true ∧ bt (F a) v = true) → ∃ a, a < w + 1 ∧ bt rc a = true ∧ bt (F a) v = true := fun ⟨a, h, r⟩ => ⟨a, by omega, r⟩
    rw [yhI]
    by_cases c : xin rc (nI w) = 0
    · rw [if_pos c, ih]
      refine ⟨up, fun ⟨a, h, r1, r2⟩ => ⟨a, ?_, r1, r2⟩⟩
      by_cases e : a = w
      · rw [e, (xin_0 (by omega)).mp c] at r1; cases r1
      · omega
    · rw [if_neg c, b_or', ih]
      constructor
      · rintro (h | h)
        · exact up h
        · exact ⟨w, by omega, (xin_ne (by omega)).mp c, h⟩
      · rintro ⟨a, h, r1, r2⟩
        by_cases e : a = w
        · rw [e] at r2; exact Or.inr r2
        · exact Or.inl ⟨a, by omega, r1, r2⟩
theorem yHt_lev {n : Nat} {F L : Nat → Int32} (h : Inv1 n F L) {u : Nat} (hu : u < n) : yHt n F u = nI (lev n L u) := by
  have h1 := h.1
  have chF : ∀ k, ch n F k u ↔ k < lev n L u := fun k => ⟨fun q => (lev_spec h hu k).mp (ch_FL h.2.2.1 k u hu q), fun q => ch_LF h.2.1 h.2.2.1 k u hu ((lev_spec h hu k).mpr q)⟩
  have key : ∀ k j rc, j + k = 9 → (∀ a, bt rc a = true → a < n) → (∀ i, (∃ a, a < n ∧ bt rc a = true ∧ ch n F i a) ↔ ch n F (i + j) u) → (∃ a, bt rc a = true) → yhO n F k rc (j + 1) = nI (lev n L u) := by
    intro k
    induction k with
    | zero =>
      intro j rc hj hr hi ha
      obtain ⟨a, ha⟩ := ha
      have c := (hi 0).mp ⟨a, hr a ha, ha, trivial⟩
      have := lev_le h hu
      have := (chF _).mp c
      omega
    | succ k ih =>
      intro j rc hj hr hi ha
      obtain ⟨a, ha⟩ := ha
      have c0 := (hi 0).mp ⟨a, hr a ha, ha, trivial⟩
      have c1 := (chF _).mp c0
      rw [yhO]
      have hr' : ∀ b, bt (yhI F rc n) b = true → b < n := by
        intro b hb
        obtain ⟨a, a1, a2, a3⟩ := (yh_bt n h1).mp hb
        exact h.2.1 a a1 b a3
      have hi' : ∀ i, (∃ a, a < n ∧ bt (yhI F rc n) a = true ∧ ch n F i a) ↔ ch n F (i + (j + 1)) u := by
        intro i
        have e := hi (i + 1)
        rw [show i + 1 + j = i + (j + 1) by omega] at e
        rw [← e]
        constructor
        · rintro ⟨b, b1, b2, b3⟩
          obtain ⟨a, a1, a2, a3⟩ := (yh_bt n h1).mp b2
          exact ⟨a, a1, a2, b, b1, a3, b3⟩
        · rintro ⟨a, a1, a2, b, b1, b2, b3⟩
          exact ⟨b, b1, (yh_bt n h1).mpr ⟨a, a1, a2, b2⟩, b3⟩
      by_cases c : yhI F rc n = 0
      · rw [if_pos c]
        have n1 : ¬ ch n F (0 + (j + 1)) u := fun q => by
          obtain ⟨b, _, b2, _⟩ := (hi' 0).mpr q
          rw [c, b_0] at b2
          cases b2
        have : ¬ 0 + (j + 1) < lev n L u := fun q => n1 ((chF _).mpr q)
        rw [show lev n L u = j + 1 by omega]
      · rw [if_neg c]
        exact ih (j + 1) _ (by omega) hr' hi' (b_ne0.mp c)
  refine key 9 0 (xBit u) rfl ?_ ?_ ?_
  · intro a ha
    rw [b_bit (by omega)] at ha
    omega
  · intro i
    constructor
    · rintro ⟨a, a1, a2, a3⟩
      rw [b_bit (by omega)] at a2
      rw [a2] at a3
      exact a3
    · intro q
      exact ⟨u, hu, (b_bit (by omega)).mpr rfl, q⟩
  · exact ⟨u, (b_bit (by omega)).mpr rfl⟩
/-- immediate -/
def im (n : Nat) (L : Nat → Int32) (u v : Nat) : Prop := bt (L u) v = true ∧ ∀ w, w < n → bt (L u) w = true → ¬ bt (L w) v = true
theorem im_bt {L : Nat → Int32} {af : Int32} {v : Nat} : ∀ w, w ≤ 9 → (bt (imI L af w) v = true ↔ (bt af v = true ∧ ∀ a, a < w → bt af a = true → ¬ bt (L a) v = true)) := by
  intro w
  induction w with
  | zero =>
    intro _
    exact ⟨fun h => ⟨h, fun a ha => by omega⟩, fun h => h.1⟩
  | succ w ih =>
    intro hw
    have ih := ih (by omega)
    rw [imI]
    by_cases c : tb af (nI w) = 0
    · rw [if_pos c, ih]
      refine ⟨fun h => ⟨h.1, fun a ha r => ?_⟩, fun h => ⟨h.1, fun a ha => h.2 a (by omega)⟩⟩
      by_cases e : a = w
      · rw [e, (tb_0 (by omega)).mp c] at r; cases r
      · exact h.2 a (by omega) r
    · rw [if_neg c, b_andn, ih]
      constructor
      · rintro ⟨⟨h1, h2⟩, h3⟩
        refine ⟨h1, fun a ha r => ?_⟩
        by_cases e : a = w
        · rw [e, h3]; exact Bool.false_ne_true
        · exact h2 a (by omega) r
      · rintro ⟨h1, h2⟩
        exact ⟨⟨h1, fun a ha => h2 a (by omega)⟩, eq_false_of_ne_true (h2 w (by omega) ((tb_ne (by omega)).mp c))⟩
theorem xImm_bt {n : Nat} (hn : n ≤ 9) {L : Nat → Int32} {u v : Nat} : bt (xImm n L (L u)) v = true ↔ im n L u v := im_bt n hn
theorem im_F {n : Nat} {F L : Nat → Int32} (h : Inv1 n F L) {u v : Nat} (hu : u < n) (hi : im n L u v) : bt (F u) v = true := by
  obtain ⟨h1, h2, h3, h4⟩ := h
  have r := h3.2.2.2 (fun u v => u < n ∧ v < n ∧ (bt (F u) v = true ∨ ∃ w, w < n ∧ bt (L u) w = true ∧ bt (L w) v = true)) ?_ ?_ u v hu hi.1
  · rcases r.2.2 with q | ⟨w, w1, w2, w3⟩
    · exact q
    · exact absurd w3 (hi.2 w w1 w2)
  · intro a b ha hab
    exact ⟨ha, h2 a ha b hab, Or.inl hab⟩
  · intro a b c hab hbc
    have LL : ∀ a b, a < n → (bt (F a) b = true ∨ ∃ w, w < n ∧ bt (L a) w = true ∧ bt (L w) b = true) → bt (L a) b = true := by
      intro a b ha hh
      rcases hh with q | ⟨w, w1, w2, w3⟩
      · exact h3.2.1 a b ha q
      · exact h3.2.2.1 a w b ha w2 w3
    exact ⟨hab.1, hbc.2.1, Or.inr ⟨b, hab.2.1, LL a b hab.1 hab.2.2, LL b c hbc.1 hbc.2.2⟩⟩
theorem cn_ext {p : Nat → Prop} {n m : Nat} (hnm : n ≤ m) (h : ∀ k, p k → k < n) : cn p m = cn p n := by
  obtain ⟨d, rfl⟩ : ∃ d, m = n + d := ⟨m - n, by omega⟩
  induction d with
  | zero => rfl
  | succ d ih =>
    have ih := ih (by omega)
    show fb_ct (fun x => pb (p x)) (n + d) + (if pb (p (n + d)) = true then 1 else 0) = _
    rw [if_neg (fun e => by
      have := h _ (pb_iff.mp e)
      omega)]
    exact ih
theorem bi_nat (x : Int32) : ∀ v, v ≤ 9 → biI x v = nI (cn (fun i => bt x i = true) v) := by
  intro v
  induction v with
  | zero => intro _; exact nI_0.symm
  | succ v ih =>
    intro hv
    show biI x v + tb x (nI v) = nI (fb_ct (fun i => pb (bt x i = true)) v + (if pb (bt x v = true) = true then 1 else 0))
    rw [ih (by omega), tb_val (by omega)]
    by_cases q : bt x v = true
    · rw [if_pos q, if_pos (pb_iff.mpr q), nI_1]
      rfl
    · rw [if_neg q, if_neg (fun e => q (pb_iff.mp e))]
      exact Int32.add_zero _
def ex_ (n : Nat) (L : Nat → Int32) (u v : Nat) : Prop := ∃ w, w < n ∧ bt (L u) w = true ∧ bt (L w) v = true
theorem yEx_1 {n : Nat} (hn : n ≤ 9) {L : Nat → Int32} {u v : Nat} (hv : v < n) : ¬ yEx n L u v = 0 ↔ ex_ n L u v := by
  unfold yEx
  by_cases c : ∀ w, w < n → (xin (L u) (nI w) = 0 ∨ xin (L w) (nI v) = 0)
  · rw [if_pos c]
    refine ⟨fun h => absurd rfl h, fun ⟨w, w1, w2, w3⟩ => ?_⟩
    rcases c w w1 with q | q
    · rw [xin_0 (by omega), w2] at q; cases q
    · rw [xin_0 (by omega), w3] at q; cases q
  · rw [if_neg c]
    refine ⟨fun _ => ?_, fun _ => by decide⟩
    apply Classical.byContradiction
    intro hn1
    apply c
    intro w hw
    cases q1 : bt (L u) w
    · exact Or.inl ((xin_0 (by omega)).mpr q1)
    · cases q2 : bt (L w) v
      · exact Or.inr ((xin_0 (by omega)).mpr q2)
      · exact absurd ⟨w, hw, q1, q2⟩ hn1
theorem ys_nat {n : Nat} (hn : n ≤ 9) {F L : Nat → Int32} {u a : Nat} : ∀ v, v ≤ n → ysI n F L u (nI a) v = nI (a + cn (fun v => bt (F u) v = true ∧ ex_ n L u v) v) := by
  intro v
  induction v with
  | zero => intro _; rfl
  | succ v ih =>
    intro hv
    rw [ysI, ih (by omega)]
    show _ = nI (a + (fb_ct (fun v => pb (bt (F u) v = true ∧ ex_ n L u v)) v + (if pb (bt (F u) v = true ∧ ex_ n L u v) = true then 1 else 0)))
    by_cases c : xin (F u) (nI v) = 0
    · rw [if_pos c, if_neg (fun e => by
        have := (pb_iff.mp e).1
        rw [(xin_0 (by omega)).mp c] at this
        cases this)]
      rfl
    · rw [if_neg c]
      by_cases d : yEx n L u v = 0
      · rw [if_pos d, if_neg (fun e => (yEx_1 hn (by omega)).mpr (pb_iff.mp e).2 d)]
        rfl
      · rw [if_neg d, if_pos (pb_iff.mpr ⟨(xin_ne (by omega)).mp c, (yEx_1 hn (by omega)).mp d⟩), nI_1]
        rfl
theorem yn_nat {n : Nat} (hn : n ≤ 9) {F L : Nat → Int32} {u : Nat} : ∀ v, v ≤ n → ynI n F L u v = nI (cn (fun v => bt (F u) v = true ∧ ¬ ex_ n L u v) v) := by
  intro v
  induction v with
  | zero => intro _; rfl
  | succ v ih =>
    intro hv
    rw [ynI, ih (by omega)]
    show _ = nI (fb_ct (fun v => pb (bt (F u) v = true ∧ ¬ ex_ n L u v)) v + (if pb (bt (F u) v = true ∧ ¬ ex_ n L u v) = true then 1 else 0))
    by_cases c : xin (F u) (nI v) = 0
    · rw [if_pos c, if_neg (fun e => by
        have := (pb_iff.mp e).1
        rw [(xin_0 (by omega)).mp c] at this
        cases this)]
      rfl
    · rw [if_neg c]
      by_cases d : yEx n L u v = 0
      · rw [if_pos d, if_pos (pb_iff.mpr ⟨(xin_ne (by omega)).mp c, fun q => (yEx_1 hn (by omega)).mpr q d⟩), nI_1]
        rfl
      · rw [if_neg d, if_neg (fun e => (pb_iff.mp e).2 ((yEx_1 hn (by omega)).mp d))]
        rfl
theorem im_ex {n : Nat} {L : Nat → Int32} {u v : Nat} : im n L u v ↔ (bt (L u) v = true ∧ ¬ ex_ n L u v) :=
  ⟨fun h => ⟨h.1, fun ⟨w, w1, w2, w3⟩ => h.2 w w1 w2 w3⟩, fun h => ⟨h.1, fun w w1 w2 w3 => h.2 ⟨w, w1, w2, w3⟩⟩⟩
theorem ex_same {n : Nat} {L L' : Nat → Int32} (he : ∀ u, u < n → L u = L' u) {u v : Nat} (hu : u < n) : ex_ n L u v ↔ ex_ n L' u v :=
  ⟨fun ⟨w, w1, w2, w3⟩ => ⟨w, w1, by rw [← he u hu]; exact w2, by rw [← he w w1]; exact w3⟩, fun ⟨w, w1, w2, w3⟩ => ⟨w, w1, by rw [he u hu]; exact w2, by rw [he w w1]; exact w3⟩⟩
theorem ans_sup {n : Nat} {F L F' L' : Nat → Int32} (h : Inv1 n F L) (hF : ∀ u, u < n → F u = F' u) (hL : ∀ u, u < n → L u = L' u) : suI n F L n = ysO n F' L' n := by
  have h1 := h.1
  have key : ∀ u, u ≤ n → ∃ a, suI n F L u = nI a ∧ ysO n F' L' u = nI a := by
    intro u
    induction u with
    | zero => intro _; exact ⟨0, rfl, rfl⟩
    | succ u ih =>
      intro hu
      obtain ⟨a, a1, a2⟩ := ih (by omega)
      refine ⟨a + cn (fun v => bt (F' u) v = true ∧ ex_ n L' u v) n, ?_, ?_⟩
      · rw [suI, a1]
        show nI a + biI _ 9 = _
        rw [bi_nat _ 9 (by decide), nI_add]
        congr 2
        rw [cn_ext (n := n) h1 (fun k hk => by
          rw [b_andn] at hk
          exact h.2.1 u (by omega) k hk.1)]
        apply cn_cong
        intro v hv
        rw [b_andn, ← hF u (by omega), ← ex_same hL (by omega)]
        constructor
        · rintro ⟨p, q⟩
          refine ⟨p, Classical.byContradiction (fun hn => ?_)⟩
          rw [(xImm_bt h1).mpr (im_ex.mpr ⟨h.2.2.1.2.1 u v (by omega) p, hn⟩)] at q
          cases q
        · rintro ⟨p, q⟩
          refine ⟨p, eq_false_of_ne_true (fun e => ?_)⟩
          exact (im_ex.mp ((xImm_bt h1).mp e)).2 q
      · rw [ysO, a2, ys_nat h1 n (Nat.le_refl _)]
  obtain ⟨a, a1, a2⟩ := key n (Nat.le_refl _)
  rw [a1, a2]
theorem one_bit : ∀ a, a < 512 → (nI a &&& (nI a - 1) = 0 ↔ szN a ≤ 1) := by decide +kernel
theorem im_cn {n : Nat} {F L : Nat → Int32} (h : Inv1 n F L) {u : Nat} (hu : u < n) : xImm n L (L u) &&& (xImm n L (L u) - 1) = 0 ↔ cn (fun v => im n L u v) n ≤ 1 := by
  have h1 := h.1
  have hb : ∀ i, bt (xImm n L (L u)) i = true → i < n := fun i hi => h.2.2.1.1 u hu i ((xImm_bt h1).mp hi).1
  obtain ⟨a, a1, a2⟩ := nI_bits9 (x := xImm n L (L u)) (fun i hi => by
    have := hb i hi
    omega)
  rw [a2, one_bit a a1]
  have e : szN a = cn (fun v => im n L u v) n := by
    unfold szN
    rw [← cn_bool, ← cn_ext (p := fun v => im n L u v) (m := 9) h1 (fun k hk => hb k ((xImm_bt h1).mpr hk))]
    apply cn_cong
    intro v hv
    rw [← xImm_bt h1, a2, bt_nI (by omega)]
  rw [e]
theorem ans_tree {n : Nat} {F L F' L' : Nat → Int32} (h : Inv1 n F L) (hF : ∀ u, u < n → F u = F' u) (hL : ∀ u, u < n → L u = L' u) : xIT n L = yIT n F' L' := by
  have h1 := h.1
  have e : (∀ u, u < n → xImm n L (L u) &&& (xImm n L (L u) - 1) = 0) ↔ (∀ u, u < n → ynI n F' L' u n ≤ 1) := by
    have one : ∀ u, u < n → ((xImm n L (L u) &&& (xImm n L (L u) - 1) = 0) ↔ ynI n F' L' u n ≤ 1) := by
      intro u hu
      rw [im_cn h hu, yn_nat h1 n (Nat.le_refl _)]
      have e2 : cn (fun v => im n L u v) n = cn (fun v => bt (F' u) v = true ∧ ¬ ex_ n L' u v) n := by
        apply cn_cong
        intro v hv
        rw [← hF u hu, ← ex_same hL hu]
        constructor
        · intro q
          exact ⟨im_F h hu q, (im_ex.mp q).2⟩
        · intro q
          exact im_ex.mpr ⟨h.2.2.1.2.1 u v hu q.1, q.2⟩
      rw [e2]
      have le : cn (fun v => bt (F' u) v = true ∧ ¬ ex_ n L' u v) n ≤ n := fb_ct_le _ n
      exact (nI_leI (b := 1) (by omega) (by decide)).symm
    exact ⟨fun q u hu => (one u hu).mp (q u hu), fun q u hu => (one u hu).mpr (q u hu)⟩
  unfold xIT yIT
  by_cases c : ∀ u, u < n → xImm n L (L u) &&& (xImm n L (L u) - 1) = 0
  · rw [if_pos c, if_pos (e.mp c)]
  · rw [if_neg c, if_neg (fun q => c (e.mpr q))]
theorem tree_one {n : Nat} {F L : Nat → Int32} (h : Inv1 n F L) (ht : ¬ xIT n L = 0) {u x x' : Nat} (hu : u < n) (h1 : im n L u x) (h2 : im n L u x') : x = x' := by
  unfold xIT at ht
  by_cases c : ∀ u, u < n → xImm n L (L u) &&& (xImm n L (L u) - 1) = 0
  · have q := (im_cn h hu).mp (c u hu)
    apply Classical.byContradiction
    intro hne
    have := cn_two (p := fun v => im n L u v) (h.2.2.1.1 u hu x h1.1) (h.2.2.1.1 u hu x' h2.1) h1 h2 hne
    omega
  · rw [if_neg c] at ht
    exact absurd rfl ht
end
section
/-! CoffmanGraham.lengthOnList: the greedy schedule -/
def rdy_ (n : Nat) (L : Nat → Int32) (op : Int32) (v : Nat) : Prop := bt op v = true ∧ ∀ u, u < n → bt op u = true → ¬ bt (L u) v = true
theorem xRdy_0 {n : Nat} (hn : n ≤ 9) {L : Nat → Int32} {op : Int32} {v : Nat} (hv : v < 9) : ¬ xRdy n L (nI v) op = 0 ↔ ∀ u, u < n → bt op u = true → ¬ bt (L u) v = true := by
  unfold xRdy
  by_cases c : ∀ u, u < n → (tb op (nI u) = 0 ∨ tb (L u) (nI v) = 0)
  · rw [if_pos c]
    refine ⟨fun _ u hu h1 h2 => ?_, fun _ => by decide⟩
    rcases c u hu with q | q
    · exact (tb_ne (by omega)).mpr h1 q
    · exact (tb_ne (by omega)).mpr h2 q
  · rw [if_neg c]
    refine ⟨fun h => absurd rfl h, fun h => ?_⟩
    exfalso
    apply c
    intro u hu
    cases q1 : bt op u
    · exact Or.inl ((tb_0 (by omega)).mpr q1)
    · exact Or.inr ((tb_0 (by omega)).mpr (eq_false_of_ne_true (h u hu q1)))
def cand (n : Nat) (L : Nat → Int32) (op sl : Int32) (v : Nat) : Prop := rdy_ n L op v ∧ bt sl v = false
theorem br_spec {n : Nat} (hn : n ≤ 9) {L lb : Nat → Int32} {α : Nat → Nat} {op sl : Int32} (hlb : ∀ v, bt op v = true → lb v = nI (α v) ∧ α v < 100) : ∀ i, i ≤ n →
    (brI n L lb op sl i < 0 ∧ ∀ v, v < i → ¬ cand n L op sl v) ∨ ∃ j, j < i ∧ brI n L lb op sl i = nI j ∧ cand n L op sl j ∧ ∀ v, v < i → cand n L op sl v → α v ≤ α j := by
  intro i
  induction i with
  | zero => intro _; exact Or.inl ⟨by show (-1 : Int32) < 0; decide, fun v hv => by omega⟩
  | succ i ih =>
    intro hi
    have ih := ih (by omega)
    have keep : ¬ cand n L op sl i → ((brI n L lb op sl i < 0 ∧ ∀ v, v < i + 1 → ¬ cand n L op sl v) ∨ ∃ j, j < i + 1 ∧ brI n L lb op sl i = nI j ∧ cand n L op sl j ∧ ∀ v, v < i + 1 → cand n L op sl v → α v ≤ α j) := by
      intro hc
      rcases ih with ⟨a, b⟩ | ⟨j, j1, j2, j3, j4⟩
      · refine Or.inl ⟨a, fun v hv => ?_⟩
        by_cases e : v = i
        · rw [e]; exact hc
        · exact b v (by omega)
      · refine Or.inr ⟨j, by omega, j2, j3, fun v hv hcv => ?_⟩
        by_cases e : v = i
        · rw [e] at hcv; exact absurd hcv hc
        · exact j4 v (by omega) hcv
    rw [brI]
    by_cases c1 : tb op (nI i) = 0
    · rw [if_pos c1]
      exact keep (fun h => (tb_ne (by omega)).mpr h.1.1 c1)
    · rw [if_neg c1]
      by_cases c2 : tb sl (nI i) = 0
      · rw [if_pos c2]
        by_cases c3 : xRdy n L (nI i) op = 0
        · rw [if_pos c3]
          exact keep (fun h => (xRdy_0 hn (by omega)).mpr h.1.2 c3)
        · rw [if_neg c3]
          have hc : cand n L op sl i := ⟨⟨(tb_ne (by omega)).mp c1, (xRdy_0 hn (by omega)).mp c3⟩, (tb_0 (by omega)).mp c2⟩
          rcases ih with ⟨a, b⟩ | ⟨j, j1, j2, j3, j4⟩
          · rw [if_pos a]
            refine Or.inr ⟨i, by omega, rfl, hc, fun v hv hcv => ?_⟩
            by_cases e : v = i
            · rw [e]; exact Nat.le_refl _
            · exact absurd hcv (b v (by omega))
          · obtain ⟨l1, l2⟩ := hlb j j3.1.1
            obtain ⟨l3, l4⟩ := hlb i hc.1.1
            rw [j2, if_neg (nI_pos (by omega)), nI_clamp (by omega), l1, l3]
            by_cases c4 : α i ≤ α j
            · rw [if_pos ((nI_leI (by omega) (by omega)).mpr c4)]
              refine Or.inr ⟨j, by omega, rfl, j3, fun v hv hcv => ?_⟩
              by_cases e : v = i
              · rw [e]; exact c4
              · exact j4 v (by omega) hcv
            · rw [if_neg (fun q => c4 ((nI_leI (by omega) (by omega)).mp q))]
              refine Or.inr ⟨i, by omega, rfl, hc, fun v hv hcv => ?_⟩
              by_cases e : v = i
              · rw [e]; exact Nat.le_refl _
              · have := j4 v (by omega) hcv
                omega
      · rw [if_neg c2]
        exact keep (fun h => by
          have := h.2
          rw [(tb_ne (by omega)).mp c2] at this
          cases this)
/-- the tasks that a slot takes -/
theorem lo_spec {n : Nat} (hn : n ≤ 9) {L lb : Nat → Int32} {α : Nat → Nat} {pt dn : Int32} (hpt : ∀ v, bt pt v = true → v < n) (hlb : ∀ v, bt pt v = true → lb v = nI (α v) ∧ α v < 100) : ∀ k,
    (∀ x, bt (loI n L lb pt dn k) x = true → rdy_ n L (pt &&& (dn ^^^ (-1))) x) ∧ cn (fun x => bt (loI n L lb pt dn k) x = true) 9 ≤ k ∧
    (∀ x, rdy_ n L (pt &&& (dn ^^^ (-1))) x → bt (loI n L lb pt dn k) x = false → cn (fun x => bt (loI n L lb pt dn k) x = true) 9 = k ∧ ∀ y, bt (loI n L lb pt dn k) y = true → α x ≤ α y) := by
  have hop : ∀ v, bt (pt &&& (dn ^^^ (-1))) v = true → bt pt v = true := fun v h => (b_andn.mp h).1
  intro k
  induction k with
  | zero =>
    have z : cn (fun x => bt (loI n L lb pt dn 0) x = true) 9 = 0 := by
      rcases Nat.eq_zero_or_pos (cn (fun x => bt (loI n L lb pt dn 0) x = true) 9) with q | q
      · exact q
      · obtain ⟨x, _, hx⟩ := cn_pos.mp q
        rw [loI, b_0] at hx
        cases hx
    refine ⟨fun x hx => ?_, by omega, fun x _ _ => ⟨z, fun y hy => ?_⟩⟩
    · rw [loI, b_0] at hx; cases hx
    · rw [loI, b_0] at hy; cases hy
  | succ k ih =>
    obtain ⟨i1, i2, i3⟩ := ih
    have sp := br_spec hn (L := L) (lb := lb) (α := α) (op := pt &&& (dn ^^^ (-1))) (sl := loI n L lb pt dn k) (fun v hv => hlb v (hop v hv)) n (Nat.le_refl _)
    rcases sp with ⟨a, b⟩ | ⟨j, j1, j2, j3, j4⟩
    · have e : loI n L lb pt dn (k + 1) = loI n L lb pt dn k := by
        rw [loI]
        exact if_pos a
      have none : ∀ x, rdy_ n L (pt &&& (dn ^^^ (-1))) x → bt (loI n L lb pt dn k) x = false → False := fun x hx hb => b x (hpt x (hop x hx.1)) ⟨hx, hb⟩
      rw [e]
      exact ⟨i1, by omega, fun x hx hb => (none x hx hb).elim⟩
    · have e : loI n L lb pt dn (k + 1) = loI n L lb pt dn k ||| xBit j := by
        rw [loI]
        have j2' : xBest n L lb pt dn (loI n L lb pt dn k) = nI j := j2
        rw [j2', if_neg (nI_pos (by omega))]
      rw [e]
      have cj : cn (fun x => bt (loI n L lb pt dn k ||| xBit j) x = true) 9 = cn (fun x => bt (loI n L lb pt dn k) x = true) 9 + 1 := by
        rw [← cn_rm (p := fun x => bt (loI n L lb pt dn k ||| xBit j) x = true) (w := j) (by omega) (b_or'.mpr (Or.inr ((b_bit (by omega)).mpr rfl)))]
        congr 1
        apply cn_cong
        intro x _
        rw [b_or', b_bit (by omega)]
        constructor
        · rintro ⟨h | h, h2⟩
          · exact h
          · exact absurd h h2
        · intro h
          refine ⟨Or.inl h, fun q => ?_⟩
          rw [q, j3.2] at h
          cases h
      refine ⟨?_, by omega, ?_⟩
      · intro x hx
        rcases b_or'.mp hx with q | q
        · exact i1 x q
        · rw [b_bit (by omega)] at q
          rw [q]
          exact j3.1
      · intro x hx hb
        have hb1 : bt (loI n L lb pt dn k) x = false := by
          cases q : bt (loI n L lb pt dn k) x
          · rfl
          · rw [b_or'.mpr (Or.inl q)] at hb; cases hb
        obtain ⟨c1, c2⟩ := i3 x hx hb1
        refine ⟨by omega, fun y hy => ?_⟩
        rcases b_or'.mp hy with q | q
        · exact c2 y q
        · rw [b_bit (by omega)] at q
          rw [q]
          exact j4 x (hpt x (hop x hx.1)) ⟨hx, hb1⟩
/-- what is done, slot by slot -/
def dnq (n : Nat) (L lb : Nat → Int32) (pt : Int32) (mm : Nat) : Nat → Int32
  | 0 => 0
  | t + 1 => dnq n L lb pt mm t ||| loI n L lb pt (dnq n L lb pt mm t) mm
theorem dnq_in {n : Nat} (hn : n ≤ 9) {L lb : Nat → Int32} {α : Nat → Nat} {pt : Int32} {mm : Nat} (hpt : ∀ v, bt pt v = true → v < n) (hlb : ∀ v, bt pt v = true → lb v = nI (α v) ∧ α v < 100) : ∀ t x, bt (dnq n L lb pt mm t) x = true → bt pt x = true := by
  intro t
  induction t with
  | zero => intro x hx; rw [dnq, b_0] at hx; cases hx
  | succ t ih =>
    intro x hx
    rcases b_or'.mp hx with q | q
    · exact ih x q
    · exact (b_andn.mp ((lo_spec hn hpt hlb mm).1 x q).1).1
theorem bt_N (x : Int32) (i : Nat) : x.toBitVec.toNat.testBit i = bt x i := rfl
/-- some task is ready -/
theorem some_rdy {n : Nat} {F L : Nat → Int32} (h : Inv1 n F L) {op : Int32} (hop : ∀ v, bt op v = true → v < n) (hne : ∃ v, bt op v = true) : ∃ v, rdy_ n L op v := by
  obtain ⟨v, v1, v2⟩ := ex_max (p := fun v => bt op v = true) (fun v => cn (fun w => bt (L v) w = true) n) n (fun _ _ => fb_ct_le _ n) hne
  refine ⟨v, v1, fun u hu h1 h2 => ?_⟩
  have a : cn (fun w => bt (L u) w = true) n ≤ cn (fun w => bt (L v) w = true) n := v2 u h1
  have b : cn (fun w => bt (L v) w = true) n < cn (fun w => bt (L u) w = true) n := cn_lt (w := v) (fun x _ hx => h.2.2.1.2.2.1 u v x hu h2 hx) (hop v v1) h2 (fun e => by
    rw [h.2.2.2 v (hop v v1)] at e; cases e)
  omega
theorem dnq_step {n : Nat} {F L lb : Nat → Int32} (h : Inv1 n F L) {α : Nat → Nat} {pt : Int32} {mm : Nat} (hm : 1 ≤ mm) (hpt : ∀ v, bt pt v = true → v < n) (hlb : ∀ v, bt pt v = true → lb v = nI (α v) ∧ α v < 100) (t : Nat) :
    rn_st mm (fun x => bt pt x = true) (fun u v => bt (L u) v = true) (dnq n L lb pt mm t).toBitVec.toNat (dnq n L lb pt mm (t + 1)).toBitVec.toNat ∧
    (¬ dnq n L lb pt mm t = pt → rn_gr mm (fun x => bt pt x = true) (fun u v => bt (L u) v = true) α (dnq n L lb pt mm t).toBitVec.toNat (dnq n L lb pt mm (t + 1)).toBitVec.toNat) := by
  have h1 := h.1
  obtain ⟨s1, s2, s3⟩ := lo_spec h1 (L := L) (dn := dnq n L lb pt mm t) hpt hlb mm
  have e : ∀ x, bt (dnq n L lb pt mm (t + 1)) x = true ↔ (bt (dnq n L lb pt mm t) x = true ∨ bt (loI n L lb pt (dnq n L lb pt mm t) mm) x = true) := fun x => b_or'
  have sl : ∀ x, (bt (dnq n L lb pt mm (t + 1)) x = true ∧ bt (dnq n L lb pt mm t) x = false) ↔ bt (loI n L lb pt (dnq n L lb pt mm t) mm) x = true := by
    intro x
    constructor
    · rintro ⟨a, b⟩
      rcases (e x).mp a with q | q
      · rw [b] at q; cases q
      · exact q
    · intro q
      exact ⟨(e x).mpr (Or.inr q), (b_andn.mp (s1 x q).1).2⟩
  have ct : cn (fun x => (dnq n L lb pt mm (t + 1)).toBitVec.toNat.testBit x = true ∧ (dnq n L lb pt mm t).toBitVec.toNat.testBit x = false) 9 = cn (fun x => bt (loI n L lb pt (dnq n L lb pt mm t) mm) x = true) 9 := cn_cong (fun x _ => sl x)
  constructor
  · refine ⟨fun x hx => (e x).mpr (Or.inl hx), fun x a b => ?_, by rw [ct]; exact s2⟩
    have r := s1 x ((sl x).mp ⟨a, b⟩)
    refine ⟨(b_andn.mp r.1).1, fun u pu hu => ?_⟩
    exact r.2 u (hpt u pu) (b_andn.mpr ⟨pu, hu⟩)
  · intro hne
    have hx : ∃ v, bt (pt &&& (dnq n L lb pt mm t ^^^ (-1))) v = true := by
      apply Classical.byContradiction
      intro hn
      apply hne
      apply b_eq
      intro i
      refine ⟨dnq_in h1 hpt hlb t i, fun q => Classical.byContradiction (fun r => hn ⟨i, b_andn.mpr ⟨q, eq_false_of_ne_true r⟩⟩)⟩
    obtain ⟨v, hv⟩ := some_rdy h (op := pt &&& (dnq n L lb pt mm t ^^^ (-1))) (fun v hv => hpt v (b_andn.mp hv).1) hx
    constructor
    · apply Classical.byContradiction
      intro hn
      have z : ∀ x, ¬ bt (loI n L lb pt (dnq n L lb pt mm t) mm) x = true := fun x q => hn ⟨x, (sl x).mpr q⟩
      have c := (s3 v hv (eq_false_of_ne_true (z v))).1
      obtain ⟨x, _, hx⟩ := cn_pos.mp (show 0 < cn (fun x => bt (loI n L lb pt (dnq n L lb pt mm t) mm) x = true) 9 by omega)
      exact z x hx
    · intro x px hb hr
      have nb : ¬ bt (dnq n L lb pt mm (t + 1)) x = true := fun q => by
        rw [bt_N, q] at hb; cases hb
      have rx : rdy_ n L (pt &&& (dnq n L lb pt mm t ^^^ (-1))) x := by
        refine ⟨b_andn.mpr ⟨px, eq_false_of_ne_true (fun q => nb ((e x).mpr (Or.inl q)))⟩, fun u hu h1 h2 => ?_⟩
        have h3 := b_andn.mp h1
        have h4 : bt (dnq n L lb pt mm t) u = true := hr u h3.1 h2
        rw [h3.2] at h4
        cases h4
      obtain ⟨c1, c2⟩ := s3 x rx (eq_false_of_ne_true (fun q => nb ((e x).mpr (Or.inr q))))
      refine ⟨by rw [ct]; exact c1, fun z z1 z2 => c2 z ((sl z).mp ⟨z1, z2⟩)⟩
theorem lo_T {n : Nat} {L lb : Nat → Int32} {pt : Int32} {mm : Nat} : ∀ k i, i + k = 9 → (∀ t, t < i → ¬ dnq n L lb pt mm t = pt) →
    ∃ T, i ≤ T ∧ T ≤ 9 ∧ loO n L lb pt mm k (dnq n L lb pt mm i) i = nI T ∧ (∀ t, t < T → ¬ dnq n L lb pt mm t = pt) ∧ (dnq n L lb pt mm T = pt ∨ T = 9) := by
  intro k
  induction k with
  | zero =>
    intro i hi hn
    exact ⟨i, Nat.le_refl _, by omega, rfl, hn, Or.inr (by omega)⟩
  | succ k ih =>
    intro i hi hn
    rw [loO]
    by_cases c : dnq n L lb pt mm i = pt
    · rw [if_pos c]
      exact ⟨i, Nat.le_refl _, by omega, rfl, hn, Or.inl c⟩
    · rw [if_neg c]
      obtain ⟨T, t1, t2, t3, t4, t5⟩ := ih (i + 1) (by omega) (fun t ht => by
        by_cases e : t = i
        · rw [e]; exact c
        · exact hn t (by omega))
      exact ⟨T, by omega, t2, t3, t4, t5⟩
theorem len_main {n : Nat} {F L lb : Nat → Int32} (h : Inv1 n F L) {α : Nat → Nat} {pt : Int32} {mm : Nat} (hm : 1 ≤ mm) (hpt : ∀ v, bt pt v = true → v < n) (hlb : ∀ v, bt pt v = true → lb v = nI (α v) ∧ α v < 100) :
    ∃ T f, xLen n L lb pt mm = nI T ∧ T ≤ 9 ∧ rn_run mm (fun x => bt pt x = true) (fun u v => bt (L u) v = true) T f pt.toBitVec.toNat ∧
      ∀ t, t < T → rn_gr mm (fun x => bt pt x = true) (fun u v => bt (L u) v = true) α (f t) (f (t + 1)) := by
  have h1 := h.1
  obtain ⟨T, _, t2, t3, t4, t5⟩ := lo_T (n := n) (L := L) (lb := lb) (pt := pt) (mm := mm) 9 0 rfl (fun t ht => by omega)
  have grow : ∀ t, t ≤ T → t ≤ cn (fun x => bt (dnq n L lb pt mm t) x = true) 9 := by
    intro t
    induction t with
    | zero => intro _; exact Nat.zero_le _
    | succ t ih =>
      intro ht
      have i := ih (by omega)
      obtain ⟨s, g⟩ := dnq_step h (lb := lb) (α := α) (pt := pt) (mm := mm) hm hpt hlb t
      obtain ⟨⟨x, x1, x2⟩, _⟩ := g (t4 t (by omega))
      have : cn (fun x => bt (dnq n L lb pt mm t) x = true) 9 < cn (fun x => bt (dnq n L lb pt mm (t + 1)) x = true) 9 := cn_lt (w := x) (fun y _ hy => s.1 y hy) (by
        have := hpt x (dnq_in h1 hpt hlb (t + 1) x x1)
        omega) x1 (fun q => by
        rw [bt_N, q] at x2; cases x2)
      omega
  have last : dnq n L lb pt mm T = pt := by
    rcases t5 with q | q
    · exact q
    · have g := grow T (Nat.le_refl _)
      rw [q] at g
      rw [q]
      have full := cn_full g
      apply b_eq
      intro i
      exact ⟨dnq_in h1 hpt hlb 9 i, fun r => full i (by
        have := hpt i r
        omega)⟩
  refine ⟨T, fun t => (dnq n L lb pt mm t).toBitVec.toNat, t3, t2, ⟨rfl, by show (dnq n L lb pt mm T).toBitVec.toNat = _; rw [last], fun t ht => (dnq_step h hm hpt hlb t).1⟩, fun t ht => (dnq_step h hm hpt hlb t).2 (t4 t ht)⟩
/-- the least number of slots, on both sides -/
theorem same_len {n m t : Nat} {F F1 L lb sl : Nat → Int32} {α : Nat → Nat} (h : Inv1 n F1 L) (hm : 1 ≤ m) (hm9 : m ≤ 9) (ht : t < 2 ^ n) (hF1 : ∀ u, u < n → t.testBit u = true → F1 u = F u) (hF0 : ∀ u, u < n → t.testBit u = false → F1 u = 0)
    (hlb : ∀ v, t.testBit v = true → lb v = nI (α v) ∧ α v < 100)
    (hopt : ∀ T k τ σ, sq_greedy 9 m T (fun x => t.testBit x = true) (fun u v => bt (L u) v = true) α τ → sq_ok 9 m k (fun x => t.testBit x = true) (fun u v => bt (L u) v = true) σ → T ≤ k) :
    xLen n L lb (nI t) m = yLst 512 n F (nI t) (nI m) sl t := by
  have h1 := h.1
  have t9 : t < 512 := Nat.lt_of_lt_of_le ht (Nat.pow_le_pow_right (n := 2) (by decide) h1)
  have bits : ∀ x, bt (nI t) x = true ↔ t.testBit x = true := by
    intro x
    rw [← bt_N, pk_tn (by omega)]
  have P1 : (fun x => bt (nI t) x = true) = (fun x => t.testBit x = true) := funext (fun x => propext (bits x))
  obtain ⟨T, f, e1, e2, e3, e4⟩ := len_main h (lb := lb) (α := α) (pt := nI t) hm (fun v hv => bit_lt ht ((bits v).mp hv)) (fun v hv => hlb v ((bits v).mp hv))
  rw [P1, pk_tn (by omega)] at e3
  rw [P1] at e4
  obtain ⟨k, k1, k2, k3⟩ := dp_main (F := F) (m := m) h1 ht hm9 sl
  rw [e1, k1]
  have EL : ∀ u x, t.testBit u = true → t.testBit x = true → bt (F u) x = true → bt (L u) x = true := by
    intro u x pu px e
    refine h.2.2.1.2.1 u x (bit_lt ht pu) ?_
    rw [hF1 u (bit_lt ht pu) pu]
    exact e
  have kT : k ≤ T := k3 T f (by omega) (rn_less EL e3)
  obtain ⟨g, hg⟩ := k2 (by omega)
  obtain ⟨σ, hσ⟩ := rn_ok (fun x hx => hx) hg
  obtain ⟨τ, hτ⟩ := rn_greedy (fun x => Iff.rfl) e3 e4
  have hσL : sq_ok 9 m k (fun x => t.testBit x = true) (fun u v => bt (L u) v = true) σ := by
    refine ⟨hσ.1, fun x y px py l => ?_, hσ.2.2⟩
    refine (h.2.2.1.2.2.2 (fun u v => t.testBit u = true ∧ (t.testBit v = true → σ u < σ v)) ?_ ?_ x y (bit_lt ht px) l).2 py
    · intro a b ha hab
      cases q : t.testBit a
      · rw [hF0 a ha q, b_0] at hab; cases hab
      · refine ⟨rfl, fun pb => hσ.2.1 a b q pb ?_⟩
        show bt (F a) b = true
        rw [← hF1 a ha q]
        exact hab
    · intro a b c hab hbc
      refine ⟨hab.1, fun pc => ?_⟩
      have := hab.2 hbc.1
      have := hbc.2 pc
      omega
  have Tk := hopt T k τ σ hτ hσL
  rw [show T = k by omega]
end
section
/-! CoffmanGraham.labelByLists: the labels -/
theorem nb_byte : ∀ h, h ≤ 9 → (nI h).toInt8.toInt32 = nI h := by decide +kernel
theorem llN_at (n : Nat) (L : Nat → Int32) (pt : Int32) (N : Nat → Int32) : ∀ v j, llN n L pt N v j = if j < v then xImm n L (L j &&& pt) &&& pt else N j := by
  intro v
  induction v with
  | zero => intro j; rw [if_neg (by omega)]; rfl
  | succ v ih =>
    intro j
    show upd (llN n L pt N v) v _ j = _
    unfold upd
    by_cases e : j = v
    · rw [if_pos e, if_pos (show j < v + 1 by omega), e]
    · rw [if_neg e, ih]
      by_cases q : j < v
      · rw [if_pos q, if_pos (show j < v + 1 by omega)]
      · rw [if_neg q, if_neg (show ¬ j < v + 1 by omega)]
theorem llB_at (lb : Nat → Int32) : ∀ v j, llB lb v j = if j < v then 0 else lb j := by
  intro v
  induction v with
  | zero => intro j; rw [if_neg (by omega)]; rfl
  | succ v ih =>
    intro j
    show upd (llB lb v) v _ j = _
    unfold upd
    by_cases e : j = v
    · rw [if_pos e, if_pos (show j < v + 1 by omega)]
    · rw [if_neg e, ih]
      by_cases q : j < v
      · rw [if_pos q, if_pos (show j < v + 1 by omega)]
      · rw [if_neg q, if_neg (show ¬ j < v + 1 by omega)]
theorem lhB_at (n : Nat) (L lb : Nat → Int32) : ∀ v j, lhB n L lb v j = if j < v then (xHt n L j).toInt8.toInt32 else lb j := by
  intro v
  induction v with
  | zero => intro j; rw [if_neg (by omega)]; rfl
  | succ v ih =>
    intro j
    show upd (lhB n L lb v) v _ j = _
    unfold upd
    by_cases e : j = v
    · rw [if_pos e, if_pos (show j < v + 1 by omega), e]
    · rw [if_neg e, ih]
      by_cases q : j < v
      · rw [if_pos q, if_pos (show j < v + 1 by omega)]
      · rw [if_neg q, if_neg (show ¬ j < v + 1 by omega)]
theorem top_bit {a c : Nat} (ha : a < 2 ^ 31) (hc : c < 2 ^ 31) (h : a < c) : ∃ i, c.testBit i = true ∧ a.testBit i = false ∧ ∀ j, i < j → a.testBit j = c.testBit j := by
  have big : ∀ j, 31 ≤ j → a.testBit j = c.testBit j := by
    intro j hj
    rw [Nat.testBit_lt_two_pow (Nat.lt_of_lt_of_le ha (Nat.pow_le_pow_right (by decide) hj)), Nat.testBit_lt_two_pow (Nat.lt_of_lt_of_le hc (Nat.pow_le_pow_right (by decide) hj))]
  obtain ⟨i0, hi0⟩ := Nat.exists_testBit_ne_of_ne (x := a) (y := c) (by omega)
  have i31 : i0 < 31 := by
    rcases Nat.lt_or_ge i0 31 with q | q
    · exact q
    · exact absurd (big i0 q) hi0
  obtain ⟨i, i1, i2, i3⟩ := fb_last (p := fun i => a.testBit i ≠ c.testBit i) (n := 31) ⟨i0, i31, hi0⟩
  have up : ∀ j, i < j → a.testBit j = c.testBit j := by
    intro j hj
    rcases Nat.lt_or_ge j 31 with q | q
    · exact Classical.byContradiction (fun r => i3 j hj q r)
    · exact big j q
  cases qc : c.testBit i
  · exfalso
    have qa : a.testBit i = true := by
      cases r : a.testBit i
      · exact absurd (by rw [r, qc]) i2
      · rfl
    have e : a / 2 ^ (i + 1) = c / 2 ^ (i + 1) := Nat.eq_of_testBit_eq (fun j => by
      rw [Nat.testBit_div_two_pow, Nat.testBit_div_two_pow]
      exact up _ (by omega))
    rw [Nat.testBit_eq_decide_div_mod_eq] at qa qc
    have qa := of_decide_eq_true qa
    have qc := of_decide_eq_false qc
    rw [Nat.pow_succ, ← Nat.div_div_eq_div_mul, ← Nat.div_div_eq_div_mul] at e
    have le : a / 2 ^ i ≤ c / 2 ^ i := Nat.div_le_div_right (by omega)
    omega
  · refine ⟨i, qc, ?_, up⟩
    cases r : a.testBit i
    · rfl
    · exact absurd (by rw [r, qc]) i2
theorem w_nat {x : Int32} (h : ∀ i, bt x i = true → i < 31) : x.toBitVec.toNat < 2 ^ 31 := by
  apply Nat.lt_pow_two_of_testBit
  intro i hi
  cases q : x.toBitVec.toNat.testBit i
  · rfl
  · have := h i q
    omega
/-- labels as naturals -/
def lbs (n : Nat) (lb : Nat → Int32) (α : Nat → Nat) : Prop := ∀ v, v < n → lb v = nI (α v) ∧ α v ≤ 9
theorem la_bt {n : Nat} {lb : Nat → Int32} {α : Nat → Nat} (hn : n ≤ 9) (hlb : lbs n lb α) {st : Int32} {i : Nat} : ∀ w, w ≤ n → (bt (laI lb st w) i = true ↔ ∃ a, a < w ∧ bt st a = true ∧ i = α a) := by
  intro w
  induction w with
  | zero =>
    intro _
    rw [laI, b_0]
    exact ⟨fun h => (by cases h), fun ⟨a, h, _⟩ => (by omega)⟩
  | succ w ih =>
    intro hw
    have ih := ih (by omega)
    have up : (∃ a, a < w ∧ bt st a = true ∧ i = α a) → ∃ a, a < w + 1 ∧ bt st a = true ∧ i = α a := fun ⟨a, h, r⟩ => ⟨a, by omega, r⟩
    rw [laI]
    by_cases c : tb st (nI w) = 0
    · rw [if_pos c, ih]
      refine ⟨up, fun ⟨a, h, r1, r2⟩ => ⟨a, ?_, r1, r2⟩⟩
      by_cases e : a = w
      · rw [e, (tb_0 (by omega)).mp c] at r1; cases r1
      · omega
    · obtain ⟨l1, l2⟩ := hlb w (by omega)
      have eb : bt ((1 : Int32) <<< (nI (α w) &&& 31)) i = true ↔ i = α w := b_bit (by omega)
      rw [if_neg c, l1, b_or', ih, eb]
      constructor
      · rintro (h | h)
        · exact up h
        · exact ⟨w, by omega, (tb_ne (by omega)).mp c, h⟩
      · rintro ⟨a, h, r1, r2⟩
        by_cases e : a = w
        · rw [e] at r2; exact Or.inr r2
        · exact Or.inl ⟨a, by omega, r1, r2⟩
theorem la_nat {n : Nat} {lb : Nat → Int32} {α : Nat → Nat} (hn : n ≤ 9) (hlb : lbs n lb α) (st : Int32) : ∃ a, a < 2 ^ 31 ∧ laI lb st n = nI a ∧ ∀ i, a.testBit i = true ↔ ∃ b, b < n ∧ bt st b = true ∧ i = α b := by
  refine ⟨(laI lb st n).toBitVec.toNat, ?_, (nI_toNat _).symm, fun i => la_bt hn hlb n (Nat.le_refl _)⟩
  apply w_nat
  intro i hi
  obtain ⟨a, a1, _, a3⟩ := (la_bt hn hlb n (Nat.le_refl _)).mp hi
  have := (hlb a a1).2
  omega
/-- a task that may get a label now -/
def lc (pt : Int32) (N : Nat → Int32) (α : Nat → Nat) (v : Nat) : Prop := bt pt v = true ∧ α v = 0 ∧ ∀ w, bt (N v) w = true → α w ≠ 0
theorem nI_0' {a : Nat} (h : a ≤ 9) : nI a = 0 ↔ a = 0 := nI_eq (b := 0) (by omega) (by decide)
theorem xLab_yes {n : Nat} {lb : Nat → Int32} {α : Nat → Nat} (hn : n ≤ 9) (hlb : lbs n lb α) {st : Int32} (h : ∀ w, bt st w = true → α w ≠ 0) : xLab n lb st = laI lb st n := by
  unfold xLab
  rw [if_pos]
  intro w hw
  cases q : bt st w
  · exact Or.inl ((tb_0 (by omega)).mpr q)
  · right
    rw [(hlb w hw).1, nI_0' (hlb w hw).2]
    exact h w q
theorem xLab_no {n : Nat} {lb : Nat → Int32} {α : Nat → Nat} (hn : n ≤ 9) (hlb : lbs n lb α) {st : Int32} (hst : ∀ w, bt st w = true → w < n) (h : ¬ ∀ w, bt st w = true → α w ≠ 0) : xLab n lb st = -1 := by
  unfold xLab
  rw [if_neg]
  intro hh
  apply h
  intro w hw
  have w1 := hst w hw
  rcases hh w w1 with q | q
  · exact absurd q ((tb_ne (by omega)).mpr hw)
  · rw [(hlb w w1).1, nI_0' (hlb w w1).2] at q
    exact q
theorem ll_spec {n : Nat} {pt : Int32} {N lb : Nat → Int32} {α : Nat → Nat} (hn : n ≤ 9) (hlb : lbs n lb α) (hN : ∀ v, v < n → ∀ w, bt (N v) w = true → w < n) : ∀ i, i ≤ n →
    ((llI n pt N lb i).1 < 0 ∧ ∀ v, v < i → ¬ lc pt N α v) ∨
    ∃ b, b < i ∧ (llI n pt N lb i).1 = nI b ∧ (llI n pt N lb i).2 = laI lb (N b) n ∧ lc pt N α b ∧ ∀ v, v < i → lc pt N α v → laI lb (N b) n ≤ laI lb (N v) n := by
  intro i
  induction i with
  | zero => intro _; exact Or.inl ⟨by show (-1 : Int32) < 0; decide, fun v hv => by omega⟩
  | succ i ih =>
    intro hi
    have ih := ih (by omega)
    have keep : ¬ lc pt N α i → (((llI n pt N lb i).1 < 0 ∧ ∀ v, v < i + 1 → ¬ lc pt N α v) ∨
        ∃ b, b < i + 1 ∧ (llI n pt N lb i).1 = nI b ∧ (llI n pt N lb i).2 = laI lb (N b) n ∧ lc pt N α b ∧ ∀ v, v < i + 1 → lc pt N α v → laI lb (N b) n ≤ laI lb (N v) n) := by
      intro hc
      rcases ih with ⟨a, b⟩ | ⟨j, j1, j2, j3, j4, j5⟩
      · refine Or.inl ⟨a, fun v hv => ?_⟩
        by_cases e : v = i
        · rw [e]; exact hc
        · exact b v (by omega)
      · refine Or.inr ⟨j, by omega, j2, j3, j4, fun v hv hcv => ?_⟩
        by_cases e : v = i
        · rw [e] at hcv; exact absurd hcv hc
        · exact j5 v (by omega) hcv
    rw [llI]
    by_cases c1 : tb pt (nI i) = 0
    · rw [if_pos c1]
      exact keep (fun h => (tb_ne (by omega)).mpr h.1 c1)
    · rw [if_neg c1]
      obtain ⟨l1, l2⟩ := hlb i (by omega)
      by_cases c2 : lb i = 0
      · rw [if_pos c2]
        rw [l1, nI_0' l2] at c2
        by_cases c3 : ∀ w, bt (N i) w = true → α w ≠ 0
        · rw [xLab_yes hn hlb c3]
          have hc : lc pt N α i := ⟨(tb_ne (by omega)).mp c1, c2, c3⟩
          obtain ⟨a, a1, a2, _⟩ := la_nat hn hlb (N i)
          have pos : ¬ laI lb (N i) n < 0 := by rw [a2]; exact nI_pos a1
          rw [if_neg pos]
          rcases ih with ⟨p, q⟩ | ⟨j, j1, j2, j3, j4, j5⟩
          · rw [if_pos p]
            refine Or.inr ⟨i, by omega, rfl, rfl, hc, fun v hv hcv => ?_⟩
            by_cases e : v = i
            · rw [e]; exact Int32.le_refl _
            · exact absurd hcv (q v (by omega))
          · rw [j2, if_neg (nI_pos (by omega)), j3]
            obtain ⟨b, b1, b2, _⟩ := la_nat hn hlb (N j)
            by_cases c4 : laI lb (N i) n < laI lb (N j) n
            · rw [if_pos c4]
              refine Or.inr ⟨i, by omega, rfl, rfl, hc, fun v hv hcv => ?_⟩
              by_cases e : v = i
              · rw [e]; exact Int32.le_refl _
              · exact Int32.le_trans (Int32.le_of_lt c4) (j5 v (by omega) hcv)
            · rw [if_neg c4]
              refine Or.inr ⟨j, by omega, j2, j3, j4, fun v hv hcv => ?_⟩
              by_cases e : v = i
              · rw [e, a2, b2]
                rw [a2, b2, nI_ltI a1 b1] at c4
                exact (nI_leI b1 a1).mpr (by omega)
              · exact j5 v (by omega) hcv
        · rw [xLab_no hn hlb (hN i (by omega)) c3, if_pos (by decide)]
          exact keep (fun h => c3 h.2.2)
      · rw [if_neg c2]
        exact keep (fun h => c2 (by rw [l1, h.2.1]; rfl))
/-- what holds after j numbers -/
def lInv (n : Nat) (P : Nat → Prop) (S : Nat → Nat → Prop) (j : Nat) (lb : Nat → Int32) (α : Nat → Nat) : Prop :=
  (∀ v, v < n → lb v = nI (α v) ∧ α v ≤ j) ∧ (∀ v, v < n → α v ≠ 0 → P v) ∧ (∀ u v, u < n → v < n → α u = α v → α u ≠ 0 → u = v) ∧
  (∀ v, v < n → α v ≠ 0 → ∀ w, S v w → α w ≠ 0 ∧ α w < α v) ∧
  (∀ u v, u < n → v < n → α u ≠ 0 → P v → (α v = 0 ∨ α u < α v) → (∃ w, S v w ∧ (α w = 0 ∨ α u ≤ α w)) ∨
    ((∀ w, S v w → α w ≠ 0) ∧ ((∀ w, S u w ↔ S v w) ∨ ∃ x, S v x ∧ ¬ S u x ∧ ∀ y, P y → α x < α y → (S u y ↔ S v y)))) ∧
  ((∀ v, v < n → P v → α v ≠ 0) ∨ j ≤ cn (fun v => v < n ∧ α v ≠ 0) 9)
set_option maxHeartbeats 4000000 in
theorem lInv_step {n : Nat} {pt : Int32} {N lb : Nat → Int32} {α : Nat → Nat} {j : Nat} (hn : n ≤ 9) (hj : j < 9) (hN : ∀ v, v < n → ∀ w, bt (N v) w = true → w < n) (hNi : ∀ v, v < n → ¬ bt (N v) v = true) (hpt : ∀ v, bt pt v = true → v < n)
    (hav : ∀ α : Nat → Nat, (∃ v, bt pt v = true ∧ α v = 0) → ∃ v, lc pt N α v)
    (h : lInv n (fun v => bt pt v = true) (fun v w => bt (N v) w = true) j lb α) :
    ∃ α', lInv n (fun v => bt pt v = true) (fun v w => bt (N v) w = true) (j + 1) (if (llI n pt N lb n).1 < 0 then lb else upd lb (llI n pt N lb n).1.toNatClampNeg (nI (j + 1)).toInt8.toInt32) α' := by
  obtain ⟨ia, ib, ic, id1, ie, iF⟩ := h
  have hlb : lbs n lb α := fun v hv => ⟨(ia v hv).1, by
    have := (ia v hv).2
    omega⟩
  rcases ll_spec hn hlb hN n (Nat.le_refl _) (pt := pt) with ⟨a, b⟩ | ⟨b, b1, b2, b3, b4, b5⟩
  · rw [if_pos a]
    refine ⟨α, fun v hv => ⟨(ia v hv).1, by
      have := (ia v hv).2
      omega⟩, ib, ic, id1, ie, Or.inl ?_⟩
    intro v hv pv e
    obtain ⟨w, hw⟩ := hav α ⟨v, pv, e⟩
    exact b w (hpt w hw.1) hw
  · rw [b2, if_neg (nI_pos (by omega)), nI_clamp (by omega), nb_byte (j + 1) (by omega)]
    obtain ⟨pb1, ab, sb⟩ := b4
    refine ⟨fun v => if v = b then j + 1 else α v, ?_, ?_, ?_, ?_, ?_, ?_⟩
    · intro v hv
      show upd lb b (nI (j + 1)) v = nI (if v = b then j + 1 else α v) ∧ (if v = b then j + 1 else α v) ≤ j + 1
      unfold upd
      by_cases e : v = b
      · rw [if_pos e, if_pos e]; exact ⟨rfl, Nat.le_refl _⟩
      · rw [if_neg e, if_neg e]
        exact ⟨(ia v hv).1, by
          have := (ia v hv).2
          omega⟩
    · intro v hv q
      have q : (if v = b then j + 1 else α v) ≠ 0 := q
      by_cases e : v = b
      · rw [e]; exact pb1
      · rw [if_neg e] at q
        exact ib v hv q
    · intro u v hu hv q1 q2
      have q1 : (if u = b then j + 1 else α u) = (if v = b then j + 1 else α v) := q1
      have q2 : (if u = b then j + 1 else α u) ≠ 0 := q2
      have a1 := (ia u hu).2
      have a2 := (ia v hv).2
      by_cases e1 : u = b
      · by_cases e2 : v = b
        · omega
        · rw [if_pos e1, if_neg e2] at q1
          omega
      · by_cases e2 : v = b
        · rw [if_neg e1, if_pos e2] at q1
          omega
        · rw [if_neg e1, if_neg e2] at q1
          rw [if_neg e1] at q2
          exact ic u v hu hv q1 q2
    · intro v hv q w hw
      have q : (if v = b then j + 1 else α v) ≠ 0 := q
      show (if w = b then j + 1 else α w) ≠ 0 ∧ (if w = b then j + 1 else α w) < (if v = b then j + 1 else α v)
      have wn := hN v hv w hw
      have a2 := (ia w wn).2
      by_cases e1 : v = b
      · rw [e1] at hw
        have s := sb w hw
        have ew : w ≠ b := fun e => s (by rw [e]; exact ab)
        rw [if_neg ew, if_pos e1]
        exact ⟨s, by omega⟩
      · rw [if_neg e1] at q ⊢
        obtain ⟨d1, d2⟩ := id1 v hv q w hw
        have ew : w ≠ b := fun e => d1 (by rw [e]; exact ab)
        rw [if_neg ew]
        exact ⟨d1, d2⟩
    · intro u v hu hv q1 pv q2
      have q1 : (if u = b then j + 1 else α u) ≠ 0 := q1
      have q2 : (if v = b then j + 1 else α v) = 0 ∨ (if u = b then j + 1 else α u) < (if v = b then j + 1 else α v) := q2
      show (∃ w, bt (N v) w = true ∧ ((if w = b then j + 1 else α w) = 0 ∨ (if u = b then j + 1 else α u) ≤ (if w = b then j + 1 else α w))) ∨
        ((∀ w, bt (N v) w = true → (if w = b then j + 1 else α w) ≠ 0) ∧ ((∀ w, bt (N u) w = true ↔ bt (N v) w = true) ∨ ∃ x, bt (N v) x = true ∧ ¬ bt (N u) x = true ∧ ∀ y, bt pt y = true → (if x = b then j + 1 else α x) < (if y = b then j + 1 else α y) → (bt (N u) y = true ↔ bt (N v) y = true)))
      have av := (ia v hv).2
      have au := (ia u hu).2
      by_cases e1 : u = b
      · have ev : v ≠ b := fun e => by
          rw [if_pos e1, if_pos e] at q2
          omega
        rw [if_neg ev, if_pos e1] at q2
        have v0 : α v = 0 := by omega
        rw [if_pos e1]
        by_cases all : ∀ w, bt (N v) w = true → α w ≠ 0
        · right
          have notb : ∀ w, bt (N v) w = true → w ≠ b := fun w hw e => all w hw (by rw [e]; exact ab)
          refine ⟨fun w hw => by rw [if_neg (notb w hw)]; exact all w hw, ?_⟩
          have le := b5 v hv ⟨pv, v0, all⟩
          obtain ⟨x1, x2, x3, x4⟩ := la_nat hn hlb (N b)
          obtain ⟨y1, y2, y3, y4⟩ := la_nat hn hlb (N v)
          rw [x3, y3, nI_leI x2 y2] at le
          have back : ∀ (s : Nat), s < n → ∀ w, w < n → α w ≠ 0 → (∃ c, c < n ∧ bt (N s) c = true ∧ α w = α c) → bt (N s) w = true := by
            intro s hs w hw w0 ⟨c, c1, c2, c3⟩
            have := ic w c hw c1 c3 w0
            rw [this]
            exact c2
          rw [e1]
          rcases Nat.lt_or_ge x1 y1 with q | q
          · right
            obtain ⟨i, i1, i2, i3⟩ := top_bit x2 y2 q
            obtain ⟨x, xn, xs, xe⟩ := (y4 i).mp i1
            have x0 : α x ≠ 0 := all x xs
            refine ⟨x, xs, fun r => ?_, fun y py hy => ?_⟩
            · rw [(x4 i).mpr ⟨x, xn, r, xe⟩] at i2
              cases i2
            · rw [if_neg (notb x xs)] at hy
              by_cases ey : y = b
              · rw [ey]
                exact ⟨fun r => absurd r (hNi b b1), fun r => absurd rfl (notb b r)⟩
              · rw [if_neg ey] at hy
                have yn := hpt y py
                have e := i3 (α y) (by omega)
                constructor
                · intro r
                  exact back v hv y yn (by omega) ((y4 _).mp (by rw [← e]; exact (x4 _).mpr ⟨y, yn, r, rfl⟩))
                · intro r
                  exact back b b1 y yn (by omega) ((x4 _).mp (by rw [e]; exact (y4 _).mpr ⟨y, yn, r, rfl⟩))
          · left
            have exy : x1 = y1 := by omega
            intro w
            constructor
            · intro r
              have wn := hN b b1 w r
              exact back v hv w wn (sb w r) ((y4 _).mp (by rw [← exy]; exact (x4 _).mpr ⟨w, wn, r, rfl⟩))
            · intro r
              have wn := hN v hv w r
              exact back b b1 w wn (all w r) ((x4 _).mp (by rw [exy]; exact (y4 _).mpr ⟨w, wn, r, rfl⟩))
        · left
          obtain ⟨w, w1, w2⟩ : ∃ w, bt (N v) w = true ∧ α w = 0 := by
            apply Classical.byContradiction
            intro hn1
            exact all (fun w hw e => hn1 ⟨w, hw, e⟩)
          refine ⟨w, w1, ?_⟩
          by_cases ew : w = b
          · rw [if_pos ew]; exact Or.inr (Nat.le_refl _)
          · rw [if_neg ew]; exact Or.inl w2
      · rw [if_neg e1] at q1 q2
        rw [if_neg e1]
        have old := ie u v hu hv q1 pv (by
          by_cases ev : v = b
          · rw [ev]; exact Or.inl ab
          · rw [if_neg ev] at q2
            exact q2)
        rcases old with ⟨w, w1, w2⟩ | ⟨o1, o2⟩
        · left
          refine ⟨w, w1, ?_⟩
          by_cases ew : w = b
          · rw [if_pos ew]; exact Or.inr (by omega)
          · rw [if_neg ew]; exact w2
        · right
          have notb : ∀ w, bt (N v) w = true → w ≠ b := fun w hw e => o1 w hw (by rw [e]; exact ab)
          refine ⟨fun w hw => by rw [if_neg (notb w hw)]; exact o1 w hw, ?_⟩
          rcases o2 with o2 | ⟨x, x1, x2, x3⟩
          · exact Or.inl o2
          · refine Or.inr ⟨x, x1, x2, fun y py hy => ?_⟩
            rw [if_neg (notb x x1)] at hy
            by_cases ey : y = b
            · rw [ey]
              exact ⟨fun r => absurd ab (id1 u hu q1 b r).1, fun r => absurd rfl (notb b r)⟩
            · rw [if_neg ey] at hy
              exact x3 y py hy
    · right
      have old := iF.resolve_left (fun q => q b b1 pb1 ab)
      have : cn (fun v => v < n ∧ α v ≠ 0) 9 < cn (fun v => v < n ∧ (if v = b then j + 1 else α v) ≠ 0) 9 := cn_lt (w := b) (fun x _ hx => ⟨hx.1, by
        by_cases e : x = b
        · rw [if_pos e]; omega
        · rw [if_neg e]; exact hx.2⟩) (by omega) ⟨b1, by rw [if_pos rfl]; omega⟩ (fun q => q.2 ab)
      have this : cn (fun v => v < n ∧ α v ≠ 0) 9 < cn (fun v => v < n ∧ (fun v => if v = b then j + 1 else α v) v ≠ 0) 9 := this
      omega
end
section
/-! the lengths that both classes answer are the same -/
theorem imp_bt {n : Nat} (hn : n ≤ 9) {L : Nat → Int32} {pt : Int32} (hpt : ∀ v, bt pt v = true → v < n) {u w : Nat} : bt (xImm n L (L u &&& pt) &&& pt) w = true ↔ sq_im (fun x => bt pt x = true) (fun u v => bt (L u) v = true) u w := by
  have e := im_bt (L := L) (af := L u &&& pt) (v := w) n hn
  unfold sq_im
  rw [b_and']
  constructor
  · rintro ⟨p, q⟩
    obtain ⟨r1, r2⟩ := e.mp p
    rw [b_and'] at r1
    exact ⟨q, r1.1, fun y py l => r2 y (hpt y py) (b_and'.mpr ⟨l, py⟩)⟩
  · rintro ⟨p, q, r⟩
    refine ⟨e.mpr ⟨b_and'.mpr ⟨q, p⟩, fun a ha h => ?_⟩, p⟩
    rw [b_and'] at h
    exact r a h.2 h.1
set_option maxHeartbeats 4000000 in
theorem lbl_main {n : Nat} {F L : Nat → Int32} (h : Inv1 n F L) {pt : Int32} (hpt : ∀ v, bt pt v = true → v < n) (N lb : Nat → Int32) :
    ∃ α : Nat → Nat, (∀ v, bt pt v = true → xLbl n L pt N lb v = nI (α v) ∧ α v ≤ 9) ∧ (∀ u v, bt pt u = true → bt pt v = true → α u = α v → u = v) ∧
      (∀ u v, bt pt u = true → bt pt v = true → bt (L u) v = true → α v < α u) ∧
      (∀ u v, bt pt u = true → bt pt v = true → α u < α v → sq_lex (fun x => bt pt x = true) (fun u v => bt (L u) v = true) α u v) := by
  have h1 := h.1
  have tr := h.2.2.1.2.2.1
  have cl : ∀ u v, u < n → bt (L u) v = true → cn (fun w => bt (L v) w = true) n < cn (fun w => bt (L u) w = true) n := by
    intro u v hu huv
    have hv := h.2.2.1.1 u hu v huv
    exact cn_lt (w := v) (fun x _ hx => tr u v x hu huv hx) hv huv (fun e => by
      rw [h.2.2.2 v hv] at e; cases e)
  have NS : ∀ v, v < n → ∀ w, bt (llN n L pt N n v) w = true ↔ sq_im (fun x => bt pt x = true) (fun u v => bt (L u) v = true) v w := by
    intro v hv w
    rw [llN_at, if_pos hv]
    exact imp_bt h1 hpt
  have hN : ∀ v, v < n → ∀ w, bt (llN n L pt N n v) w = true → w < n := fun v hv w hw => hpt w ((NS v hv w).mp hw).1
  have hNi : ∀ v, v < n → ¬ bt (llN n L pt N n v) v = true := fun v hv q => by
    have q2 : bt (L v) v = true := ((NS v hv v).mp q).2.1
    rw [h.2.2.2 v hv] at q2
    cases q2
  have hav : ∀ α : Nat → Nat, (∃ v, bt pt v = true ∧ α v = 0) → ∃ v, lc pt (llN n L pt N n) α v := by
    intro α hx
    obtain ⟨v, ⟨v1, v2⟩, v3⟩ := ex_min (p := fun v => bt pt v = true ∧ α v = 0) (fun v => cn (fun w => bt (L v) w = true) n) hx
    refine ⟨v, v1, v2, fun w hw e => ?_⟩
    obtain ⟨w1, w2, _⟩ := (NS v (hpt v v1) w).mp hw
    have a : cn (fun x => bt (L v) x = true) n ≤ cn (fun x => bt (L w) x = true) n := v3 w ⟨w1, e⟩
    have b := cl v w (hpt v v1) w2
    omega
  have all : ∀ j, j ≤ 9 → ∃ α, lInv n (fun v => bt pt v = true) (fun v w => bt (llN n L pt N n v) w = true) j (llO n pt (llN n L pt N n) (llB lb n) j) α := by
    intro j
    induction j with
    | zero =>
      intro _
      refine ⟨fun _ => 0, fun v hv => ?_, fun v _ q => absurd rfl q, fun u v _ _ _ q => absurd rfl q, fun v _ q => absurd rfl q, fun u v _ _ q => absurd rfl q, Or.inr (Nat.zero_le _)⟩
      refine ⟨?_, Nat.le_refl _⟩
      show llB lb n v = nI 0
      rw [llB_at, if_pos hv]
      rfl
    | succ j ih =>
      intro hj
      obtain ⟨α, hα⟩ := ih (by omega)
      exact lInv_step h1 (by omega) hN hNi hpt hav hα
  obtain ⟨α, ia, ib, ic, id1, ie, iF⟩ := all 9 (Nat.le_refl _)
  have lab : ∀ v, bt pt v = true → α v ≠ 0 := by
    intro v pv
    rcases iF with q | q
    · exact q v (hpt v pv) pv
    · have := hpt v pv
      exact (cn_full q v (by omega)).2
  have mono : ∀ b u v, cn (fun w => bt (L u) w = true) n < b → bt pt u = true → bt pt v = true → bt (L u) v = true → α v < α u := by
    intro b
    induction b with
    | zero => intro u v hb; omega
    | succ b ih =>
      intro u v hb pu pv huv
      have un := hpt u pu
      obtain ⟨z, ⟨z1, z2, z3⟩, z4⟩ := ex_max (p := fun z => bt pt z = true ∧ bt (L u) z = true ∧ (z = v ∨ bt (L z) v = true)) (fun z => cn (fun w => bt (L z) w = true) n) n (fun _ _ => fb_ct_le _ n) ⟨v, pv, huv, Or.inl rfl⟩
      have imz : sq_im (fun x => bt pt x = true) (fun u v => bt (L u) v = true) u z := by
        refine ⟨z1, z2, fun y py l1 l2 => ?_⟩
        have yn := hpt y py
        have a : cn (fun w => bt (L y) w = true) n ≤ cn (fun w => bt (L z) w = true) n := z4 y ⟨py, l1, Or.inr (by
          rcases z3 with e | e
          · rw [← e]; exact l2
          · exact tr y z v yn l2 e)⟩
        have b := cl y z yn l2
        omega
      have d := (id1 u un (lab u pu) z ((NS u un z).mpr imz)).2
      rcases z3 with e | e
      · rw [← e]; exact d
      · have c := cl u z un z2
        have := ih z v (by omega) z1 pv e
        omega
  refine ⟨α, fun v pv => ia v (hpt v pv), fun u v pu pv e => ic u v (hpt u pu) (hpt v pv) e (lab u pu), fun u v pu pv huv => mono _ u v (Nat.lt_succ_self _) pu pv huv, ?_⟩
  intro u v pu pv huv
  have un := hpt u pu
  have vn := hpt v pv
  rcases ie u v un vn (lab u pu) pv (Or.inr huv) with ⟨w, w1, w2⟩ | ⟨o1, o2⟩
  · right
    obtain ⟨x, x1, x2⟩ := ex_max (p := fun w => bt (llN n L pt N n v) w = true) α 9 (fun w hw => (ia w (hN v vn w hw)).2) ⟨w, w1⟩
    have xw := x2 w w1
    have w0 := lab w ((NS v vn w).mp w1).1
    have small : ∀ y, sq_im (fun x => bt pt x = true) (fun u v => bt (L u) v = true) u y → α y < α u := fun y hy => (id1 u un (lab u pu) y ((NS u un y).mpr hy)).2
    refine ⟨x, (NS v vn x).mp x1, fun q => ?_, fun y py hy => ⟨fun q => ?_, fun q => ?_⟩⟩
    · have := small x q
      omega
    · have := small y q
      omega
    · have := x2 y ((NS v vn y).mpr q)
      omega
  · rcases o2 with o2 | ⟨x, x1, x2, x3⟩
    · left
      intro w
      rw [← NS u un, ← NS v vn]
      exact o2 w
    · right
      refine ⟨x, (NS v vn x).mp x1, fun q => x2 ((NS u un x).mpr q), fun y py hy => ?_⟩
      rw [← NS u un, ← NS v vn]
      exact x3 y py hy
theorem nt_bits {n t : Nat} (hn : n ≤ 9) (ht : t < 2 ^ n) : ∀ x, bt (nI t) x = true ↔ t.testBit x = true := by
  have t9 : t < 512 := Nat.lt_of_lt_of_le ht (Nat.pow_le_pow_right (n := 2) (by decide) hn)
  intro x
  rw [← bt_N, pk_tn (by omega)]
/-- two in a slot -/
theorem len_two {n t : Nat} {F F1 L N lb sl : Nat → Int32} (h : Inv1 n F1 L) (ht : t < 2 ^ n) (hF1 : ∀ u, u < n → t.testBit u = true → F1 u = F u) (hF0 : ∀ u, u < n → t.testBit u = false → F1 u = 0) :
    xLen n L (xLbl n L (nI t) N lb) (nI t) 2 = yLst 512 n F (nI t) (nI 2) sl t := by
  have h1 := h.1
  have bits := nt_bits h1 ht
  have P1 : (fun x => bt (nI t) x = true) = (fun x => t.testBit x = true) := funext (fun x => propext (bits x))
  obtain ⟨α, a1, a2, a3, a4⟩ := lbl_main h (pt := nI t) (fun v hv => bit_lt ht ((bits v).mp hv)) N lb
  rw [P1] at a4
  refine same_len h (by decide) (by decide) ht hF1 hF0 (α := α) (fun v hv => ?_) ?_
  · obtain ⟨p, q⟩ := a1 v ((bits v).mpr hv)
    exact ⟨p, by omega⟩
  · intro T k τ σ hg hs
    exact cg_opt (B := 9) (fun x px => by
      have := bit_lt ht px
      omega) (fun x y z px _ _ l1 l2 => h.2.2.1.2.2.1 x y z (bit_lt ht px) l1 l2) (fun x px => (a1 x ((bits x).mpr px)).2) (fun x y px py e => a2 x y ((bits x).mpr px) ((bits y).mpr py) e)
      (fun x y px py l => a3 x y ((bits x).mpr px) ((bits y).mpr py) l) (fun u v pu pv l => a4 u v ((bits u).mpr pu) ((bits v).mpr pv) l) hg hs
theorem all_bit {n x : Nat} : (2 ^ n - 1).testBit x = true ↔ x < n := by
  rw [Nat.testBit_two_pow_sub_one]
  exact decide_eq_true_iff
theorem all_lt (n : Nat) : 2 ^ n - 1 < 2 ^ n := by
  have := Nat.two_pow_pos n
  omega
/-- trees -/
theorem len_tree {n m : Nat} {F L lb sl : Nat → Int32} (h : Inv1 n F L) (ht : ¬ xIT n L = 0) (hm : 1 ≤ m) (hm9 : m ≤ 9) :
    xLen n L (lhB n L lb n) (nI (2 ^ n - 1)) m = yLst 512 n F (nI (2 ^ n - 1)) (nI m) sl (2 ^ n - 1) := by
  have h1 := h.1
  refine same_len h hm hm9 (all_lt n) (fun _ _ _ => rfl) (fun u hu q => ?_) (α := lev n L) (fun v hv => ?_) ?_
  · rw [all_bit.mpr hu] at q; cases q
  · have hv := all_bit.mp hv
    have := lev_le h hv
    rw [lhB_at, if_pos hv, xHt_lev h hv, nb_byte _ (by omega)]
    exact ⟨rfl, by omega⟩
  · intro T k τ σ hg hs
    refine hu_opt (fun x px => ?_) (fun x px => lev_pos h (all_bit.mp px)) (fun x y px py l => lev_lt h (all_bit.mp px) l) (fun x px q => ?_) (fun y x x' py i1 i2 => ?_) hg hs
    · have := all_bit.mp px
      omega
    · obtain ⟨v, v1, v2, v3⟩ := lev_next h (all_bit.mp px) q
      exact ⟨v, all_bit.mpr v1, v2, v3⟩
    · exact tree_one h ht (all_bit.mp py) ⟨i1.2.1, fun w hw l => i1.2.2 w (all_bit.mpr hw) l⟩ ⟨i2.2.1, fun w hw l => i2.2.2 w (all_bit.mpr hw) l⟩
theorem cn_all {n : Nat} (hn : n ≤ 9) : cn (fun x => (2 ^ n - 1).testBit x = true) 9 = n := by
  rw [cn_ext hn (fun k hk => all_bit.mp hk)]
  exact fb_ct_all.mpr (fun k hk => pb_iff.mpr (all_bit.mpr hk))
/-- one in a slot -/
theorem len_one {n : Nat} {F L sl : Nat → Int32} (h : Inv1 n F L) : nI n = yLst 512 n F (nI (2 ^ n - 1)) (nI 1) sl (2 ^ n - 1) := by
  have h1 := h.1
  have e : xLen n L (fun _ => nI 0) (nI (2 ^ n - 1)) 1 = yLst 512 n F (nI (2 ^ n - 1)) (nI 1) sl (2 ^ n - 1) := by
    refine same_len h (by decide) (by decide) (all_lt n) (fun _ _ _ => rfl) (fun u hu q => ?_) (α := fun _ => 0) (fun v hv => ⟨rfl, by decide⟩) ?_
    · rw [all_bit.mpr hu] at q; cases q
    · intro T k τ σ hg hs
      have a := one_len (fun x px => by
        have := all_bit.mp px
        omega) hg
      have b := one_le hs
      omega
  rw [← e]
  have bits := nt_bits h1 (all_lt n)
  have P1 : (fun x => bt (nI (2 ^ n - 1)) x = true) = (fun x => (2 ^ n - 1).testBit x = true) := funext (fun x => propext (bits x))
  obtain ⟨T, f, e1, e2, e3, e4⟩ := len_main h (lb := fun _ => nI 0) (α := fun _ => 0) (pt := nI (2 ^ n - 1)) (mm := 1) (by decide) (fun v hv => bit_lt (all_lt n) ((bits v).mp hv)) (fun v hv => ⟨rfl, by decide⟩)
  have t9 : 2 ^ n - 1 < 512 := pow_512 h1
  rw [P1, pk_tn (by omega)] at e3
  rw [P1] at e4
  obtain ⟨τ, hτ⟩ := rn_greedy (fun x => Iff.rfl) e3 e4
  have a := one_len (fun x px => by
    have := all_bit.mp px
    omega) hτ
  have b := one_le hτ.1
  rw [cn_all h1] at a b
  rw [e1, show T = n by omega]
theorem wo_bit {n k x : Nat} (hn : n ≤ 9) (hk : k < n) : (2 ^ n - 1 - 2 ^ k).testBit x = true ↔ (x < n ∧ x ≠ k) := by
  have lt : 2 ^ n - 1 - 2 ^ k < 2 ^ n := Nat.lt_of_le_of_lt (Nat.sub_le _ _) (all_lt n)
  rw [← nt_bits hn lt, ← xWo_nat hn hk]
  rcases Nat.lt_or_ge x 32 with q | q
  · rw [show bt (((1 : Int32) <<< (nI n &&& 31)) - 1 &&& (((1 : Int32) <<< (nI k &&& 31)) ^^^ (-1))) x = (decide (x < n) && !decide (x = k)) from bt_wo n hn k hk x q]
    simp
  · rw [b_big q]
    exact ⟨fun h => (by cases h), fun h => (by omega)⟩
theorem len_wo {n k : Nat} {F L L0 N lb sl : Nat → Int32} (h : Inv1 n F L0) (hk : k < n) :
    xLen n (xClose n (upd F k 0) L) (xLbl n (xClose n (upd F k 0) L) (xWo n k) N lb) (xWo n k) 2 = yLst 512 n F (nI (2 ^ n - 1 - 2 ^ k)) (nI 2) sl (2 ^ n - 1 - 2 ^ k) := by
  have h1 := h.1
  have e : xWo n k = nI (2 ^ n - 1 - 2 ^ k) := xWo_nat h1 hk
  have inv : Inv1 n (upd F k 0) (xClose n (upd F k 0) L) := op_close (op_wo (k := k) h)
  rw [e]
  refine len_two inv (Nat.lt_of_le_of_lt (Nat.sub_le _ _) (all_lt n)) (fun u hu q => ?_) (fun u hu q => ?_)
  · unfold upd
    rw [if_neg ((wo_bit h1 hk).mp q).2]
  · unfold upd
    by_cases c : u = k
    · rw [if_pos c]
    · rw [(wo_bit h1 hk).mpr ⟨hu, c⟩] at q; cases q
end
section
/-! the two classes side by side: every method answers the same, and they go on alike -/
def JJ (u1 : S1) (u2 : S2) : Prop := Inv1 u1.1 u1.2.1 u1.2.2.1 ∧ u2.1 = u1.1 ∧ ∀ w, w < u1.1 → u1.2.1 w = u2.2.1 w
def PR (l : Launch) (g1 g2 : Geo) (y1 : MethodName) (c1 : ByteArray) (n1 d1 : Nat) (y2 : MethodName) (c2 : ByteArray) (n2 d2 : Nat) (ty : FieldType) (As : List Value) (u1 : S1) (u2 : S2) : Prop :=
  ∃ (r : Int32) (u1' : S1) (u2' : S2), JJ u1' u2' ∧ MI (x1 g1) l y1 c1 n1 ty d1 (.ref (g1.2.1 0) :: As) u1 (fun r' u' => r' = r ∧ u' = u1') ∧ MI (x2 g2) l y2 c2 n2 ty d2 (.ref (g2.2.1 0) :: As) u2 (fun r' u' => r' = r ∧ u' = u2')
theorem Inv1_F {n : Nat} {F F' L : Nat → Int32} (h : Inv1 n F L) (hF : ∀ w, w < n → F w = F' w) : Inv1 n F' L := by
  obtain ⟨h1, h2, h3, h4⟩ := h
  refine ⟨h1, fun u hu v hv => h2 u hu v (by rw [hF u hu]; exact hv), ⟨h3.1, fun u v hu hv => h3.2.1 u v hu (by rw [hF u hu]; exact hv), h3.2.2.1, fun R r1 r2 u v hu hv => h3.2.2.2 R (fun a b ha hab => r1 a b ha (by rw [← hF a ha]; exact hab)) r2 u v hu hv⟩, h4⟩
theorem find_same {n : Nat} {F F' L L' : Nat → Int32} (h : Inv1 n F L) (hF : ∀ w, w < n → F w = F' w) : ∀ u, u < n → L u = yFind n F' L' u :=
  TC_same h.2.2.1 (find_TC h.1 (Inv1_F h hF).2.1) hF
section PRS
variable {l : Launch} {g1 g2 : Geo} {u1 : S1} {u2 : S2}
theorem pr_addTask (h : JJ u1 u2) : PR l g1 g2 yX1_addTask cX1_addTask 1 1 yX2_addTask cX2_addTask 1 1 .int [] u1 u2 := by
  obtain ⟨n, F, L, pt, N, lb⟩ := u1
  obtain ⟨n', F', L', sl⟩ := u2
  have hI : Inv1 n F L := h.1
  have e : n' = n := h.2.1
  have hF : ∀ w, w < n → F w = F' w := h.2.2
  subst e
  have hn := hI.1
  rcases Nat.lt_or_ge n' 9 with q | q
  · refine ⟨nI n', (n' + 1, upd F n' 0, xClose (n' + 1) (upd F n' 0) L, pt, N, lb), (n' + 1, upd F' n' 0, L', sl), ⟨op_add hI q, rfl, fun w hw => ?_⟩, mX1_addTask l g1 n' F L pt N lb hn q, mX2_addTask l g2 n' F' L' sl hn q⟩
    show upd F n' 0 w = upd F' n' 0 w
    have hw : w < n' + 1 := hw
    unfold upd
    by_cases e : w = n'
    · rw [if_pos e, if_pos e]
    · rw [if_neg e, if_neg e]
      exact hF w (by omega)
  · exact ⟨-3, (n', F, L, pt, N, lb), (n', F', L', sl), ⟨hI, rfl, hF⟩, mX1_addTask_full l g1 n' F L pt N lb hn q, mX2_addTask_full l g2 n' F' L' sl hn q⟩
theorem pr_removeTask (h : JJ u1 u2) (v : Int32) : PR l g1 g2 yX1_removeTask cX1_removeTask 4 1 yX2_removeTask cX2_removeTask 3 1 .int [.int v] u1 u2 := by
  obtain ⟨n, F, L, pt, N, lb⟩ := u1
  obtain ⟨n', F', L', sl⟩ := u2
  have hI : Inv1 n F L := h.1
  have e : n' = n := h.2.1
  have hF : ∀ w, w < n → F w = F' w := h.2.2
  subst e
  have hn := hI.1
  have bad : v < 0 ∨ nI n' ≤ v → PR l g1 g2 yX1_removeTask cX1_removeTask 4 1 yX2_removeTask cX2_removeTask 3 1 .int [.int v] (n', F, L, pt, N, lb) (n', F', L', sl) := fun q =>
    ⟨-1, (n', F, L, pt, N, lb), (n', F', L', sl), ⟨hI, rfl, hF⟩, mX1_removeTask_bad l g1 n' F L pt N lb hn v q, mX2_removeTask_bad l g2 n' F' L' sl hn v q⟩
  rcases pk_ix v (n := n') (by omega) with q | q | ⟨k, hk, rfl⟩
  · exact bad (Or.inl q)
  · exact bad (Or.inr q)
  · exact ⟨nI (n' - 1), (n' - 1, xRem n' F k, xClose (n' - 1) (xRem n' F k) L, pt, N, lb), (n' - 1, yRem n' F' k, L', sl), ⟨op_rem hI hk, rfl, op_rem_same hn hI.2.1 hk hF⟩, mX1_removeTask l g1 n' F L pt N lb hn k hk, mX2_removeTask l g2 n' F' L' sl hn k hk⟩
theorem ao_same {n : Nat} {F L F' Lf sl N lb : Nat → Int32} {pt : Int32} {k j : Nat} (hI : Inv1 n F L) (hF : ∀ w, w < n → F w = F' w) (hL : ∀ w, w < n → L w = Lf w) (hk : k < n) (hj : j < n) :
    (yAO n F' Lf sl k j).1 = (xAO n F L pt N lb k j).1 ∧ JJ (xAO n F L pt N lb k j).2 (yAO n F' Lf sl k j).2 := by
  have hn := hI.1
  unfold xAO yAO
  rw [← hL j hj, ← hF k hk]
  by_cases e : k = j
  · rw [if_pos (by rw [e]), if_pos (by rw [e])]
    exact ⟨rfl, hI, rfl, hF⟩
  · have e2 : ¬ nI k = nI j := fun q => e ((nI_eq (by omega) (by omega)).mp q)
    rw [if_neg e2, if_neg e2]
    cases q : bt (L j) k
    · rw [if_pos ((tb_0 (by omega)).mpr q), if_pos ((xin_0 (by omega)).mpr q)]
      cases r : bt (F k) j
      · rw [if_pos ((tb_0 (by omega)).mpr r), if_pos ((xin_0 (by omega)).mpr r)]
        refine ⟨rfl, op_ao hI hk hj e q, rfl, fun w hw => ?_⟩
        show upd F k (F k ||| xBit j) w = upd F' k (F k ||| xBit j) w
        unfold upd
        by_cases c : w = k
        · rw [if_pos c, if_pos c]
        · rw [if_neg c, if_neg c]
          exact hF w hw
      · rw [if_neg ((tb_ne (by omega)).mpr r), if_neg ((xin_ne (by omega)).mpr r)]
        exact ⟨rfl, hI, rfl, hF⟩
    · rw [if_neg ((tb_ne (by omega)).mpr q), if_neg ((xin_ne (by omega)).mpr q)]
      exact ⟨rfl, hI, rfl, hF⟩
theorem ro_same {n : Nat} {F L F' L' sl N lb : Nat → Int32} {pt : Int32} {k j : Nat} (hI : Inv1 n F L) (hF : ∀ w, w < n → F w = F' w) (hk : k < n) (hj : j < n) :
    (yRO n F' L' sl k j).1 = (xRO n F L pt N lb k j).1 ∧ JJ (xRO n F L pt N lb k j).2 (yRO n F' L' sl k j).2 := by
  have hn := hI.1
  unfold xRO yRO
  rw [← hF k hk]
  cases r : bt (F k) j
  · rw [if_pos ((tb_0 (by omega)).mpr r), if_pos ((xin_0 (by omega)).mpr r)]
    exact ⟨rfl, hI, rfl, hF⟩
  · rw [if_neg ((tb_ne (by omega)).mpr r), if_neg ((xin_ne (by omega)).mpr r)]
    refine ⟨rfl, op_ro hI, rfl, fun w hw => ?_⟩
    show upd F k (F k &&& (xBit j ^^^ (-1))) w = upd F' k (F k &&& (xBit j ^^^ (-1))) w
    unfold upd
    by_cases c : w = k
    · rw [if_pos c, if_pos c]
    · rw [if_neg c, if_neg c]
      exact hF w hw
theorem pr_addOrder (h : JJ u1 u2) (v w : Int32) : PR l g1 g2 yX1_addOrder cX1_addOrder 5 1 yX2_addOrder cX2_addOrder 3 2 .int [.int v, .int w] u1 u2 := by
  obtain ⟨n, F, L, pt, N, lb⟩ := u1
  obtain ⟨n', F', L', sl⟩ := u2
  have hI : Inv1 n F L := h.1
  have e : n' = n := h.2.1
  have hF : ∀ w, w < n → F w = F' w := h.2.2
  subst e
  have hn := hI.1
  have J0 : JJ (n', F, L, pt, N, lb) (n', F', L', sl) := ⟨hI, rfl, hF⟩
  have bad1 : v < 0 ∨ nI n' ≤ v → PR l g1 g2 yX1_addOrder cX1_addOrder 5 1 yX2_addOrder cX2_addOrder 3 2 .int [.int v, .int w] (n', F, L, pt, N, lb) (n', F', L', sl) := fun q =>
    ⟨-1, (n', F, L, pt, N, lb), (n', F', L', sl), J0, mX1_addOrder_bad1 l g1 n' F L pt N lb hn v w q, mX2_addOrder_bad1 l g2 n' F' L' sl hn v w q⟩
  rcases pk_ix v (n := n') (by omega) with q | q | ⟨k, hk, rfl⟩
  · exact bad1 (Or.inl q)
  · exact bad1 (Or.inr q)
  · have bad2 : w < 0 ∨ nI n' ≤ w → PR l g1 g2 yX1_addOrder cX1_addOrder 5 1 yX2_addOrder cX2_addOrder 3 2 .int [.int (nI k), .int w] (n', F, L, pt, N, lb) (n', F', L', sl) := fun q =>
      ⟨-1, (n', F, L, pt, N, lb), (n', F', L', sl), J0, mX1_addOrder_bad2 l g1 n' F L pt N lb hn k hk w q, mX2_addOrder_bad2 l g2 n' F' L' sl hn k hk w q⟩
    rcases pk_ix w (n := n') (by omega) with q | q | ⟨j, hj, rfl⟩
    · exact bad2 (Or.inl q)
    · exact bad2 (Or.inr q)
    · obtain ⟨e1, e2⟩ := ao_same (sl := sl) (N := N) (lb := lb) (pt := pt) hI hF (find_same (L' := L') hI hF) hk hj
      have m2 := mX2_addOrder l g2 n' F' L' sl hn k hk j hj
      rw [e1] at m2
      exact ⟨_, _, _, e2, mX1_addOrder l g1 n' F L pt N lb hn k hk j hj, m2⟩
theorem pr_removeOrder (h : JJ u1 u2) (v w : Int32) : PR l g1 g2 yX1_removeOrder cX1_removeOrder 3 1 yX2_removeOrder cX2_removeOrder 3 1 .int [.int v, .int w] u1 u2 := by
  obtain ⟨n, F, L, pt, N, lb⟩ := u1
  obtain ⟨n', F', L', sl⟩ := u2
  have hI : Inv1 n F L := h.1
  have e : n' = n := h.2.1
  have hF : ∀ w, w < n → F w = F' w := h.2.2
  subst e
  have hn := hI.1
  have J0 : JJ (n', F, L, pt, N, lb) (n', F', L', sl) := ⟨hI, rfl, hF⟩
  have bad1 : v < 0 ∨ nI n' ≤ v → PR l g1 g2 yX1_removeOrder cX1_removeOrder 3 1 yX2_removeOrder cX2_removeOrder 3 1 .int [.int v, .int w] (n', F, L, pt, N, lb) (n', F', L', sl) := fun q =>
    ⟨-1, (n', F, L, pt, N, lb), (n', F', L', sl), J0, mX1_removeOrder_bad1 l g1 n' F L pt N lb hn v w q, mX2_removeOrder_bad1 l g2 n' F' L' sl hn v w q⟩
  rcases pk_ix v (n := n') (by omega) with q | q | ⟨k, hk, rfl⟩
  · exact bad1 (Or.inl q)
  · exact bad1 (Or.inr q)
  · have bad2 : w < 0 ∨ nI n' ≤ w → PR l g1 g2 yX1_removeOrder cX1_removeOrder 3 1 yX2_removeOrder cX2_removeOrder 3 1 .int [.int (nI k), .int w] (n', F, L, pt, N, lb) (n', F', L', sl) := fun q =>
      ⟨-1, (n', F, L, pt, N, lb), (n', F', L', sl), J0, mX1_removeOrder_bad2 l g1 n' F L pt N lb hn k hk w q, mX2_removeOrder_bad2 l g2 n' F' L' sl hn k hk w q⟩
    rcases pk_ix w (n := n') (by omega) with q | q | ⟨j, hj, rfl⟩
    · exact bad2 (Or.inl q)
    · exact bad2 (Or.inr q)
    · obtain ⟨e1, e2⟩ := ro_same (L' := L') (sl := sl) (N := N) (lb := lb) (pt := pt) hI hF hk hj
      have m2 := mX2_removeOrder l g2 n' F' L' sl hn k hk j hj
      rw [e1] at m2
      exact ⟨_, _, _, e2, mX1_removeOrder l g1 n' F L pt N lb hn k hk j hj, m2⟩
theorem pr_tasks (h : JJ u1 u2) : PR l g1 g2 yX1_tasks cX1_tasks 1 0 yX2_tasks cX2_tasks 1 0 .int [] u1 u2 := by
  obtain ⟨n, F, L, pt, N, lb⟩ := u1
  obtain ⟨n', F', L', sl⟩ := u2
  have hI : Inv1 n F L := h.1
  have e : n' = n := h.2.1
  have hF : ∀ w, w < n → F w = F' w := h.2.2
  subst e
  have hn := hI.1
  exact ⟨nI n', (n', F, L, pt, N, lb), (n', F', L', sl), ⟨hI, rfl, hF⟩, mX1_tasks l g1 n' F L pt N lb hn, mX2_tasks l g2 n' F' L' sl hn⟩
theorem pr_after (h : JJ u1 u2) (v w : Int32) : PR l g1 g2 yX1_after cX1_after 3 1 yX2_after cX2_after 3 2 .boolean [.int v, .int w] u1 u2 := by
  obtain ⟨n, F, L, pt, N, lb⟩ := u1
  obtain ⟨n', F', L', sl⟩ := u2
  have hI : Inv1 n F L := h.1
  have e : n' = n := h.2.1
  have hF : ∀ w, w < n → F w = F' w := h.2.2
  subst e
  have hn := hI.1
  have J0 : ∀ L2, JJ (n', F, L, pt, N, lb) (n', F', L2, sl) := fun L2 => ⟨hI, rfl, hF⟩
  have bad1 : v < 0 ∨ nI n' ≤ v → PR l g1 g2 yX1_after cX1_after 3 1 yX2_after cX2_after 3 2 .boolean [.int v, .int w] (n', F, L, pt, N, lb) (n', F', L', sl) := fun q =>
    ⟨0, (n', F, L, pt, N, lb), (n', F', L', sl), J0 L', mX1_after_bad1 l g1 n' F L pt N lb hn v w q, mX2_after_bad1 l g2 n' F' L' sl hn v w q⟩
  rcases pk_ix v (n := n') (by omega) with q | q | ⟨k, hk, rfl⟩
  · exact bad1 (Or.inl q)
  · exact bad1 (Or.inr q)
  · have bad2 : w < 0 ∨ nI n' ≤ w → PR l g1 g2 yX1_after cX1_after 3 1 yX2_after cX2_after 3 2 .boolean [.int (nI k), .int w] (n', F, L, pt, N, lb) (n', F', L', sl) := fun q =>
      ⟨0, (n', F, L, pt, N, lb), (n', F', L', sl), J0 L', mX1_after_bad2 l g1 n' F L pt N lb hn k hk w q, mX2_after_bad2 l g2 n' F' L' sl hn k hk w q⟩
    rcases pk_ix w (n := n') (by omega) with q | q | ⟨j, hj, rfl⟩
    · exact bad2 (Or.inl q)
    · exact bad2 (Or.inr q)
    · have m2 := mX2_after l g2 n' F' L' sl hn k hk j hj
      have e1 : xin (yFind n' F' L' k) (nI j) = (if tb (L k) (nI j) = 0 then 0 else 1) := by
        rw [← find_same (L' := L') hI hF k hk]
        cases q : bt (L k) j
        · rw [if_pos ((tb_0 (by omega)).mpr q), (xin_0 (by omega)).mpr q]
        · rw [if_neg ((tb_ne (by omega)).mpr q), xin_val (by omega), if_pos q]
      rw [e1] at m2
      exact ⟨_, _, _, J0 _, mX1_after l g1 n' F L pt N lb hn k hk j hj, m2⟩
theorem pr_height (h : JJ u1 u2) (v : Int32) : PR l g1 g2 yX1_height cX1_height 2 1 yX2_height cX2_height 6 1 .int [.int v] u1 u2 := by
  obtain ⟨n, F, L, pt, N, lb⟩ := u1
  obtain ⟨n', F', L', sl⟩ := u2
  have hI : Inv1 n F L := h.1
  have e : n' = n := h.2.1
  have hF : ∀ w, w < n → F w = F' w := h.2.2
  subst e
  have hn := hI.1
  have J0 : JJ (n', F, L, pt, N, lb) (n', F', L', sl) := ⟨hI, rfl, hF⟩
  have bad : v < 0 ∨ nI n' ≤ v → PR l g1 g2 yX1_height cX1_height 2 1 yX2_height cX2_height 6 1 .int [.int v] (n', F, L, pt, N, lb) (n', F', L', sl) := fun q =>
    ⟨-1, (n', F, L, pt, N, lb), (n', F', L', sl), J0, mX1_height_bad l g1 n' F L pt N lb hn v q, mX2_height_bad l g2 n' F' L' sl hn v q⟩
  rcases pk_ix v (n := n') (by omega) with q | q | ⟨k, hk, rfl⟩
  · exact bad (Or.inl q)
  · exact bad (Or.inr q)
  · have m2 := mX2_height l g2 n' F' L' sl hn k hk
    rw [yHt_lev (Inv1_F hI hF) hk, ← xHt_lev hI hk] at m2
    exact ⟨_, _, _, J0, mX1_height l g1 n' F L pt N lb hn k hk, m2⟩
theorem pr_superfluous (h : JJ u1 u2) : PR l g1 g2 yX1_superfluous cX1_superfluous 4 1 yX2_superfluous cX2_superfluous 4 2 .int [] u1 u2 := by
  obtain ⟨n, F, L, pt, N, lb⟩ := u1
  obtain ⟨n', F', L', sl⟩ := u2
  have hI : Inv1 n F L := h.1
  have e : n' = n := h.2.1
  have hF : ∀ w, w < n → F w = F' w := h.2.2
  subst e
  have hn := hI.1
  have m2 := mX2_superfluous l g2 n' F' L' sl hn
  rw [← ans_sup hI hF (find_same (L' := L') hI hF)] at m2
  exact ⟨_, _, _, ⟨hI, rfl, hF⟩, mX1_superfluous l g1 n' F L pt N lb hn, m2⟩
theorem pr_inTrees (h : JJ u1 u2) : PR l g1 g2 yX1_inTrees cX1_inTrees 3 1 yX2_inTrees cX2_inTrees 4 2 .boolean [] u1 u2 := by
  obtain ⟨n, F, L, pt, N, lb⟩ := u1
  obtain ⟨n', F', L', sl⟩ := u2
  have hI : Inv1 n F L := h.1
  have e : n' = n := h.2.1
  have hF : ∀ w, w < n → F w = F' w := h.2.2
  subst e
  have hn := hI.1
  have m2 := mX2_inTrees l g2 n' F' L' sl hn
  rw [← ans_tree hI hF (find_same (L' := L') hI hF)] at m2
  exact ⟨_, _, _, ⟨hI, rfl, hF⟩, mX1_inTrees l g1 n' F L pt N lb hn, m2⟩
set_option maxHeartbeats 4000000 in
theorem pr_shortest (h : JJ u1 u2) (v : Int32) : PR l g1 g2 yX1_shortest cX1_shortest 2 3 yX2_shortest cX2_shortest 2 3 .int [.int v] u1 u2 := by
  obtain ⟨n, F, L, pt, N, lb⟩ := u1
  obtain ⟨n', F', L', sl⟩ := u2
  have hI : Inv1 n F L := h.1
  have e : n' = n := h.2.1
  have hF : ∀ w, w < n → F w = F' w := h.2.2
  subst e
  have hn := hI.1
  have hI' := Inv1_F hI hF
  have J0 : ∀ pt L2 N lb sl2, JJ (n', F, L, pt, N, lb) (n', F', L2, sl2) := fun _ _ _ _ _ => ⟨hI, rfl, hF⟩
  by_cases q1 : v < 1
  · exact ⟨-1, (n', F, L, pt, N, lb), (n', F', L', sl), J0 _ _ _ _ _, mX1_shortest_low l g1 n' F L pt N lb hn v q1, mX2_shortest_low l g2 n' F' L' sl hn v q1⟩
  · by_cases q9 : v ≤ 9
    · obtain ⟨mm, m1, m9, rfl⟩ : ∃ mm : Nat, 1 ≤ mm ∧ mm ≤ 9 ∧ v = nI mm := by
        rcases pk_ix v (n := 10) (by omega) with q | q | ⟨k, hk, rfl⟩
        · exact absurd (Int32.lt_trans q (by decide)) q1
        · have := Int32.le_trans q q9
          exact absurd this (by decide)
        · refine ⟨k, ?_, by omega, rfl⟩
          rcases Nat.eq_zero_or_pos k with r | r
          · exact absurd (by rw [r]; decide) q1
          · exact r
      obtain ⟨Y, hY⟩ : ∃ Y, Y = yLst 512 n' F' (nI (2 ^ n' - 1)) (nI mm) sl := ⟨_, rfl⟩
      have eA : xAll n' = nI (2 ^ n' - 1) := xAll_nat hn
      by_cases e1 : mm = 1
      · have m2 := mX2_shortest_12 l g2 n' F' L' sl hn mm m1 m9 (by omega) Y hY
        have eY : Y (2 ^ n' - 1) = nI n' := by
          rw [hY, e1]
          exact (len_one hI').symm
        rw [eY] at m2
        exact ⟨_, _, _, J0 _ _ _ _ _, mX1_shortest_1 l g1 n' F L pt N lb hn mm m1 m9 e1, m2⟩
      · by_cases e2 : mm = 2
        · have m2 := mX2_shortest_12 l g2 n' F' L' sl hn mm m1 m9 (by omega) Y hY
          have eY : Y (2 ^ n' - 1) = xLen n' L (xLbl n' L (xAll n') N lb) (xAll n') mm := by
            rw [hY, e2, eA]
            exact (len_two hI' (all_lt n') (fun _ _ _ => rfl) (fun u hu r => by rw [all_bit.mpr hu] at r; cases r)).symm
          rw [eY] at m2
          exact ⟨_, _, _, J0 _ _ _ _ _, mX1_shortest_2 l g1 n' F L pt N lb hn mm m1 m9 e2, m2⟩
        · have eT := ans_tree hI hF (find_same (L' := L') hI hF)
          by_cases ht : xIT n' L = 0
          · exact ⟨-2, _, _, J0 _ _ _ _ _, mX1_shortest_none l g1 n' F L pt N lb hn mm m1 m9 (by omega) ht, mX2_shortest_none l g2 n' F' L' sl hn mm m1 m9 (by omega) (by rw [← eT]; exact ht)⟩
          · have m2 := mX2_shortest_3 l g2 n' F' L' sl hn mm m1 m9 (by omega) (by rw [← eT]; exact ht) Y hY
            have eY : Y (2 ^ n' - 1) = xLen n' L (lhB n' L lb n') (xAll n') mm := by
              rw [hY, eA]
              exact (len_tree hI' ht m1 m9).symm
            rw [eY] at m2
            exact ⟨_, _, _, J0 _ _ _ _ _, mX1_shortest_3 l g1 n' F L pt N lb hn mm m1 m9 (by omega) ht, m2⟩
    · exact ⟨-1, (n', F, L, pt, N, lb), (n', F', L', sl), J0 _ _ _ _ _, mX1_shortest_high l g1 n' F L pt N lb hn v q1 q9, mX2_shortest_high l g2 n' F' L' sl hn v q1 q9⟩
theorem len_wo2 {n k : Nat} {F F' L L0 N lb sl : Nat → Int32} (h : Inv1 n F L0) (hF : ∀ w, w < n → F w = F' w) (hk : k < n) :
    xLen n (xClose n (upd F k 0) L) (xLbl n (xClose n (upd F k 0) L) (xWo n k) N lb) (xWo n k) 2 = yLst 512 n F' (nI (2 ^ n - 1 - 2 ^ k)) (nI 2) sl (2 ^ n - 1 - 2 ^ k) := by
  have h1 := h.1
  have e : xWo n k = nI (2 ^ n - 1 - 2 ^ k) := xWo_nat h1 hk
  have inv : Inv1 n (upd F k 0) (xClose n (upd F k 0) L) := op_close (op_wo (k := k) h)
  rw [e]
  refine len_two inv (Nat.lt_of_le_of_lt (Nat.sub_le _ _) (all_lt n)) (fun u hu q => ?_) (fun u hu q => ?_)
  · unfold upd
    rw [if_neg ((wo_bit h1 hk).mp q).2]
    exact hF u hu
  · unfold upd
    by_cases c : u = k
    · rw [if_pos c]
    · rw [(wo_bit h1 hk).mpr ⟨hu, c⟩] at q; cases q
set_option maxHeartbeats 4000000 in
theorem pr_without (h : JJ u1 u2) (v : Int32) : PR l g1 g2 yX1_without cX1_without 4 3 yX2_without cX2_without 2 3 .int [.int v] u1 u2 := by
  obtain ⟨n, F, L, pt, N, lb⟩ := u1
  obtain ⟨n', F', L', sl⟩ := u2
  have hI : Inv1 n F L := h.1
  have e : n' = n := h.2.1
  have hF : ∀ w, w < n → F w = F' w := h.2.2
  subst e
  have hn := hI.1
  have bad : v < 0 ∨ nI n' ≤ v → PR l g1 g2 yX1_without cX1_without 4 3 yX2_without cX2_without 2 3 .int [.int v] (n', F, L, pt, N, lb) (n', F', L', sl) := fun q =>
    ⟨-1, (n', F, L, pt, N, lb), (n', F', L', sl), ⟨hI, rfl, hF⟩, mX1_without_bad l g1 n' F L pt N lb hn v q, mX2_without_bad l g2 n' F' L' sl hn v q⟩
  rcases pk_ix v (n := n') (by omega) with q | q | ⟨k, hk, rfl⟩
  · exact bad (Or.inl q)
  · exact bad (Or.inr q)
  · obtain ⟨Y, hY⟩ : ∃ Y, Y = yLst 512 n' F' (nI (2 ^ n' - 1 - 2 ^ k)) (nI 2) sl := ⟨_, rfl⟩
    have m2 := mX2_without l g2 n' F' L' sl hn k hk Y hY
    have eY : Y (2 ^ n' - 1 - 2 ^ k) = xLen n' (xClose n' (upd F k 0) L) (xLbl n' (xClose n' (upd F k 0) L) (xWo n' k) N lb) (xWo n' k) 2 := by
      rw [hY]
      exact (len_wo2 hI hF hk).symm
    rw [eY] at m2
    have m1 := mX1_without l g1 n' F L pt N lb hn k hk
    rw [upd_back] at m1
    exact ⟨_, _, _, ⟨op_close hI, rfl, hF⟩, m1, m2⟩
end PRS
end
section
/-! the constructors -/
def clampN (v : Int32) : Nat := if 0 ≤ v then (if v ≤ 9 then v.toNatClampNeg else 9) else 0
theorem clamp_lo {v : Int32} (h : ¬ 0 ≤ v) : 0 = clampN v := by
  unfold clampN
  rw [if_neg h]
theorem clamp_hi {v : Int32} (h1 : 0 ≤ v) (h2 : ¬ v ≤ 9) : 9 = clampN v := by
  unfold clampN
  rw [if_pos h1, if_neg h2]
theorem clamp_j {v : Int32} (h1 : 0 ≤ v) (h2 : v ≤ 9) : ∃ j : Nat, j ≤ 9 ∧ v = nI j :=
  nI_of2 (M := 9) (n := 9) (by decide) (Int32.not_lt.mpr h1) h2
theorem clamp_mid {v : Int32} (h1 : 0 ≤ v) (h2 : v ≤ 9) : v = nI (clampN v) := by
  obtain ⟨j, hj, e⟩ := clamp_j h1 h2
  unfold clampN
  rw [if_pos h1, if_pos h2, e, nI_clamp (by omega)]
theorem clamp_le (v : Int32) : clampN v ≤ 9 := by
  unfold clampN
  by_cases h1 : 0 ≤ v
  · rw [if_pos h1]
    by_cases h2 : v ≤ 9
    · obtain ⟨j, hj, e⟩ := clamp_j h1 h2
      rw [if_pos h2, e, nI_clamp (by omega)]
      exact hj
    · rw [if_neg h2]
      exact Nat.le_refl _
  · rw [if_neg h1]
    exact Nat.zero_le _
def z1 (n : Nat) : S1 := (n, fun _ => 0, fun _ => 0, 0, fun _ => 0, fun _ => 0)
def BI1 (A : Nat → Prop) (u : Geo × Nat) (t : State) : Prop := va_P u.1.1 vwCl (w1 u.1 (z1 u.2)) t.heap ∧ va_K u.1.1 vwCl (x1 u.1).2.1 t ∧ va_D A (w1 u.1 (z1 u.2))
set_option maxHeartbeats 4000000 in
set_option maxRecDepth 100000 in
theorem mX1_init (l : Launch) (D : va_G) (h0 sz : Nat) (v : Int32) : Met l yX1_init (ws_ yX1_init cX1_init 2 none) ({ frames := 1, cells := 4, slots := 36, locals := 12 }) (va_Pc [.ref h0, .int v] (fun U => U.heap.size = sz ∧ va_P D vwCl [(h0, .inr (0, [.int 0, .null, .null, .int 0, .null, .null]))] U.heap ∧ va_K D vwCl [] U ∧ va_D (fun _ => True) [(h0, .inr (0, [.int 0, .null, .null, .int 0, .null, .null]))])) (va_Qv (fun u : Geo × Nat => u.1.1 = D ∧ u.1.2.1 0 = h0 ∧ u.2 = clampN v) (BI1 (va_A [(h0, .inr (0, [.int 0, .null, .null, .int 0, .null, .null]))] sz)) (va_A [(h0, .inr (0, [.int 0, .null, .null, .int 0, .null, .null]))] sz)) 4 36 (va_A [(h0, .inr (0, [.int 0, .null, .null, .int 0, .null, .null]))] sz) := by
  refine Met.ofW (cc := cX1_init) (maxL := 2) (ret := none) (by decide) rfl ?_
  intro p e s m args below meth c s₁ B hml hv
  obtain ⟨rfl, hsz, hP, hK, hD0⟩ := hv
  have hx := B.exec
  have hb := B.bytes
  have hr := B.returns
  have hts := atoms_spec (ws := ws_ yX1_init cX1_init 2 none) B.pre
  have hts : ∀ w ∈ lw_all, w.before _ s = true := fun w h => hts w (List.mem_cons_of_mem _ h)
  have hown : s.vm.findClass RX1 = some m.cls := findClass_of_methodNamed B.named
  have hlocks := B.notSynchronized
  have hin : meth.name = "<init>" := (name_of_methodNamed B.named B.method).1
  subst hsz
  have hD := hD0.self (sz := s.heap.size)
  generalize hAe : va_A [(h0, .inr (0, [.int 0, .null, .null, .int 0, .null, .null]))] s.heap.size = A at hD ⊢
  have hA : ∀ q : Nat, s.heap.size ≤ q → A q := fun q h => by rw [← hAe]; exact Or.inr h
  have hS : va_S A s.heap s.heap [] := va_S.rf
  have hP : va_P D vwCl [(h0, .inr (0, [.int 0, .null, .null, .int 0, .null, .null]))] s.heap := hP
  have hl := lv_entry ([.ref h0, .int v]) (n := 2) (Nat.le_of_ble_eq_true rfl)
  rw [lg_entry_eq]
  generalize (lg_sl ([.ref h0, .int v]) ++ List.replicate (2 - (lg_sl ([.ref h0, .int v])).length) Slot.unset).toArray = ls at hl ⊢
  have hl : lv_has ls 2 [(0, .ref h0), (1, .int v)] := hl
  refine lv_aload_n hx hb dX1_init_0 rfl (lv_at hl 0 rfl) ?_
  refine W.objInit hx hb hown (hts _ q27) (hts _ q28) (hts _ q29) rfl (by rw [hml]; exact hl.1) rfl dX1_init_1 (Nat.le_of_ble_eq_true rfl) (Nat.le_of_ble_eq_true rfl) ?_
  refine W.eq (g2 := F0 m 4 ls []) rfl ?_
  refine lv_aload_n hx hb dX1_init_4 rfl (lv_at hl 0 rfl) ?_
  refine lv_bipush (v := 9) hx hb dX1_init_5 (by decide) ?_
  refine va_newa (a0 := (9, .inl (fun _ => 0))) (N' := 9) (ty := .int) (atype := .int) hx hb (hts _ q49) rfl hK hP hD hS hA (fun cA => rfl) (by decide) (by decide) (by decide) (Nat.le_of_ble_eq_true rfl) (Nat.le_of_ble_eq_true rfl) dX1_init_7 (fun q_1 c_1 H hK hP hD hS => ?_)
  have hP : va_P D vwCl [(h0, .inr (0, [.int 0, .null, .null, .int 0, .null, .null])), (q_1, .inl (c_1, 9, .inl (fun _ => 0)))] H := hP
  have hD : va_D A [(h0, .inr (0, [.int 0, .null, .null, .int 0, .null, .null])), (q_1, .inl (c_1, 9, .inl (fun _ => 0)))] := hD
  have hK : va_K D vwCl [(c_1, .int)] s := hK
  refine va_putF (D := D) (ci := 0) (v := .ref q_1) (ty := .array .int) (C := RX1) (T := TX1) (N := 6) hx hb hts in_X1 tyX1 tyX1_ok nmX1 hown hK hP hD hS 0 rfl rfl 1 (by decide) (hts _ q31) (fun _ h9 => h9) rfl hin rfl (by decide +kernel) rfl rfl (Nat.le_of_ble_eq_true rfl) dX1_init_9 (fun H locs hP hD hS => ?_)
  have hP : va_P D vwCl [(h0, .inr (0, [.int 0, .ref q_1, .null, .int 0, .null, .null])), (q_1, .inl (c_1, 9, .inl (fun _ => 0)))] H := hP
  have hD : va_D A [(h0, .inr (0, [.int 0, .ref q_1, .null, .int 0, .null, .null])), (q_1, .inl (c_1, 9, .inl (fun _ => 0)))] := hD
  refine lv_aload_n hx hb dX1_init_12 rfl (lv_at hl 0 rfl) ?_
  refine lv_bipush (v := 9) hx hb dX1_init_13 (by decide) ?_
  refine va_newa (a0 := (9, .inl (fun _ => 0))) (N' := 9) (ty := .int) (atype := .int) hx hb (hts _ q49) rfl hK hP hD hS hA (fun cA => rfl) (by decide) (by decide) (by decide) (Nat.le_of_ble_eq_true rfl) (Nat.le_of_ble_eq_true rfl) dX1_init_15 (fun q_2 c_2 H hK hP hD hS => ?_)
  have hP : va_P D vwCl [(h0, .inr (0, [.int 0, .ref q_1, .null, .int 0, .null, .null])), (q_1, .inl (c_1, 9, .inl (fun _ => 0))), (q_2, .inl (c_2, 9, .inl (fun _ => 0)))] H := hP
  have hD : va_D A [(h0, .inr (0, [.int 0, .ref q_1, .null, .int 0, .null, .null])), (q_1, .inl (c_1, 9, .inl (fun _ => 0))), (q_2, .inl (c_2, 9, .inl (fun _ => 0)))] := hD
  have hK : va_K D vwCl [(c_1, .int), (c_2, .int)] s := hK
  refine va_putF (D := D) (ci := 0) (v := .ref q_2) (ty := .array .int) (C := RX1) (T := TX1) (N := 6) hx hb hts in_X1 tyX1 tyX1_ok nmX1 hown hK hP hD hS 0 rfl rfl 2 (by decide) (hts _ q32) (fun _ h9 => h9) rfl hin rfl (by decide +kernel) rfl rfl (Nat.le_of_ble_eq_true rfl) dX1_init_17 (fun H locs hP hD hS => ?_)
  have hP : va_P D vwCl [(h0, .inr (0, [.int 0, .ref q_1, .ref q_2, .int 0, .null, .null])), (q_1, .inl (c_1, 9, .inl (fun _ => 0))), (q_2, .inl (c_2, 9, .inl (fun _ => 0)))] H := hP
  have hD : va_D A [(h0, .inr (0, [.int 0, .ref q_1, .ref q_2, .int 0, .null, .null])), (q_1, .inl (c_1, 9, .inl (fun _ => 0))), (q_2, .inl (c_2, 9, .inl (fun _ => 0)))] := hD
  refine lv_aload_n hx hb dX1_init_20 rfl (lv_at hl 0 rfl) ?_
  refine lv_bipush (v := 9) hx hb dX1_init_21 (by decide) ?_
  refine va_newa (a0 := (9, .inl (fun _ => 0))) (N' := 9) (ty := .int) (atype := .int) hx hb (hts _ q49) rfl hK hP hD hS hA (fun cA => rfl) (by decide) (by decide) (by decide) (Nat.le_of_ble_eq_true rfl) (Nat.le_of_ble_eq_true rfl) dX1_init_23 (fun q_3 c_3 H hK hP hD hS => ?_)
  have hP : va_P D vwCl [(h0, .inr (0, [.int 0, .ref q_1, .ref q_2, .int 0, .null, .null])), (q_1, .inl (c_1, 9, .inl (fun _ => 0))), (q_2, .inl (c_2, 9, .inl (fun _ => 0))), (q_3, .inl (c_3, 9, .inl (fun _ => 0)))] H := hP
  have hD : va_D A [(h0, .inr (0, [.int 0, .ref q_1, .ref q_2, .int 0, .null, .null])), (q_1, .inl (c_1, 9, .inl (fun _ => 0))), (q_2, .inl (c_2, 9, .inl (fun _ => 0))), (q_3, .inl (c_3, 9, .inl (fun _ => 0)))] := hD
  have hK : va_K D vwCl [(c_1, .int), (c_2, .int), (c_3, .int)] s := hK
  refine va_putF (D := D) (ci := 0) (v := .ref q_3) (ty := .array .int) (C := RX1) (T := TX1) (N := 6) hx hb hts in_X1 tyX1 tyX1_ok nmX1 hown hK hP hD hS 0 rfl rfl 4 (by decide) (hts _ q34) (fun _ h9 => h9) rfl hin rfl (by decide +kernel) rfl rfl (Nat.le_of_ble_eq_true rfl) dX1_init_25 (fun H locs hP hD hS => ?_)
  have hP : va_P D vwCl [(h0, .inr (0, [.int 0, .ref q_1, .ref q_2, .int 0, .ref q_3, .null])), (q_1, .inl (c_1, 9, .inl (fun _ => 0))), (q_2, .inl (c_2, 9, .inl (fun _ => 0))), (q_3, .inl (c_3, 9, .inl (fun _ => 0)))] H := hP
  have hD : va_D A [(h0, .inr (0, [.int 0, .ref q_1, .ref q_2, .int 0, .ref q_3, .null])), (q_1, .inl (c_1, 9, .inl (fun _ => 0))), (q_2, .inl (c_2, 9, .inl (fun _ => 0))), (q_3, .inl (c_3, 9, .inl (fun _ => 0)))] := hD
  refine lv_aload_n hx hb dX1_init_28 rfl (lv_at hl 0 rfl) ?_
  refine lv_bipush (v := 9) hx hb dX1_init_29 (by decide) ?_
  refine va_newa (a0 := (9, .inl (fun _ => 0))) (N' := 9) (ty := .byte) (atype := .byte) hx hb (hts _ q50) rfl hK hP hD hS hA (fun cA => rfl) (by decide) (by decide) (by decide) (Nat.le_of_ble_eq_true rfl) (Nat.le_of_ble_eq_true rfl) dX1_init_31 (fun q_4 c_4 H hK hP hD hS => ?_)
  have hP : va_P D vwCl [(h0, .inr (0, [.int 0, .ref q_1, .ref q_2, .int 0, .ref q_3, .null])), (q_1, .inl (c_1, 9, .inl (fun _ => 0))), (q_2, .inl (c_2, 9, .inl (fun _ => 0))), (q_3, .inl (c_3, 9, .inl (fun _ => 0))), (q_4, .inl (c_4, 9, .inl (fun _ => 0)))] H := hP
  have hD : va_D A [(h0, .inr (0, [.int 0, .ref q_1, .ref q_2, .int 0, .ref q_3, .null])), (q_1, .inl (c_1, 9, .inl (fun _ => 0))), (q_2, .inl (c_2, 9, .inl (fun _ => 0))), (q_3, .inl (c_3, 9, .inl (fun _ => 0))), (q_4, .inl (c_4, 9, .inl (fun _ => 0)))] := hD
  have hK : va_K D vwCl [(c_1, .int), (c_2, .int), (c_3, .int), (c_4, .byte)] s := hK
  refine va_putF (D := D) (ci := 0) (v := .ref q_4) (ty := .array .byte) (C := RX1) (T := TX1) (N := 6) hx hb hts in_X1 tyX1 tyX1_ok nmX1 hown hK hP hD hS 0 rfl rfl 5 (by decide) (hts _ q35) (fun _ h9 => h9) rfl hin rfl (by decide +kernel) rfl rfl (Nat.le_of_ble_eq_true rfl) dX1_init_33 (fun H locs hP hD hS => ?_)
  have hP : va_P D vwCl [(h0, .inr (0, [.int 0, .ref q_1, .ref q_2, .int 0, .ref q_3, .ref q_4])), (q_1, .inl (c_1, 9, .inl (fun _ => 0))), (q_2, .inl (c_2, 9, .inl (fun _ => 0))), (q_3, .inl (c_3, 9, .inl (fun _ => 0))), (q_4, .inl (c_4, 9, .inl (fun _ => 0)))] H := hP
  have hD : va_D A [(h0, .inr (0, [.int 0, .ref q_1, .ref q_2, .int 0, .ref q_3, .ref q_4])), (q_1, .inl (c_1, 9, .inl (fun _ => 0))), (q_2, .inl (c_2, 9, .inl (fun _ => 0))), (q_3, .inl (c_3, 9, .inl (fun _ => 0))), (q_4, .inl (c_4, 9, .inl (fun _ => 0)))] := hD
  refine lv_aload_n hx hb dX1_init_36 rfl (lv_at hl 0 rfl) ?_
  refine lv_iload_n hx hb dX1_init_37 rfl (lv_at hl 1 rfl) ?_
  refine lv_if_ge (tgt := 45) hx hb dX1_init_38 (by decide) (fun h1 => ?_) (fun h1 => ?_)
  · refine lv_iload_n hx hb dX1_init_45 rfl (lv_at hl 1 rfl) ?_
    refine lv_bipush (v := 9) hx hb dX1_init_46 (by decide) ?_
    refine lv_icmp_le (tgt := 56) hx hb dX1_init_48 (by decide) (fun h2 => ?_) (fun h2 => ?_)
    · refine lv_iload_n hx hb dX1_init_56 rfl (lv_at hl 1 rfl) ?_
      refine x_top (v := nI (clampN v)) (clamp_mid h1 h2) ?_
      refine va_put (D := D) (ci := 0) (v := .int (nI (clampN v))) (ty := .int) (C := RX1) (T := TX1) (N := 6) hx hb hts in_X1 tyX1 tyX1_ok nmX1 hown hK hP hD hS 0 rfl rfl 0 (by decide) (hts _ q30) (fun _ h9 => h9) rfl (by decide +kernel) rfl rfl (Nat.le_of_ble_eq_true rfl) dX1_init_57 (fun H locs hP hD hS => ?_)
      refine W.widen (k := 4) (n := 36) (Nat.le_of_ble_eq_true rfl) (Nat.le_of_ble_eq_true rfl) ?_
      exact W.vret hx hb hr (fun t ht hW => ⟨⟨((D, (fun k => match k with | 0 => h0 | 1 => q_1 | 2 => q_2 | 3 => q_3 | 4 => q_4 | _ => 0), (fun k => match k with | 1 => c_1 | 2 => c_2 | 3 => c_3 | 4 => c_4 | _ => c_1)), (clampN v)), rfl, ⟨rfl, rfl, rfl⟩, by rw [ht]; exact hP, va_K.moved hW.alike hK, hD⟩, hS.F ht⟩) hS.2.2 dX1_init_60
    · refine lv_bipush (v := 9) hx hb dX1_init_51 (by decide) ?_
      refine lv_goto (tgt := 57) hx hb dX1_init_53 (by decide) ?_
      refine x_top (v := nI 9) rfl ?_
      refine va_put (D := D) (ci := 0) (v := .int (nI 9)) (ty := .int) (C := RX1) (T := TX1) (N := 6) hx hb hts in_X1 tyX1 tyX1_ok nmX1 hown hK hP hD hS 0 rfl rfl 0 (by decide) (hts _ q30) (fun _ h9 => h9) rfl (by decide +kernel) rfl rfl (Nat.le_of_ble_eq_true rfl) dX1_init_57 (fun H locs hP hD hS => ?_)
      refine W.widen (k := 4) (n := 36) (Nat.le_of_ble_eq_true rfl) (Nat.le_of_ble_eq_true rfl) ?_
      exact W.vret hx hb hr (fun t ht hW => ⟨⟨((D, (fun k => match k with | 0 => h0 | 1 => q_1 | 2 => q_2 | 3 => q_3 | 4 => q_4 | _ => 0), (fun k => match k with | 1 => c_1 | 2 => c_2 | 3 => c_3 | 4 => c_4 | _ => c_1)), 9), rfl, ⟨rfl, rfl, (clamp_hi h1 h2)⟩, by rw [ht]; exact hP, va_K.moved hW.alike hK, hD⟩, hS.F ht⟩) hS.2.2 dX1_init_60
  · refine lv_iconst (v := 0) hx hb dX1_init_41 (by decide) ?_
    refine lv_goto (tgt := 57) hx hb dX1_init_42 (by decide) ?_
    refine x_top (v := nI 0) rfl ?_
    refine va_put (D := D) (ci := 0) (v := .int (nI 0)) (ty := .int) (C := RX1) (T := TX1) (N := 6) hx hb hts in_X1 tyX1 tyX1_ok nmX1 hown hK hP hD hS 0 rfl rfl 0 (by decide) (hts _ q30) (fun _ h9 => h9) rfl (by decide +kernel) rfl rfl (Nat.le_of_ble_eq_true rfl) dX1_init_57 (fun H locs hP hD hS => ?_)
    refine W.widen (k := 4) (n := 36) (Nat.le_of_ble_eq_true rfl) (Nat.le_of_ble_eq_true rfl) ?_
    exact W.vret hx hb hr (fun t ht hW => ⟨⟨((D, (fun k => match k with | 0 => h0 | 1 => q_1 | 2 => q_2 | 3 => q_3 | 4 => q_4 | _ => 0), (fun k => match k with | 1 => c_1 | 2 => c_2 | 3 => c_3 | 4 => c_4 | _ => c_1)), 0), rfl, ⟨rfl, rfl, (clamp_lo h1)⟩, by rw [ht]; exact hP, va_K.moved hW.alike hK, hD⟩, hS.F ht⟩) hS.2.2 dX1_init_60
def z2 (n : Nat) : S2 := (n, fun _ => 0, fun _ => 0, fun _ => 0)
def BI2 (A : Nat → Prop) (u : Geo × Nat) (t : State) : Prop := va_P u.1.1 vwCl (w2 u.1 (z2 u.2)) t.heap ∧ va_K u.1.1 vwCl (x2 u.1).2.1 t ∧ va_D A (w2 u.1 (z2 u.2))
set_option maxHeartbeats 4000000 in
set_option maxRecDepth 100000 in
theorem mX2_init (l : Launch) (D : va_G) (h0 sz : Nat) (v : Int32) : Met l yX2_init (ws_ yX2_init cX2_init 2 none) ({ frames := 1, cells := 3, slots := 530, locals := 12 }) (va_Pc [.ref h0, .int v] (fun U => U.heap.size = sz ∧ va_P D vwCl [(h0, .inr (1, [.int 0, .null, .null, .null]))] U.heap ∧ va_K D vwCl [] U ∧ va_D (fun _ => True) [(h0, .inr (1, [.int 0, .null, .null, .null]))])) (va_Qv (fun u : Geo × Nat => u.1.1 = D ∧ u.1.2.1 0 = h0 ∧ u.2 = clampN v) (BI2 (va_A [(h0, .inr (1, [.int 0, .null, .null, .null]))] sz)) (va_A [(h0, .inr (1, [.int 0, .null, .null, .null]))] sz)) 3 530 (va_A [(h0, .inr (1, [.int 0, .null, .null, .null]))] sz) := by
  refine Met.ofW (cc := cX2_init) (maxL := 2) (ret := none) (by decide) rfl ?_
  intro p e s m args below meth c s₁ B hml hv
  obtain ⟨rfl, hsz, hP, hK, hD0⟩ := hv
  have hx := B.exec
  have hb := B.bytes
  have hr := B.returns
  have hts := atoms_spec (ws := ws_ yX2_init cX2_init 2 none) B.pre
  have hts : ∀ w ∈ lw_all, w.before _ s = true := fun w h => hts w (List.mem_cons_of_mem _ h)
  have hown : s.vm.findClass RX2 = some m.cls := findClass_of_methodNamed B.named
  have hlocks := B.notSynchronized
  have hin : meth.name = "<init>" := (name_of_methodNamed B.named B.method).1
  subst hsz
  have hD := hD0.self (sz := s.heap.size)
  generalize hAe : va_A [(h0, .inr (1, [.int 0, .null, .null, .null]))] s.heap.size = A at hD ⊢
  have hA : ∀ q : Nat, s.heap.size ≤ q → A q := fun q h => by rw [← hAe]; exact Or.inr h
  have hS : va_S A s.heap s.heap [] := va_S.rf
  have hP : va_P D vwCl [(h0, .inr (1, [.int 0, .null, .null, .null]))] s.heap := hP
  have hl := lv_entry ([.ref h0, .int v]) (n := 2) (Nat.le_of_ble_eq_true rfl)
  rw [lg_entry_eq]
  generalize (lg_sl ([.ref h0, .int v]) ++ List.replicate (2 - (lg_sl ([.ref h0, .int v])).length) Slot.unset).toArray = ls at hl ⊢
  have hl : lv_has ls 2 [(0, .ref h0), (1, .int v)] := hl
  refine lv_aload_n hx hb dX2_init_0 rfl (lv_at hl 0 rfl) ?_
  refine W.objInit hx hb hown (hts _ q148) (hts _ q28) (hts _ q29) rfl (by rw [hml]; exact hl.1) rfl dX2_init_1 (Nat.le_of_ble_eq_true rfl) (Nat.le_of_ble_eq_true rfl) ?_
  refine W.eq (g2 := F0 m 4 ls []) rfl ?_
  refine lv_aload_n hx hb dX2_init_4 rfl (lv_at hl 0 rfl) ?_
  refine lv_bipush (v := 9) hx hb dX2_init_5 (by decide) ?_
  refine va_newa (a0 := (9, .inl (fun _ => 0))) (N' := 9) (ty := .int) (atype := .int) hx hb (hts _ q49) rfl hK hP hD hS hA (fun cA => rfl) (by decide) (by decide) (by decide) (Nat.le_of_ble_eq_true rfl) (Nat.le_of_ble_eq_true rfl) dX2_init_7 (fun q_1 c_1 H hK hP hD hS => ?_)
  have hP : va_P D vwCl [(h0, .inr (1, [.int 0, .null, .null, .null])), (q_1, .inl (c_1, 9, .inl (fun _ => 0)))] H := hP
  have hD : va_D A [(h0, .inr (1, [.int 0, .null, .null, .null])), (q_1, .inl (c_1, 9, .inl (fun _ => 0)))] := hD
  have hK : va_K D vwCl [(c_1, .int)] s := hK
  refine va_put (D := D) (ci := 1) (v := .ref q_1) (ty := .array .int) (C := RX2) (T := TX2) (N := 4) hx hb hts in_X2 tyX2 tyX2_ok nmX2 hown hK hP hD hS 0 rfl rfl 1 (by decide) (hts _ q150) (fun _ h9 => h9) rfl (by decide +kernel) rfl rfl (Nat.le_of_ble_eq_true rfl) dX2_init_9 (fun H locs hP hD hS => ?_)
  have hP : va_P D vwCl [(h0, .inr (1, [.int 0, .ref q_1, .null, .null])), (q_1, .inl (c_1, 9, .inl (fun _ => 0)))] H := hP
  have hD : va_D A [(h0, .inr (1, [.int 0, .ref q_1, .null, .null])), (q_1, .inl (c_1, 9, .inl (fun _ => 0)))] := hD
  refine lv_aload_n hx hb dX2_init_12 rfl (lv_at hl 0 rfl) ?_
  refine lv_bipush (v := 9) hx hb dX2_init_13 (by decide) ?_
  refine va_newa (a0 := (9, .inl (fun _ => 0))) (N' := 9) (ty := .int) (atype := .int) hx hb (hts _ q49) rfl hK hP hD hS hA (fun cA => rfl) (by decide) (by decide) (by decide) (Nat.le_of_ble_eq_true rfl) (Nat.le_of_ble_eq_true rfl) dX2_init_15 (fun q_2 c_2 H hK hP hD hS => ?_)
  have hP : va_P D vwCl [(h0, .inr (1, [.int 0, .ref q_1, .null, .null])), (q_1, .inl (c_1, 9, .inl (fun _ => 0))), (q_2, .inl (c_2, 9, .inl (fun _ => 0)))] H := hP
  have hD : va_D A [(h0, .inr (1, [.int 0, .ref q_1, .null, .null])), (q_1, .inl (c_1, 9, .inl (fun _ => 0))), (q_2, .inl (c_2, 9, .inl (fun _ => 0)))] := hD
  have hK : va_K D vwCl [(c_1, .int), (c_2, .int)] s := hK
  refine va_put (D := D) (ci := 1) (v := .ref q_2) (ty := .array .int) (C := RX2) (T := TX2) (N := 4) hx hb hts in_X2 tyX2 tyX2_ok nmX2 hown hK hP hD hS 0 rfl rfl 2 (by decide) (hts _ q151) (fun _ h9 => h9) rfl (by decide +kernel) rfl rfl (Nat.le_of_ble_eq_true rfl) dX2_init_17 (fun H locs hP hD hS => ?_)
  have hP : va_P D vwCl [(h0, .inr (1, [.int 0, .ref q_1, .ref q_2, .null])), (q_1, .inl (c_1, 9, .inl (fun _ => 0))), (q_2, .inl (c_2, 9, .inl (fun _ => 0)))] H := hP
  have hD : va_D A [(h0, .inr (1, [.int 0, .ref q_1, .ref q_2, .null])), (q_1, .inl (c_1, 9, .inl (fun _ => 0))), (q_2, .inl (c_2, 9, .inl (fun _ => 0)))] := hD
  refine lv_aload_n hx hb dX2_init_20 rfl (lv_at hl 0 rfl) ?_
  refine lv_sipush (v := 512) hx hb dX2_init_21 (by decide) ?_
  refine va_newa (a0 := (512, .inl (fun _ => 0))) (N' := 512) (ty := .int) (atype := .int) hx hb (hts _ q49) rfl hK hP hD hS hA (fun cA => rfl) (by decide) (by decide) (by decide) (Nat.le_of_ble_eq_true rfl) (Nat.le_of_ble_eq_true rfl) dX2_init_24 (fun q_3 c_3 H hK hP hD hS => ?_)
  have hP : va_P D vwCl [(h0, .inr (1, [.int 0, .ref q_1, .ref q_2, .null])), (q_1, .inl (c_1, 9, .inl (fun _ => 0))), (q_2, .inl (c_2, 9, .inl (fun _ => 0))), (q_3, .inl (c_3, 512, .inl (fun _ => 0)))] H := hP
  have hD : va_D A [(h0, .inr (1, [.int 0, .ref q_1, .ref q_2, .null])), (q_1, .inl (c_1, 9, .inl (fun _ => 0))), (q_2, .inl (c_2, 9, .inl (fun _ => 0))), (q_3, .inl (c_3, 512, .inl (fun _ => 0)))] := hD
  have hK : va_K D vwCl [(c_1, .int), (c_2, .int), (c_3, .int)] s := hK
  refine va_put (D := D) (ci := 1) (v := .ref q_3) (ty := .array .int) (C := RX2) (T := TX2) (N := 4) hx hb hts in_X2 tyX2 tyX2_ok nmX2 hown hK hP hD hS 0 rfl rfl 3 (by decide) (hts _ q152) (fun _ h9 => h9) rfl (by decide +kernel) rfl rfl (Nat.le_of_ble_eq_true rfl) dX2_init_26 (fun H locs hP hD hS => ?_)
  have hP : va_P D vwCl [(h0, .inr (1, [.int 0, .ref q_1, .ref q_2, .ref q_3])), (q_1, .inl (c_1, 9, .inl (fun _ => 0))), (q_2, .inl (c_2, 9, .inl (fun _ => 0))), (q_3, .inl (c_3, 512, .inl (fun _ => 0)))] H := hP
  have hD : va_D A [(h0, .inr (1, [.int 0, .ref q_1, .ref q_2, .ref q_3])), (q_1, .inl (c_1, 9, .inl (fun _ => 0))), (q_2, .inl (c_2, 9, .inl (fun _ => 0))), (q_3, .inl (c_3, 512, .inl (fun _ => 0)))] := hD
  refine lv_aload_n hx hb dX2_init_29 rfl (lv_at hl 0 rfl) ?_
  refine lv_iload_n hx hb dX2_init_30 rfl (lv_at hl 1 rfl) ?_
  refine lv_if_ge (tgt := 38) hx hb dX2_init_31 (by decide) (fun h1 => ?_) (fun h1 => ?_)
  · refine lv_iload_n hx hb dX2_init_38 rfl (lv_at hl 1 rfl) ?_
    refine lv_bipush (v := 9) hx hb dX2_init_39 (by decide) ?_
    refine lv_icmp_le (tgt := 49) hx hb dX2_init_41 (by decide) (fun h2 => ?_) (fun h2 => ?_)
    · refine lv_iload_n hx hb dX2_init_49 rfl (lv_at hl 1 rfl) ?_
      refine x_top (v := nI (clampN v)) (clamp_mid h1 h2) ?_
      refine va_put (D := D) (ci := 1) (v := .int (nI (clampN v))) (ty := .int) (C := RX2) (T := TX2) (N := 4) hx hb hts in_X2 tyX2 tyX2_ok nmX2 hown hK hP hD hS 0 rfl rfl 0 (by decide) (hts _ q149) (fun _ h9 => h9) rfl (by decide +kernel) rfl rfl (Nat.le_of_ble_eq_true rfl) dX2_init_50 (fun H locs hP hD hS => ?_)
      refine W.widen (k := 3) (n := 530) (Nat.le_of_ble_eq_true rfl) (Nat.le_of_ble_eq_true rfl) ?_
      exact W.vret hx hb hr (fun t ht hW => ⟨⟨((D, (fun k => match k with | 0 => h0 | 1 => q_1 | 2 => q_2 | 3 => q_3 | _ => 0), (fun k => match k with | 1 => c_1 | 2 => c_2 | 3 => c_3 | _ => c_1)), (clampN v)), rfl, ⟨rfl, rfl, rfl⟩, by rw [ht]; exact hP, va_K.moved hW.alike hK, hD⟩, hS.F ht⟩) hS.2.2 dX2_init_53
    · refine lv_bipush (v := 9) hx hb dX2_init_44 (by decide) ?_
      refine lv_goto (tgt := 50) hx hb dX2_init_46 (by decide) ?_
      refine x_top (v := nI 9) rfl ?_
      refine va_put (D := D) (ci := 1) (v := .int (nI 9)) (ty := .int) (C := RX2) (T := TX2) (N := 4) hx hb hts in_X2 tyX2 tyX2_ok nmX2 hown hK hP hD hS 0 rfl rfl 0 (by decide) (hts _ q149) (fun _ h9 => h9) rfl (by decide +kernel) rfl rfl (Nat.le_of_ble_eq_true rfl) dX2_init_50 (fun H locs hP hD hS => ?_)
      refine W.widen (k := 3) (n := 530) (Nat.le_of_ble_eq_true rfl) (Nat.le_of_ble_eq_true rfl) ?_
      exact W.vret hx hb hr (fun t ht hW => ⟨⟨((D, (fun k => match k with | 0 => h0 | 1 => q_1 | 2 => q_2 | 3 => q_3 | _ => 0), (fun k => match k with | 1 => c_1 | 2 => c_2 | 3 => c_3 | _ => c_1)), 9), rfl, ⟨rfl, rfl, (clamp_hi h1 h2)⟩, by rw [ht]; exact hP, va_K.moved hW.alike hK, hD⟩, hS.F ht⟩) hS.2.2 dX2_init_53
  · refine lv_iconst (v := 0) hx hb dX2_init_34 (by decide) ?_
    refine lv_goto (tgt := 50) hx hb dX2_init_35 (by decide) ?_
    refine x_top (v := nI 0) rfl ?_
    refine va_put (D := D) (ci := 1) (v := .int (nI 0)) (ty := .int) (C := RX2) (T := TX2) (N := 4) hx hb hts in_X2 tyX2 tyX2_ok nmX2 hown hK hP hD hS 0 rfl rfl 0 (by decide) (hts _ q149) (fun _ h9 => h9) rfl (by decide +kernel) rfl rfl (Nat.le_of_ble_eq_true rfl) dX2_init_50 (fun H locs hP hD hS => ?_)
    refine W.widen (k := 3) (n := 530) (Nat.le_of_ble_eq_true rfl) (Nat.le_of_ble_eq_true rfl) ?_
    exact W.vret hx hb hr (fun t ht hW => ⟨⟨((D, (fun k => match k with | 0 => h0 | 1 => q_1 | 2 => q_2 | 3 => q_3 | _ => 0), (fun k => match k with | 1 => c_1 | 2 => c_2 | 3 => c_3 | _ => c_1)), 0), rfl, ⟨rfl, rfl, (clamp_lo h1)⟩, by rw [ht]; exact hP, va_K.moved hW.alike hK, hD⟩, hS.F ht⟩) hS.2.2 dX2_init_53
end
section
/-! the law's own cell(); calls on one of two worlds side by side -/
set_option maxHeartbeats 4000000 in
theorem mX0_cell (l : Launch) (b L : Nat) (xs : Nat → Int32) (hL : L ≤ 193) : Met l yX0_cell (ws_ yX0_cell cX0_cell 2 (some .int)) (rmd 0) (va_Pc [.ref b, .int 0] (fun U => va_X b L xs U U.heap)) (va_Qi (fun (r : Int32) (_ : Unit) => r = (if 0 < L then xs 0 else 0)) (fun _ _ => True) (fun _ => False)) 0 0 (fun _ => False) := by
  refine Met.ofW (cc := cX0_cell) (maxL := 2) (ret := some .int) (by decide) rfl ?_
  intro p e s m args below meth c s₁ B hml hv
  obtain ⟨rfl, hX⟩ := hv
  have hx := B.exec
  have hb := B.bytes
  have hr := B.returns
  have hlocks := B.notSynchronized
  have hbl : b < s.heap.size := by
    obtain ⟨scr, h1, _⟩ := id hX
    exact (Array.getElem?_eq_some_iff.mp h1).1
  have hS : va_S (fun _ => False) s.heap s.heap [] := va_S.rf
  have hl := lv_entry ([.ref b, .int 0]) (n := 2) (Nat.le_of_ble_eq_true rfl)
  rw [lg_entry_eq]
  generalize (lg_sl ([.ref b, .int 0]) ++ List.replicate (2 - (lg_sl ([.ref b, .int 0])).length) Slot.unset).toArray = ls at hl ⊢
  have hl : lv_has ls 2 [(0, .ref b), (1, .int 0)] := hl
  refine lv_iload_n hx hb dX0_cell_0 rfl (lv_at hl 1 rfl) ?_
  refine lv_aload_n hx hb dX0_cell_1 rfl (lv_at hl 0 rfl) ?_
  refine va_slen hx hb hX hbl (fun h => h) hS dX0_cell_2 ?_
  refine lv_icmp_ge (tgt := 12) hx hb dX0_cell_3 (by decide) (fun h1 => ?_) (fun h1 => ?_)
  · refine lv_iconst (v := 0) hx hb dX0_cell_12 (by decide) ?_
    have e : ¬ 0 < L := fun q => absurd h1 (nI_nle q (by omega))
    exact W.iret (v := 0) hx hb hr (fun t ht hW => ⟨⟨0, (), rfl, by rw [if_neg e], trivial⟩, hS.F ht⟩) hS.2.2 dX0_cell_13
  · have e : 0 < L := by
      rcases Nat.eq_zero_or_pos L with q | q
      · exact absurd (by rw [q]; decide) h1
      · exact q
    refine lv_aload_n hx hb dX0_cell_6 rfl (lv_at hl 0 rfl) ?_
    refine lv_iload_n hx hb dX0_cell_7 rfl (lv_at hl 1 rfl) ?_
    refine va_sld hx hb hX hbl (fun h => h) hS (show vp_in 0 L from vp_in_nI (n := 0) e (by omega)) dX0_cell_8 ?_
    refine lv_goto (tgt := 13) hx hb dX0_cell_9 (by decide) ?_
    exact W.iret (v := xs (0 : Int32).toNatClampNeg) hx hb hr (fun t ht hW => ⟨⟨_, (), rfl, by rw [if_pos e]; rfl, trivial⟩, hS.F ht⟩) hS.2.2 dX0_cell_13
theorem wd_at {ws ws' : va_W} (h : ws.map Prod.fst = ws'.map Prod.fst) (i : Nat) (p : Nat × va_E) (hp : ws'[i]? = some p) : ∃ p0, ws[i]? = some p0 ∧ p0.1 = p.1 := by
  have h1 : (ws'.map Prod.fst)[i]? = some p.1 := by rw [List.getElem?_map, hp]; rfl
  rw [← h, List.getElem?_map] at h1
  cases hi : ws[i]? with
  | none => rw [hi] at h1; cases h1
  | some p0 => rw [hi] at h1; exact ⟨p0, rfl, Option.some.inj h1⟩
theorem wd_addr {A : Nat → Prop} {ws ws' : va_W} (h : ws.map Prod.fst = ws'.map Prod.fst) (hD : va_D A ws) : va_D A ws' := by
  refine ⟨fun i j p q hp hq e => ?_, fun k q hq => ?_⟩
  · obtain ⟨p0, a1, a2⟩ := wd_at h i p hp
    obtain ⟨q0, b1, b2⟩ := wd_at h j q hq
    exact hD.1 i j p0 q0 a1 b1 (by rw [a2, b2, e])
  · obtain ⟨q0, b1, b2⟩ := wd_at h k q hq
    rw [← b2]
    exact hD.2 k q0 b1
theorem wl_at {wa wb : va_W} {i : Nat} {p : Nat × va_E} (h : wa[i]? = some p) : (wa ++ wb)[i]? = some p := by
  rw [List.getElem?_append_left (List.getElem?_eq_some_iff.mp h).1]
  exact h
theorem wr_at {wa wb : va_W} {i : Nat} {p : Nat × va_E} (h : wb[i]? = some p) : (wa ++ wb)[wa.length + i]? = some p := by
  rw [List.getElem?_append_right (by omega), show wa.length + i - wa.length = i by omega]
  exact h
theorem wd_left {A : Nat → Prop} {wa wb : va_W} (hD : va_D A (wa ++ wb)) : va_D A wa := ⟨fun i j p q hp hq e => hD.1 i j p q (wl_at hp) (wl_at hq) e, fun k q hq => hD.2 k q (wl_at hq)⟩
theorem wd_right {A : Nat → Prop} {wa wb : va_W} (hD : va_D A (wa ++ wb)) : va_D A wb := ⟨fun i j p q hp hq e => by
  have := hD.1 _ _ p q (wr_at hp) (wr_at hq) e
  omega, fun k q hq => hD.2 _ q (wr_at hq)⟩
theorem wd_cross {A : Nat → Prop} {wa wb : va_W} (hD : va_D A (wa ++ wb)) {i j : Nat} {p q : Nat × va_E} (hp : wa[i]? = some p) (hq : wb[j]? = some q) : p.1 ≠ q.1 := fun e => by
  have h1 := hD.1 _ _ p q (wl_at hp) (wr_at hq) e
  have h2 := (List.getElem?_eq_some_iff.mp hp).1
  omega
theorem wp_left {D : va_G} {cl : List vw_C} {wa wb : va_W} {H : Heap} (hP : va_P D cl (wa ++ wb) H) : va_P D cl wa H := fun k q hq => hP k q (wl_at hq)
theorem wp_right {D : va_G} {cl : List vw_C} {wa wb : va_W} {H : Heap} (hP : va_P D cl (wa ++ wb) H) : va_P D cl wb H := fun k q hq => hP _ q (wr_at hq)
theorem wp_swap {D : va_G} {cl : List vw_C} {wa wb : va_W} {H : Heap} (hP : va_P D cl (wa ++ wb) H) : va_P D cl (wb ++ wa) H := (wp_right hP).app (wp_left hP)
theorem wd_swap {A : Nat → Prop} {wa wb : va_W} (hD : va_D A (wa ++ wb)) : va_D A (wb ++ wa) := va_D.app (wd_right hD) (wd_left hD) (fun _ _ _ _ hp hq e => wd_cross hD hq hp e.symm)
section XL
variable {σ : Type} {x : XG σ} {p : Program} {l : Launch} {e : Env} {R : Room} {s : State} {m : MethodId} {args : Array Value} {below : List Frame} {meth : Method} {c : Code} {H : Heap} {locs : List Loc} {cells slots : Nat} {Q : State → Prop} {cc : ByteArray} {pc : Nat} {ls : Array Slot} {rest : List Value}
set_option maxHeartbeats 4000000 in
/-- a call on one world, another one beside it -/
theorem xl_calli {A : Nat → Prop} {wr : va_W} {u v : σ} {r : Int32} {y : MethodName} {bytes : ByteArray} {maxL nL n index d b : Nat} {ty : FieldType} {own C : String} {As st : List Value} (S : CallFix p m c cc nL s args lw_all own)
    (hP : va_P x.1 vwCl (x.2.2.2 u ++ wr) H) (hK : va_K x.1 vwCl x.2.1 s) (hD : va_D A (x.2.2.2 u ++ wr)) (hS : va_S A s.heap H locs) (had : ∀ v, (x.2.2.2 v).map Prod.fst = x.2.2.1) (hM : MI x l y bytes maxL ty d (.ref b :: As) u (fun r' u' => r' = r ∧ u' = v))
    (cw : CallW R s args own C index y bytes maxL (some ty) (ws_ y bytes maxL (some ty)) (rmd d) 0 0 n) (hrec : ∃ cellB : Cell, H[b]? = some cellB ∧ cellB.vm.isStatics = false ∧ s.vm.findClass C = some cellB.cls)
    (hn : As.length = n) (hsz : ls.size = nL) (hst : st = As.reverse ++ .ref b :: rest) (hW : (rest.map fun v => v.category).sum ≤ 8) (hdg : decode cc pc = .ok (.invokevirtual index, 3)) (hf : cells ≤ R.cells ∧ slots ≤ R.slots)
    (kk : ∀ (H1 : Heap) (locs1 : List Loc), va_P x.1 vwCl (x.2.2.2 v ++ wr) H1 → va_D A (x.2.2.2 v ++ wr) → va_S A s.heap H1 locs1 → W p l e R s m args below meth c H1 locs1 cells slots Q (F0 m (pc + 3) ls (.int r :: rest))) : W p l e R s m args below meth c H locs cells slots Q (F0 m pc ls st) := by
  have hDl := wd_left hD
  have hDx : va_D (XA x.2.2.1) (x.2.2.2 u) := ⟨hDl.1, fun k q hk => by
    show q.1 ∈ x.2.2.1
    rw [← had u]
    exact List.mem_map_of_mem (List.mem_of_getElem? hk)⟩
  have hin : ∀ q, XA x.2.2.1 q → A q := by
    intro q hq
    have hq : q ∈ (x.2.2.2 u).map Prod.fst := by rw [had u]; exact hq
    obtain ⟨c0, h1, h2⟩ := List.mem_map.mp hq
    obtain ⟨k, hk⟩ := List.getElem?_of_mem h1
    rw [← h2]
    exact hDl.2 k c0 hk
  have hrun := va_runV (H := H) (locs := locs) (cells := cells) (slots := slots) (e := e) (below := below) (meth := meth) (g := F0 m pc ls st) (As := As) (rest := rest) S hM cw ⟨XB_blind x u _, hrec, fun U hU hW => ⟨rfl, by rw [hU]; exact wp_left hP, va_K.moved hW.alike hK, hDx⟩⟩ rfl hn hsz hst (lv_room hW) hdg hf
  refine va_calli hrun hS (fun q _ h => hin q h) hin (fun r' u' t H1 locs1 ht hvm hp hB hz hk hS1 => ?_)
  have e1 : r' = r := hp.1
  have e2 : u' = v := hp.2
  rw [e1]
  rw [e2] at hB
  refine kk H1 locs1 ?_ ?_ hS1
  · have h1 : va_P x.1 vwCl (x.2.2.2 v) H1 := by rw [← ht]; exact hB.1
    refine h1.app ((wp_right hP).kept (fun k q hq => hk q.1 ((wp_right hP) k q hq).lt ?_))
    intro hx
    have hx : q.1 ∈ (x.2.2.2 u).map Prod.fst := by rw [had u]; exact hx
    obtain ⟨c0, h1, h2⟩ := List.mem_map.mp hx
    obtain ⟨j, hj⟩ := List.getElem?_of_mem h1
    exact wd_cross hD hj hq h2
  · refine wd_addr ?_ hD
    rw [List.map_append, List.map_append, had u, had v]
end XL
/-- both are new -/
theorem JJ_new {n : Nat} (hn : n ≤ 9) : JJ (z1 n) (z2 n) := by
  refine ⟨⟨hn, ?_, ⟨?_, ?_, ?_, ?_⟩, ?_⟩, rfl, fun _ _ => rfl⟩
  · intro u _ v h
    have h : bt 0 v = true := h
    rw [b_0] at h; cases h
  · intro u _ v h
    have h : bt 0 v = true := h
    rw [b_0] at h; cases h
  · intro u v _ h
    exact h
  · intro u v w _ h
    have h : bt 0 v = true := h
    rw [b_0] at h; cases h
  · intro R _ _ u v _ h
    have h : bt 0 v = true := h
    rw [b_0] at h; cases h
  · intro u _
    exact b_0 u
theorem law_in {L i : Nat} (hL : L ≤ 193) (hi : i ≤ 200) (h : ¬ (Int32.ofNat L - 3 < nI i)) : i + 3 ≤ L := by
  have e1 : (nI L - nI 3).toInt = (L : Int) - (3 : Nat) := pk_sub_toInt (by omega) (by omega)
  have e2 : (nI i).toInt = (i : Int) := nI_toInt (by omega)
  have h : ¬ (nI L - nI 3 < nI i) := h
  rw [Int32.lt_iff_toInt_lt, e1, e2] at h
  omega
end
section
/-! THE CLAIM OUT OF ONE WALK OF THE LAW'S BODY. Your part is whole_start (and what it stands on); all else here is the same for every law, but numbers. -/
def R_law : String := "CoffmanGrahamLaw"
def lw_P (b : Addr) (xs : List Int32) (args : Array Value) (s : State) : Prop := args = #[.ref b] ∧ s.IntsAt b xs ∧ xs.length ≤ 193 ∧ (Jvm.Cond.and given_1 narrow_1).before args s = true
def lw_Q (_ : Array Value) (s : State) (o : Outcome) (t : State) : Prop := o = .returned (some (.int 1)) ∧ Framed s o t [] 600000 7290000
def lw_Z (below : List Frame) (a : Array Value) (s : State) : State → Prop := fun t => ∃ o, t.status = .running ∧ Ended t below o ∧ lw_Q a s o t
/-- the law's own end, with 1 on the stack, nothing written that was there before, its room as the claim has it -/
theorem lw_ret {p : Program} {l : Launch} {e : Env} {s : State} {m : MethodId} {below : List Frame} {meth : Method} {c : Code} {b : Nat} (hx : p.tables.exec = Jvm.exec) (hb : c.code = code) (hr : meth.sig.returnType = ret) (hlocks : meth.locks = false) {pc : Nat} {H : Heap} {ls : Array Slot} (hdg : decode code pc = .ok (.ireturn, 1)) : W p l e room_1 s m #[Value.ref b] below meth c H [] 600000 7290000 (lw_Z below #[Value.ref b] s) (F0 m pc ls [.int 1]) := by
  intro T hT X
  obtain ⟨fs, hret, hrun, hended, hW, hframe⟩ := X.leave (v := some (.int 1)) (hlocks := hlocks) (fun h => by rw [hr] at h; cases h)
  have hmeth' : T.vm.method? m = some meth := X.method'
  refine ⟨T.setFrames fs, ?_, .returned (some (.int 1)), hrun, hended, rfl, ⟨_, rfl⟩, hW, hframe⟩
  jvm_step X.here [X.here.top, hx, hb, hdg, hmeth', hr, ret, narrow_b1]
  (try refine ⟨rfl, ?_⟩); (try refine ⟨rfl, ?_⟩)
  first | (intro acts; rw [hret _ acts rfl rfl rfl]) | rw [hret _ _ rfl rfl rfl]
  exact Steps.refl _
/-- what holds at the law's entry: the machine, the code, the tables' words (any of lw_tbl by 'hts w (by decide +kernel)'), the script of L ints xs at the cell b, what the Statement gives of the start (any of its parts by flat_of_before) -/
def lw_At (p : Program) (s : State) (m : MethodId) (meth : Method) (c : Code) (b L : Nat) (xs : Nat → Int32) : Prop :=
  p.tables.exec = Jvm.exec ∧ c.code = code ∧ meth.sig.returnType = ret ∧ c.maxLocals = 4 ∧ s.vm.findClass R_law = some m.cls ∧ (∀ w ∈ lw_tbl, w.before #[Value.ref b] s = true) ∧ va_X b L xs s s.heap ∧ b < s.heap.size ∧ meth.locks = false ∧ (Jvm.Cond.and given_1 narrow_1).before #[Value.ref b] s = true
end
section
/-! the law: its calls, its loop, its start -/
theorem cwL1_addTask {s : State} {args : Array Value} (hts : ∀ w ∈ lw_all, w.before args s = true) : CallW room_1 s args RX0 RX1 21 yX1_addTask cX1_addTask 1 (some .int) (ws_ yX1_addTask cX1_addTask 1 (some .int)) (rmd 1) 0 0 0 := cwV 0 hts (lw_V q51 q52 q53 q20 q54) rfl rfl rfl (by decide +kernel) ⟨by decide, by decide⟩
theorem cwL1_removeTask {s : State} {args : Array Value} (hts : ∀ w ∈ lw_all, w.before args s = true) : CallW room_1 s args RX0 RX1 26 yX1_removeTask cX1_removeTask 4 (some .int) (ws_ yX1_removeTask cX1_removeTask 4 (some .int)) (rmd 1) 0 0 1 := cwV 1 hts (lw_V q59 q60 q61 q20 q62) rfl rfl rfl (by decide +kernel) ⟨by decide, by decide⟩
theorem cwL1_addOrder {s : State} {args : Array Value} (hts : ∀ w ∈ lw_all, w.before args s = true) : CallW room_1 s args RX0 RX1 31 yX1_addOrder cX1_addOrder 5 (some .int) (ws_ yX1_addOrder cX1_addOrder 5 (some .int)) (rmd 1) 0 0 2 := cwV 2 hts (lw_V q67 q68 q69 q20 q70) rfl rfl rfl (by decide +kernel) ⟨by decide, by decide⟩
theorem cwL1_removeOrder {s : State} {args : Array Value} (hts : ∀ w ∈ lw_all, w.before args s = true) : CallW room_1 s args RX0 RX1 36 yX1_removeOrder cX1_removeOrder 3 (some .int) (ws_ yX1_removeOrder cX1_removeOrder 3 (some .int)) (rmd 1) 0 0 2 := cwV 2 hts (lw_V q71 q72 q73 q20 q74) rfl rfl rfl (by decide +kernel) ⟨by decide, by decide⟩
theorem cwL1_tasks {s : State} {args : Array Value} (hts : ∀ w ∈ lw_all, w.before args s = true) : CallW room_1 s args RX0 RX1 40 yX1_tasks cX1_tasks 1 (some .int) (ws_ yX1_tasks cX1_tasks 1 (some .int)) (rmd 0) 0 0 0 := cwV 0 hts (lw_V q75 q76 q77 q20 q78) rfl rfl rfl (by decide +kernel) ⟨by decide, by decide⟩
theorem cwL1_after {s : State} {args : Array Value} (hts : ∀ w ∈ lw_all, w.before args s = true) : CallW room_1 s args RX0 RX1 44 yX1_after cX1_after 3 (some .boolean) (ws_ yX1_after cX1_after 3 (some .boolean)) (rmd 1) 0 0 2 := cwV 2 hts (lw_V q79 q80 q81 q20 q82) rfl rfl rfl (by decide +kernel) ⟨by decide, by decide⟩
theorem cwL1_height {s : State} {args : Array Value} (hts : ∀ w ∈ lw_all, w.before args s = true) : CallW room_1 s args RX0 RX1 49 yX1_height cX1_height 2 (some .int) (ws_ yX1_height cX1_height 2 (some .int)) (rmd 1) 0 0 1 := cwV 1 hts (lw_V q83 q84 q85 q20 q86) rfl rfl rfl (by decide +kernel) ⟨by decide, by decide⟩
theorem cwL1_superfluous {s : State} {args : Array Value} (hts : ∀ w ∈ lw_all, w.before args s = true) : CallW room_1 s args RX0 RX1 53 yX1_superfluous cX1_superfluous 4 (some .int) (ws_ yX1_superfluous cX1_superfluous 4 (some .int)) (rmd 1) 0 0 0 := cwV 0 hts (lw_V q91 q92 q93 q20 q94) rfl rfl rfl (by decide +kernel) ⟨by decide, by decide⟩
theorem cwL1_inTrees {s : State} {args : Array Value} (hts : ∀ w ∈ lw_all, w.before args s = true) : CallW room_1 s args RX0 RX1 57 yX1_inTrees cX1_inTrees 3 (some .boolean) (ws_ yX1_inTrees cX1_inTrees 3 (some .boolean)) (rmd 1) 0 0 0 := cwV 0 hts (lw_V q103 q104 q105 q20 q106) rfl rfl rfl (by decide +kernel) ⟨by decide, by decide⟩
theorem cwL1_shortest {s : State} {args : Array Value} (hts : ∀ w ∈ lw_all, w.before args s = true) : CallW room_1 s args RX0 RX1 62 yX1_shortest cX1_shortest 2 (some .int) (ws_ yX1_shortest cX1_shortest 2 (some .int)) (rmd 3) 0 0 1 := cwV 1 hts (lw_V q107 q108 q109 q20 q110) rfl rfl rfl (by decide +kernel) ⟨by decide, by decide⟩
theorem cwL1_without {s : State} {args : Array Value} (hts : ∀ w ∈ lw_all, w.before args s = true) : CallW room_1 s args RX0 RX1 66 yX1_without cX1_without 4 (some .int) (ws_ yX1_without cX1_without 4 (some .int)) (rmd 3) 0 0 1 := cwV 1 hts (lw_V q136 q137 q138 q20 q139) rfl rfl rfl (by decide +kernel) ⟨by decide, by decide⟩
theorem cwL2_addTask {s : State} {args : Array Value} (hts : ∀ w ∈ lw_all, w.before args s = true) : CallW room_1 s args RX0 RX2 25 yX2_addTask cX2_addTask 1 (some .int) (ws_ yX2_addTask cX2_addTask 1 (some .int)) (rmd 1) 0 0 0 := cwV 0 hts (lw_V q162 q163 q164 q21 q165) rfl rfl rfl (by decide +kernel) ⟨by decide, by decide⟩
theorem cwL2_removeTask {s : State} {args : Array Value} (hts : ∀ w ∈ lw_all, w.before args s = true) : CallW room_1 s args RX0 RX2 30 yX2_removeTask cX2_removeTask 3 (some .int) (ws_ yX2_removeTask cX2_removeTask 3 (some .int)) (rmd 1) 0 0 1 := cwV 1 hts (lw_V q166 q167 q168 q21 q169) rfl rfl rfl (by decide +kernel) ⟨by decide, by decide⟩
theorem cwL2_addOrder {s : State} {args : Array Value} (hts : ∀ w ∈ lw_all, w.before args s = true) : CallW room_1 s args RX0 RX2 35 yX2_addOrder cX2_addOrder 3 (some .int) (ws_ yX2_addOrder cX2_addOrder 3 (some .int)) (rmd 2) 0 0 2 := cwV 2 hts (lw_V q178 q179 q180 q21 q181) rfl rfl rfl (by decide +kernel) ⟨by decide, by decide⟩
theorem cwL2_removeOrder {s : State} {args : Array Value} (hts : ∀ w ∈ lw_all, w.before args s = true) : CallW room_1 s args RX0 RX2 39 yX2_removeOrder cX2_removeOrder 3 (some .int) (ws_ yX2_removeOrder cX2_removeOrder 3 (some .int)) (rmd 1) 0 0 2 := cwV 2 hts (lw_V q190 q191 q192 q21 q193) rfl rfl rfl (by decide +kernel) ⟨by decide, by decide⟩
theorem cwL2_tasks {s : State} {args : Array Value} (hts : ∀ w ∈ lw_all, w.before args s = true) : CallW room_1 s args RX0 RX2 43 yX2_tasks cX2_tasks 1 (some .int) (ws_ yX2_tasks cX2_tasks 1 (some .int)) (rmd 0) 0 0 0 := cwV 0 hts (lw_V q194 q195 q196 q21 q197) rfl rfl rfl (by decide +kernel) ⟨by decide, by decide⟩
theorem cwL2_after {s : State} {args : Array Value} (hts : ∀ w ∈ lw_all, w.before args s = true) : CallW room_1 s args RX0 RX2 48 yX2_after cX2_after 3 (some .boolean) (ws_ yX2_after cX2_after 3 (some .boolean)) (rmd 2) 0 0 2 := cwV 2 hts (lw_V q198 q199 q200 q21 q201) rfl rfl rfl (by decide +kernel) ⟨by decide, by decide⟩
theorem cwL2_height {s : State} {args : Array Value} (hts : ∀ w ∈ lw_all, w.before args s = true) : CallW room_1 s args RX0 RX2 52 yX2_height cX2_height 6 (some .int) (ws_ yX2_height cX2_height 6 (some .int)) (rmd 1) 0 0 1 := cwV 1 hts (lw_V q202 q203 q204 q21 q205) rfl rfl rfl (by decide +kernel) ⟨by decide, by decide⟩
theorem cwL2_superfluous {s : State} {args : Array Value} (hts : ∀ w ∈ lw_all, w.before args s = true) : CallW room_1 s args RX0 RX2 56 yX2_superfluous cX2_superfluous 4 (some .int) (ws_ yX2_superfluous cX2_superfluous 4 (some .int)) (rmd 2) 0 0 0 := cwV 0 hts (lw_V q206 q207 q208 q21 q209) rfl rfl rfl (by decide +kernel) ⟨by decide, by decide⟩
theorem cwL2_inTrees {s : State} {args : Array Value} (hts : ∀ w ∈ lw_all, w.before args s = true) : CallW room_1 s args RX0 RX2 61 yX2_inTrees cX2_inTrees 4 (some .boolean) (ws_ yX2_inTrees cX2_inTrees 4 (some .boolean)) (rmd 2) 0 0 0 := cwV 0 hts (lw_V q214 q215 q216 q21 q217) rfl rfl rfl (by decide +kernel) ⟨by decide, by decide⟩
theorem cwL2_shortest {s : State} {args : Array Value} (hts : ∀ w ∈ lw_all, w.before args s = true) : CallW room_1 s args RX0 RX2 65 yX2_shortest cX2_shortest 2 (some .int) (ws_ yX2_shortest cX2_shortest 2 (some .int)) (rmd 3) 0 0 1 := cwV 1 hts (lw_V q218 q219 q220 q21 q221) rfl rfl rfl (by decide +kernel) ⟨by decide, by decide⟩
theorem cwL2_without {s : State} {args : Array Value} (hts : ∀ w ∈ lw_all, w.before args s = true) : CallW room_1 s args RX0 RX2 69 yX2_without cX2_without 2 (some .int) (ws_ yX2_without cX2_without 2 (some .int)) (rmd 3) 0 0 1 := cwV 1 hts (lw_V q235 q236 q237 q21 q238) rfl rfl rfl (by decide +kernel) ⟨by decide, by decide⟩
def LI (D : va_G) (a1 : Nat → Nat) (k1 : Nat → ClassId) (a2 : Nat → Nat) (k2 : Nat → ClassId) (s : State) (u1 : S1) (u2 : S2) (H : Heap) (locs : List Loc) : Prop := va_P D vwCl (w1 (D, a1, k1) u1 ++ w2 (D, a2, k2) u2) H ∧ va_D (fun q : Nat => s.heap.size ≤ q) (w1 (D, a1, k1) u1 ++ w2 (D, a2, k2) u2) ∧ va_S (fun q : Nat => s.heap.size ≤ q) s.heap H locs
set_option maxHeartbeats 8000000 in
set_option maxRecDepth 100000 in
theorem law_loop {p : Program} {l : Launch} {e : Env} {s : State} {m : MethodId} {below : List Frame} {meth : Method} {c : Code} {D : va_G} {a1 : Nat → Nat} {k1 : Nat → ClassId} {a2 : Nat → Nat} {k2 : Nat → ClassId} {b L : Nat} {xs : Nat → Int32} (hL : L ≤ 193) (C0 : lw_At p s m meth c b L xs) (hK1 : va_K D vwCl (x1 (D, a1, k1)).2.1 s) (hK2 : va_K D vwCl (x2 (D, a2, k2)).2.1 s) :
    ∀ (n i : Nat), i ≤ L + 3 → L + 3 < i + n → ∀ (u1 : S1) (u2 : S2), JJ u1 u2 → ∀ (H : Heap) (locs : List Loc), LI D a1 k1 a2 k2 s u1 u2 H locs → ∀ (ls : Array Slot), lv_has ls 4 [(0, .ref b), (1, .ref (a1 0)), (2, .ref (a2 0)), (3, .int (nI i))] → W p l e room_1 s m #[Value.ref b] below meth c H locs 9 576 (lw_Z below #[Value.ref b] s) (F0 m 28 ls []) := by
  obtain ⟨hx, hb, hr, hml, hown, hts0, hX, hbl, hlocks, hgv⟩ := C0
  have hts : ∀ w ∈ lw_all, w.before #[Value.ref b] s = true := fun w h => hts0 w (lw_all_tbl h)
  have hbA : ¬ (fun q : Nat => s.heap.size ≤ q) b := Nat.not_le.mpr hbl
  have S : CallFix p m c code 4 s #[Value.ref b] lw_all RX0 := ⟨hx, hb, hml, hown, hts⟩
  intro n
  induction n with
  | zero =>
    intro i h1 h2
    exact absurd h2 (by omega)
  | succ n ih =>
    intro i hi hin u1 u2 hJ H locs I ls hl
    obtain ⟨hP, hD, hS⟩ := I
    refine lv_iload_n hx hb dL_law_28 rfl (lv_at hl 3 rfl) ?_
    refine lv_aload_n hx hb dL_law_29 rfl (lv_at hl 0 rfl) ?_
    refine va_slen hx hb hX hbl hbA hS dL_law_30 ?_
    refine lv_iconst (v := 3) hx hb dL_law_31 (by decide) ?_
    refine lv_isub hx hb dL_law_32 ?_
    refine lv_icmp_gt (tgt := 349) hx hb dL_law_33 (by decide) (fun c_33 => ?_) (fun c_33 => ?_)
    · refine lv_iconst (v := 1) hx hb dL_law_349 (by decide) ?_
      refine va_forget (fun q hq => hS.2.2 q hq) ?_
      refine W.widen (k := 600000) (n := 7290000) (by decide) (by decide) ?_
      exact lw_ret hx hb hr hlocks dL_law_350
    · have hi3 : i + 3 ≤ L := law_in hL (by omega) c_33
      have in0 : vp_in (nI i) L := vp_in_nI (by omega) (by omega)
      have in1 : vp_in (nI (i + 1)) L := vp_in_nI (by omega) (by omega)
      have in2 : vp_in (nI (i + 2)) L := vp_in_nI (by omega) (by omega)
      have next : ∀ (v1 : S1) (v2 : S2), JJ v1 v2 → ∀ (H : Heap) (locs : List Loc), LI D a1 k1 a2 k2 s v1 v2 H locs → W p l e room_1 s m #[Value.ref b] below meth c H locs 9 576 (lw_Z below #[Value.ref b] s) (F0 m 343 ls []) := by
        intro v1 v2 hJ2 H locs I2
        refine lv_iinc (v := nI (i + 3)) (lv' := [(3, .int (nI (i + 3))), (0, .ref b), (1, .ref (a1 0)), (2, .ref (a2 0))]) hx hb dL_law_343 hl (k := 3) rfl (by rw [show Int32.ofInt 3 = nI 3 by decide]; exact nI_add i 3) (by decide) rfl (fun ls hl => ?_)
        refine lv_goto (tgt := 28) hx hb dL_law_346 (by decide) ?_
        exact ih (i + 3) (by omega) (by omega) v1 v2 hJ2 H locs I2 ls (lv_sub hl [1, 2, 3, 0] rfl)
      refine lv_aload_n hx hb dL_law_36 rfl (lv_at hl 0 rfl) ?_
      refine lv_iload_n hx hb dL_law_37 rfl (lv_at hl 3 rfl) ?_
      refine va_sld hx hb hX hbl hbA hS in0 dL_law_38 ?_
      refine lv_bipush (v := 15) hx hb dL_law_39 (by decide) ?_
      refine lv_iand hx hb dL_law_41 ?_
      obtain ⟨j, hj, ej⟩ := pk_andE (xs (nI i).toNatClampNeg) (m := 15) 4 (by decide)
      refine x_top ej ?_
      obtain ⟨V1, eV1⟩ : ∃ z : Int32, xs (nI (i + 1)).toNatClampNeg = z := ⟨_, rfl⟩
      obtain ⟨V2, eV2⟩ : ∃ z : Int32, xs (nI (i + 2)).toNatClampNeg = z := ⟨_, rfl⟩
      rcases (show j = 0 ∨ j = 1 ∨ j = 2 ∨ j = 3 ∨ j = 4 ∨ j = 5 ∨ j = 6 ∨ j = 7 ∨ j = 8 ∨ j = 9 ∨ j = 10 ∨ 11 ≤ j by omega) with rfl | rfl | rfl | rfl | rfl | rfl | rfl | rfl | rfl | rfl | rfl | hj11
      · refine lv_tableIn (off := 58) (tgt := 100) hx hb dL_law_42 (by decide) (by decide) (by decide +kernel) (by decide) ?_
        obtain ⟨r, v1, v2, hJ2, M1, M2⟩ := pr_addTask (l := l) (g1 := (D, a1, k1)) (g2 := (D, a2, k2)) hJ
        refine lv_aload_n hx hb dL_law_100 rfl (lv_at hl 1 rfl) ?_
        refine xl_calli (x := x1 (D, a1, k1)) (wr := w2 (D, a2, k2) u2) (As := []) (rest := []) S hP hK1 hD hS (fun _ => rfl) M1 (cwL1_addTask hts) (va_recv hK1 (wp_left hP) (ci := 0) (q0 := 0) rfl rfl) rfl hl.1 rfl (Nat.le_of_ble_eq_true rfl) dL_law_101 ⟨by decide, by decide⟩ (fun H locs hP hD hS => ?_)
        refine lv_aload_n hx hb dL_law_104 rfl (lv_at hl 2 rfl) ?_
        have hP := wp_swap hP
        have hD := wd_swap hD
        refine xl_calli (x := x2 (D, a2, k2)) (wr := w1 (D, a1, k1) v1) (As := []) (rest := [.int r]) S hP hK2 hD hS (fun _ => rfl) M2 (cwL2_addTask hts) (va_recv hK2 (wp_left hP) (ci := 1) (q0 := 0) rfl rfl) rfl hl.1 rfl (Nat.le_of_ble_eq_true rfl) dL_law_105 ⟨by decide, by decide⟩ (fun H locs hP hD hS => ?_)
        refine lv_icmp_eq (tgt := 343) hx hb dL_law_108 (by decide) (fun _ => ?_) (fun h => absurd rfl h)
        exact next v1 v2 hJ2 H locs ⟨wp_swap hP, wd_swap hD, hS⟩
      · refine lv_tableIn (off := 71) (tgt := 113) hx hb dL_law_42 (by decide) (by decide) (by decide +kernel) (by decide) ?_
        obtain ⟨r, v1, v2, hJ2, M1, M2⟩ := pr_removeTask (l := l) (g1 := (D, a1, k1)) (g2 := (D, a2, k2)) hJ V1
        refine lv_aload_n hx hb dL_law_113 rfl (lv_at hl 1 rfl) ?_
        refine lv_aload_n hx hb dL_law_114 rfl (lv_at hl 0 rfl) ?_
        refine lv_iload_n hx hb dL_law_115 rfl (lv_at hl 3 rfl) ?_
        refine lv_iconst (v := 1) hx hb dL_law_116 (by decide) ?_
        refine lv_iadd hx hb dL_law_117 ?_
        refine x_top (v := nI (i + 1)) (nI_1 i) ?_
        refine va_sld hx hb hX hbl hbA hS in1 dL_law_118 ?_
        refine x_top eV1 ?_
        refine xl_calli (x := x1 (D, a1, k1)) (wr := w2 (D, a2, k2) u2) (As := [.int V1]) (rest := []) S hP hK1 hD hS (fun _ => rfl) M1 (cwL1_removeTask hts) (va_recv hK1 (wp_left hP) (ci := 0) (q0 := 0) rfl rfl) rfl hl.1 rfl (Nat.le_of_ble_eq_true rfl) dL_law_119 ⟨by decide, by decide⟩ (fun H locs hP hD hS => ?_)
        refine lv_aload_n hx hb dL_law_122 rfl (lv_at hl 2 rfl) ?_
        refine lv_aload_n hx hb dL_law_123 rfl (lv_at hl 0 rfl) ?_
        refine lv_iload_n hx hb dL_law_124 rfl (lv_at hl 3 rfl) ?_
        refine lv_iconst (v := 1) hx hb dL_law_125 (by decide) ?_
        refine lv_iadd hx hb dL_law_126 ?_
        refine x_top (v := nI (i + 1)) (nI_1 i) ?_
        refine va_sld hx hb hX hbl hbA hS in1 dL_law_127 ?_
        refine x_top eV1 ?_
        have hP := wp_swap hP
        have hD := wd_swap hD
        refine xl_calli (x := x2 (D, a2, k2)) (wr := w1 (D, a1, k1) v1) (As := [.int V1]) (rest := [.int r]) S hP hK2 hD hS (fun _ => rfl) M2 (cwL2_removeTask hts) (va_recv hK2 (wp_left hP) (ci := 1) (q0 := 0) rfl rfl) rfl hl.1 rfl (Nat.le_of_ble_eq_true rfl) dL_law_128 ⟨by decide, by decide⟩ (fun H locs hP hD hS => ?_)
        refine lv_icmp_eq (tgt := 343) hx hb dL_law_131 (by decide) (fun _ => ?_) (fun h => absurd rfl h)
        exact next v1 v2 hJ2 H locs ⟨wp_swap hP, wd_swap hD, hS⟩
      · refine lv_tableIn (off := 94) (tgt := 136) hx hb dL_law_42 (by decide) (by decide) (by decide +kernel) (by decide) ?_
        obtain ⟨r, v1, v2, hJ2, M1, M2⟩ := pr_addOrder (l := l) (g1 := (D, a1, k1)) (g2 := (D, a2, k2)) hJ V1 V2
        refine lv_aload_n hx hb dL_law_136 rfl (lv_at hl 1 rfl) ?_
        refine lv_aload_n hx hb dL_law_137 rfl (lv_at hl 0 rfl) ?_
        refine lv_iload_n hx hb dL_law_138 rfl (lv_at hl 3 rfl) ?_
        refine lv_iconst (v := 1) hx hb dL_law_139 (by decide) ?_
        refine lv_iadd hx hb dL_law_140 ?_
        refine x_top (v := nI (i + 1)) (nI_1 i) ?_
        refine va_sld hx hb hX hbl hbA hS in1 dL_law_141 ?_
        refine x_top eV1 ?_
        refine lv_aload_n hx hb dL_law_142 rfl (lv_at hl 0 rfl) ?_
        refine lv_iload_n hx hb dL_law_143 rfl (lv_at hl 3 rfl) ?_
        refine lv_iconst (v := 2) hx hb dL_law_144 (by decide) ?_
        refine lv_iadd hx hb dL_law_145 ?_
        refine x_top (v := nI (i + 2)) (nI_add i 2) ?_
        refine va_sld hx hb hX hbl hbA hS in2 dL_law_146 ?_
        refine x_top eV2 ?_
        refine xl_calli (x := x1 (D, a1, k1)) (wr := w2 (D, a2, k2) u2) (As := [.int V1, .int V2]) (rest := []) S hP hK1 hD hS (fun _ => rfl) M1 (cwL1_addOrder hts) (va_recv hK1 (wp_left hP) (ci := 0) (q0 := 0) rfl rfl) rfl hl.1 rfl (Nat.le_of_ble_eq_true rfl) dL_law_147 ⟨by decide, by decide⟩ (fun H locs hP hD hS => ?_)
        refine lv_aload_n hx hb dL_law_150 rfl (lv_at hl 2 rfl) ?_
        refine lv_aload_n hx hb dL_law_151 rfl (lv_at hl 0 rfl) ?_
        refine lv_iload_n hx hb dL_law_152 rfl (lv_at hl 3 rfl) ?_
        refine lv_iconst (v := 1) hx hb dL_law_153 (by decide) ?_
        refine lv_iadd hx hb dL_law_154 ?_
        refine x_top (v := nI (i + 1)) (nI_1 i) ?_
        refine va_sld hx hb hX hbl hbA hS in1 dL_law_155 ?_
        refine x_top eV1 ?_
        refine lv_aload_n hx hb dL_law_156 rfl (lv_at hl 0 rfl) ?_
        refine lv_iload_n hx hb dL_law_157 rfl (lv_at hl 3 rfl) ?_
        refine lv_iconst (v := 2) hx hb dL_law_158 (by decide) ?_
        refine lv_iadd hx hb dL_law_159 ?_
        refine x_top (v := nI (i + 2)) (nI_add i 2) ?_
        refine va_sld hx hb hX hbl hbA hS in2 dL_law_160 ?_
        refine x_top eV2 ?_
        have hP := wp_swap hP
        have hD := wd_swap hD
        refine xl_calli (x := x2 (D, a2, k2)) (wr := w1 (D, a1, k1) v1) (As := [.int V1, .int V2]) (rest := [.int r]) S hP hK2 hD hS (fun _ => rfl) M2 (cwL2_addOrder hts) (va_recv hK2 (wp_left hP) (ci := 1) (q0 := 0) rfl rfl) rfl hl.1 rfl (Nat.le_of_ble_eq_true rfl) dL_law_161 ⟨by decide, by decide⟩ (fun H locs hP hD hS => ?_)
        refine lv_icmp_eq (tgt := 343) hx hb dL_law_164 (by decide) (fun _ => ?_) (fun h => absurd rfl h)
        exact next v1 v2 hJ2 H locs ⟨wp_swap hP, wd_swap hD, hS⟩
      · refine lv_tableIn (off := 127) (tgt := 169) hx hb dL_law_42 (by decide) (by decide) (by decide +kernel) (by decide) ?_
        obtain ⟨r, v1, v2, hJ2, M1, M2⟩ := pr_removeOrder (l := l) (g1 := (D, a1, k1)) (g2 := (D, a2, k2)) hJ V1 V2
        refine lv_aload_n hx hb dL_law_169 rfl (lv_at hl 1 rfl) ?_
        refine lv_aload_n hx hb dL_law_170 rfl (lv_at hl 0 rfl) ?_
        refine lv_iload_n hx hb dL_law_171 rfl (lv_at hl 3 rfl) ?_
        refine lv_iconst (v := 1) hx hb dL_law_172 (by decide) ?_
        refine lv_iadd hx hb dL_law_173 ?_
        refine x_top (v := nI (i + 1)) (nI_1 i) ?_
        refine va_sld hx hb hX hbl hbA hS in1 dL_law_174 ?_
        refine x_top eV1 ?_
        refine lv_aload_n hx hb dL_law_175 rfl (lv_at hl 0 rfl) ?_
        refine lv_iload_n hx hb dL_law_176 rfl (lv_at hl 3 rfl) ?_
        refine lv_iconst (v := 2) hx hb dL_law_177 (by decide) ?_
        refine lv_iadd hx hb dL_law_178 ?_
        refine x_top (v := nI (i + 2)) (nI_add i 2) ?_
        refine va_sld hx hb hX hbl hbA hS in2 dL_law_179 ?_
        refine x_top eV2 ?_
        refine xl_calli (x := x1 (D, a1, k1)) (wr := w2 (D, a2, k2) u2) (As := [.int V1, .int V2]) (rest := []) S hP hK1 hD hS (fun _ => rfl) M1 (cwL1_removeOrder hts) (va_recv hK1 (wp_left hP) (ci := 0) (q0 := 0) rfl rfl) rfl hl.1 rfl (Nat.le_of_ble_eq_true rfl) dL_law_180 ⟨by decide, by decide⟩ (fun H locs hP hD hS => ?_)
        refine lv_aload_n hx hb dL_law_183 rfl (lv_at hl 2 rfl) ?_
        refine lv_aload_n hx hb dL_law_184 rfl (lv_at hl 0 rfl) ?_
        refine lv_iload_n hx hb dL_law_185 rfl (lv_at hl 3 rfl) ?_
        refine lv_iconst (v := 1) hx hb dL_law_186 (by decide) ?_
        refine lv_iadd hx hb dL_law_187 ?_
        refine x_top (v := nI (i + 1)) (nI_1 i) ?_
        refine va_sld hx hb hX hbl hbA hS in1 dL_law_188 ?_
        refine x_top eV1 ?_
        refine lv_aload_n hx hb dL_law_189 rfl (lv_at hl 0 rfl) ?_
        refine lv_iload_n hx hb dL_law_190 rfl (lv_at hl 3 rfl) ?_
        refine lv_iconst (v := 2) hx hb dL_law_191 (by decide) ?_
        refine lv_iadd hx hb dL_law_192 ?_
        refine x_top (v := nI (i + 2)) (nI_add i 2) ?_
        refine va_sld hx hb hX hbl hbA hS in2 dL_law_193 ?_
        refine x_top eV2 ?_
        have hP := wp_swap hP
        have hD := wd_swap hD
        refine xl_calli (x := x2 (D, a2, k2)) (wr := w1 (D, a1, k1) v1) (As := [.int V1, .int V2]) (rest := [.int r]) S hP hK2 hD hS (fun _ => rfl) M2 (cwL2_removeOrder hts) (va_recv hK2 (wp_left hP) (ci := 1) (q0 := 0) rfl rfl) rfl hl.1 rfl (Nat.le_of_ble_eq_true rfl) dL_law_194 ⟨by decide, by decide⟩ (fun H locs hP hD hS => ?_)
        refine lv_icmp_eq (tgt := 343) hx hb dL_law_197 (by decide) (fun _ => ?_) (fun h => absurd rfl h)
        exact next v1 v2 hJ2 H locs ⟨wp_swap hP, wd_swap hD, hS⟩
      · refine lv_tableIn (off := 160) (tgt := 202) hx hb dL_law_42 (by decide) (by decide) (by decide +kernel) (by decide) ?_
        obtain ⟨r, v1, v2, hJ2, M1, M2⟩ := pr_tasks (l := l) (g1 := (D, a1, k1)) (g2 := (D, a2, k2)) hJ
        refine lv_aload_n hx hb dL_law_202 rfl (lv_at hl 1 rfl) ?_
        refine xl_calli (x := x1 (D, a1, k1)) (wr := w2 (D, a2, k2) u2) (As := []) (rest := []) S hP hK1 hD hS (fun _ => rfl) M1 (cwL1_tasks hts) (va_recv hK1 (wp_left hP) (ci := 0) (q0 := 0) rfl rfl) rfl hl.1 rfl (Nat.le_of_ble_eq_true rfl) dL_law_203 ⟨by decide, by decide⟩ (fun H locs hP hD hS => ?_)
        refine lv_aload_n hx hb dL_law_206 rfl (lv_at hl 2 rfl) ?_
        have hP := wp_swap hP
        have hD := wd_swap hD
        refine xl_calli (x := x2 (D, a2, k2)) (wr := w1 (D, a1, k1) v1) (As := []) (rest := [.int r]) S hP hK2 hD hS (fun _ => rfl) M2 (cwL2_tasks hts) (va_recv hK2 (wp_left hP) (ci := 1) (q0 := 0) rfl rfl) rfl hl.1 rfl (Nat.le_of_ble_eq_true rfl) dL_law_207 ⟨by decide, by decide⟩ (fun H locs hP hD hS => ?_)
        refine lv_icmp_eq (tgt := 343) hx hb dL_law_210 (by decide) (fun _ => ?_) (fun h => absurd rfl h)
        exact next v1 v2 hJ2 H locs ⟨wp_swap hP, wd_swap hD, hS⟩
      · refine lv_tableIn (off := 173) (tgt := 215) hx hb dL_law_42 (by decide) (by decide) (by decide +kernel) (by decide) ?_
        obtain ⟨r, v1, v2, hJ2, M1, M2⟩ := pr_after (l := l) (g1 := (D, a1, k1)) (g2 := (D, a2, k2)) hJ V1 V2
        refine lv_aload_n hx hb dL_law_215 rfl (lv_at hl 1 rfl) ?_
        refine lv_aload_n hx hb dL_law_216 rfl (lv_at hl 0 rfl) ?_
        refine lv_iload_n hx hb dL_law_217 rfl (lv_at hl 3 rfl) ?_
        refine lv_iconst (v := 1) hx hb dL_law_218 (by decide) ?_
        refine lv_iadd hx hb dL_law_219 ?_
        refine x_top (v := nI (i + 1)) (nI_1 i) ?_
        refine va_sld hx hb hX hbl hbA hS in1 dL_law_220 ?_
        refine x_top eV1 ?_
        refine lv_aload_n hx hb dL_law_221 rfl (lv_at hl 0 rfl) ?_
        refine lv_iload_n hx hb dL_law_222 rfl (lv_at hl 3 rfl) ?_
        refine lv_iconst (v := 2) hx hb dL_law_223 (by decide) ?_
        refine lv_iadd hx hb dL_law_224 ?_
        refine x_top (v := nI (i + 2)) (nI_add i 2) ?_
        refine va_sld hx hb hX hbl hbA hS in2 dL_law_225 ?_
        refine x_top eV2 ?_
        refine xl_calli (x := x1 (D, a1, k1)) (wr := w2 (D, a2, k2) u2) (As := [.int V1, .int V2]) (rest := []) S hP hK1 hD hS (fun _ => rfl) M1 (cwL1_after hts) (va_recv hK1 (wp_left hP) (ci := 0) (q0 := 0) rfl rfl) rfl hl.1 rfl (Nat.le_of_ble_eq_true rfl) dL_law_226 ⟨by decide, by decide⟩ (fun H locs hP hD hS => ?_)
        refine lv_aload_n hx hb dL_law_229 rfl (lv_at hl 2 rfl) ?_
        refine lv_aload_n hx hb dL_law_230 rfl (lv_at hl 0 rfl) ?_
        refine lv_iload_n hx hb dL_law_231 rfl (lv_at hl 3 rfl) ?_
        refine lv_iconst (v := 1) hx hb dL_law_232 (by decide) ?_
        refine lv_iadd hx hb dL_law_233 ?_
        refine x_top (v := nI (i + 1)) (nI_1 i) ?_
        refine va_sld hx hb hX hbl hbA hS in1 dL_law_234 ?_
        refine x_top eV1 ?_
        refine lv_aload_n hx hb dL_law_235 rfl (lv_at hl 0 rfl) ?_
        refine lv_iload_n hx hb dL_law_236 rfl (lv_at hl 3 rfl) ?_
        refine lv_iconst (v := 2) hx hb dL_law_237 (by decide) ?_
        refine lv_iadd hx hb dL_law_238 ?_
        refine x_top (v := nI (i + 2)) (nI_add i 2) ?_
        refine va_sld hx hb hX hbl hbA hS in2 dL_law_239 ?_
        refine x_top eV2 ?_
        have hP := wp_swap hP
        have hD := wd_swap hD
        refine xl_calli (x := x2 (D, a2, k2)) (wr := w1 (D, a1, k1) v1) (As := [.int V1, .int V2]) (rest := [.int r]) S hP hK2 hD hS (fun _ => rfl) M2 (cwL2_after hts) (va_recv hK2 (wp_left hP) (ci := 1) (q0 := 0) rfl rfl) rfl hl.1 rfl (Nat.le_of_ble_eq_true rfl) dL_law_240 ⟨by decide, by decide⟩ (fun H locs hP hD hS => ?_)
        refine lv_icmp_eq (tgt := 343) hx hb dL_law_243 (by decide) (fun _ => ?_) (fun h => absurd rfl h)
        exact next v1 v2 hJ2 H locs ⟨wp_swap hP, wd_swap hD, hS⟩
      · refine lv_tableIn (off := 206) (tgt := 248) hx hb dL_law_42 (by decide) (by decide) (by decide +kernel) (by decide) ?_
        obtain ⟨r, v1, v2, hJ2, M1, M2⟩ := pr_height (l := l) (g1 := (D, a1, k1)) (g2 := (D, a2, k2)) hJ V1
        refine lv_aload_n hx hb dL_law_248 rfl (lv_at hl 1 rfl) ?_
        refine lv_aload_n hx hb dL_law_249 rfl (lv_at hl 0 rfl) ?_
        refine lv_iload_n hx hb dL_law_250 rfl (lv_at hl 3 rfl) ?_
        refine lv_iconst (v := 1) hx hb dL_law_251 (by decide) ?_
        refine lv_iadd hx hb dL_law_252 ?_
        refine x_top (v := nI (i + 1)) (nI_1 i) ?_
        refine va_sld hx hb hX hbl hbA hS in1 dL_law_253 ?_
        refine x_top eV1 ?_
        refine xl_calli (x := x1 (D, a1, k1)) (wr := w2 (D, a2, k2) u2) (As := [.int V1]) (rest := []) S hP hK1 hD hS (fun _ => rfl) M1 (cwL1_height hts) (va_recv hK1 (wp_left hP) (ci := 0) (q0 := 0) rfl rfl) rfl hl.1 rfl (Nat.le_of_ble_eq_true rfl) dL_law_254 ⟨by decide, by decide⟩ (fun H locs hP hD hS => ?_)
        refine lv_aload_n hx hb dL_law_257 rfl (lv_at hl 2 rfl) ?_
        refine lv_aload_n hx hb dL_law_258 rfl (lv_at hl 0 rfl) ?_
        refine lv_iload_n hx hb dL_law_259 rfl (lv_at hl 3 rfl) ?_
        refine lv_iconst (v := 1) hx hb dL_law_260 (by decide) ?_
        refine lv_iadd hx hb dL_law_261 ?_
        refine x_top (v := nI (i + 1)) (nI_1 i) ?_
        refine va_sld hx hb hX hbl hbA hS in1 dL_law_262 ?_
        refine x_top eV1 ?_
        have hP := wp_swap hP
        have hD := wd_swap hD
        refine xl_calli (x := x2 (D, a2, k2)) (wr := w1 (D, a1, k1) v1) (As := [.int V1]) (rest := [.int r]) S hP hK2 hD hS (fun _ => rfl) M2 (cwL2_height hts) (va_recv hK2 (wp_left hP) (ci := 1) (q0 := 0) rfl rfl) rfl hl.1 rfl (Nat.le_of_ble_eq_true rfl) dL_law_263 ⟨by decide, by decide⟩ (fun H locs hP hD hS => ?_)
        refine lv_icmp_eq (tgt := 343) hx hb dL_law_266 (by decide) (fun _ => ?_) (fun h => absurd rfl h)
        exact next v1 v2 hJ2 H locs ⟨wp_swap hP, wd_swap hD, hS⟩
      · refine lv_tableIn (off := 229) (tgt := 271) hx hb dL_law_42 (by decide) (by decide) (by decide +kernel) (by decide) ?_
        obtain ⟨r, v1, v2, hJ2, M1, M2⟩ := pr_superfluous (l := l) (g1 := (D, a1, k1)) (g2 := (D, a2, k2)) hJ
        refine lv_aload_n hx hb dL_law_271 rfl (lv_at hl 1 rfl) ?_
        refine xl_calli (x := x1 (D, a1, k1)) (wr := w2 (D, a2, k2) u2) (As := []) (rest := []) S hP hK1 hD hS (fun _ => rfl) M1 (cwL1_superfluous hts) (va_recv hK1 (wp_left hP) (ci := 0) (q0 := 0) rfl rfl) rfl hl.1 rfl (Nat.le_of_ble_eq_true rfl) dL_law_272 ⟨by decide, by decide⟩ (fun H locs hP hD hS => ?_)
        refine lv_aload_n hx hb dL_law_275 rfl (lv_at hl 2 rfl) ?_
        have hP := wp_swap hP
        have hD := wd_swap hD
        refine xl_calli (x := x2 (D, a2, k2)) (wr := w1 (D, a1, k1) v1) (As := []) (rest := [.int r]) S hP hK2 hD hS (fun _ => rfl) M2 (cwL2_superfluous hts) (va_recv hK2 (wp_left hP) (ci := 1) (q0 := 0) rfl rfl) rfl hl.1 rfl (Nat.le_of_ble_eq_true rfl) dL_law_276 ⟨by decide, by decide⟩ (fun H locs hP hD hS => ?_)
        refine lv_icmp_eq (tgt := 343) hx hb dL_law_279 (by decide) (fun _ => ?_) (fun h => absurd rfl h)
        exact next v1 v2 hJ2 H locs ⟨wp_swap hP, wd_swap hD, hS⟩
      · refine lv_tableIn (off := 242) (tgt := 284) hx hb dL_law_42 (by decide) (by decide) (by decide +kernel) (by decide) ?_
        obtain ⟨r, v1, v2, hJ2, M1, M2⟩ := pr_inTrees (l := l) (g1 := (D, a1, k1)) (g2 := (D, a2, k2)) hJ
        refine lv_aload_n hx hb dL_law_284 rfl (lv_at hl 1 rfl) ?_
        refine xl_calli (x := x1 (D, a1, k1)) (wr := w2 (D, a2, k2) u2) (As := []) (rest := []) S hP hK1 hD hS (fun _ => rfl) M1 (cwL1_inTrees hts) (va_recv hK1 (wp_left hP) (ci := 0) (q0 := 0) rfl rfl) rfl hl.1 rfl (Nat.le_of_ble_eq_true rfl) dL_law_285 ⟨by decide, by decide⟩ (fun H locs hP hD hS => ?_)
        refine lv_aload_n hx hb dL_law_288 rfl (lv_at hl 2 rfl) ?_
        have hP := wp_swap hP
        have hD := wd_swap hD
        refine xl_calli (x := x2 (D, a2, k2)) (wr := w1 (D, a1, k1) v1) (As := []) (rest := [.int r]) S hP hK2 hD hS (fun _ => rfl) M2 (cwL2_inTrees hts) (va_recv hK2 (wp_left hP) (ci := 1) (q0 := 0) rfl rfl) rfl hl.1 rfl (Nat.le_of_ble_eq_true rfl) dL_law_289 ⟨by decide, by decide⟩ (fun H locs hP hD hS => ?_)
        refine lv_icmp_eq (tgt := 343) hx hb dL_law_292 (by decide) (fun _ => ?_) (fun h => absurd rfl h)
        exact next v1 v2 hJ2 H locs ⟨wp_swap hP, wd_swap hD, hS⟩
      · refine lv_tableIn (off := 255) (tgt := 297) hx hb dL_law_42 (by decide) (by decide) (by decide +kernel) (by decide) ?_
        obtain ⟨r, v1, v2, hJ2, M1, M2⟩ := pr_shortest (l := l) (g1 := (D, a1, k1)) (g2 := (D, a2, k2)) hJ V1
        refine lv_aload_n hx hb dL_law_297 rfl (lv_at hl 1 rfl) ?_
        refine lv_aload_n hx hb dL_law_298 rfl (lv_at hl 0 rfl) ?_
        refine lv_iload_n hx hb dL_law_299 rfl (lv_at hl 3 rfl) ?_
        refine lv_iconst (v := 1) hx hb dL_law_300 (by decide) ?_
        refine lv_iadd hx hb dL_law_301 ?_
        refine x_top (v := nI (i + 1)) (nI_1 i) ?_
        refine va_sld hx hb hX hbl hbA hS in1 dL_law_302 ?_
        refine x_top eV1 ?_
        refine xl_calli (x := x1 (D, a1, k1)) (wr := w2 (D, a2, k2) u2) (As := [.int V1]) (rest := []) S hP hK1 hD hS (fun _ => rfl) M1 (cwL1_shortest hts) (va_recv hK1 (wp_left hP) (ci := 0) (q0 := 0) rfl rfl) rfl hl.1 rfl (Nat.le_of_ble_eq_true rfl) dL_law_303 ⟨by decide, by decide⟩ (fun H locs hP hD hS => ?_)
        refine lv_aload_n hx hb dL_law_306 rfl (lv_at hl 2 rfl) ?_
        refine lv_aload_n hx hb dL_law_307 rfl (lv_at hl 0 rfl) ?_
        refine lv_iload_n hx hb dL_law_308 rfl (lv_at hl 3 rfl) ?_
        refine lv_iconst (v := 1) hx hb dL_law_309 (by decide) ?_
        refine lv_iadd hx hb dL_law_310 ?_
        refine x_top (v := nI (i + 1)) (nI_1 i) ?_
        refine va_sld hx hb hX hbl hbA hS in1 dL_law_311 ?_
        refine x_top eV1 ?_
        have hP := wp_swap hP
        have hD := wd_swap hD
        refine xl_calli (x := x2 (D, a2, k2)) (wr := w1 (D, a1, k1) v1) (As := [.int V1]) (rest := [.int r]) S hP hK2 hD hS (fun _ => rfl) M2 (cwL2_shortest hts) (va_recv hK2 (wp_left hP) (ci := 1) (q0 := 0) rfl rfl) rfl hl.1 rfl (Nat.le_of_ble_eq_true rfl) dL_law_312 ⟨by decide, by decide⟩ (fun H locs hP hD hS => ?_)
        refine lv_icmp_eq (tgt := 343) hx hb dL_law_315 (by decide) (fun _ => ?_) (fun h => absurd rfl h)
        exact next v1 v2 hJ2 H locs ⟨wp_swap hP, wd_swap hD, hS⟩
      · refine lv_tableIn (off := 278) (tgt := 320) hx hb dL_law_42 (by decide) (by decide) (by decide +kernel) (by decide) ?_
        obtain ⟨r, v1, v2, hJ2, M1, M2⟩ := pr_without (l := l) (g1 := (D, a1, k1)) (g2 := (D, a2, k2)) hJ V1
        refine lv_aload_n hx hb dL_law_320 rfl (lv_at hl 1 rfl) ?_
        refine lv_aload_n hx hb dL_law_321 rfl (lv_at hl 0 rfl) ?_
        refine lv_iload_n hx hb dL_law_322 rfl (lv_at hl 3 rfl) ?_
        refine lv_iconst (v := 1) hx hb dL_law_323 (by decide) ?_
        refine lv_iadd hx hb dL_law_324 ?_
        refine x_top (v := nI (i + 1)) (nI_1 i) ?_
        refine va_sld hx hb hX hbl hbA hS in1 dL_law_325 ?_
        refine x_top eV1 ?_
        refine xl_calli (x := x1 (D, a1, k1)) (wr := w2 (D, a2, k2) u2) (As := [.int V1]) (rest := []) S hP hK1 hD hS (fun _ => rfl) M1 (cwL1_without hts) (va_recv hK1 (wp_left hP) (ci := 0) (q0 := 0) rfl rfl) rfl hl.1 rfl (Nat.le_of_ble_eq_true rfl) dL_law_326 ⟨by decide, by decide⟩ (fun H locs hP hD hS => ?_)
        refine lv_aload_n hx hb dL_law_329 rfl (lv_at hl 2 rfl) ?_
        refine lv_aload_n hx hb dL_law_330 rfl (lv_at hl 0 rfl) ?_
        refine lv_iload_n hx hb dL_law_331 rfl (lv_at hl 3 rfl) ?_
        refine lv_iconst (v := 1) hx hb dL_law_332 (by decide) ?_
        refine lv_iadd hx hb dL_law_333 ?_
        refine x_top (v := nI (i + 1)) (nI_1 i) ?_
        refine va_sld hx hb hX hbl hbA hS in1 dL_law_334 ?_
        refine x_top eV1 ?_
        have hP := wp_swap hP
        have hD := wd_swap hD
        refine xl_calli (x := x2 (D, a2, k2)) (wr := w1 (D, a1, k1) v1) (As := [.int V1]) (rest := [.int r]) S hP hK2 hD hS (fun _ => rfl) M2 (cwL2_without hts) (va_recv hK2 (wp_left hP) (ci := 1) (q0 := 0) rfl rfl) rfl hl.1 rfl (Nat.le_of_ble_eq_true rfl) dL_law_335 ⟨by decide, by decide⟩ (fun H locs hP hD hS => ?_)
        refine lv_icmp_eq (tgt := 343) hx hb dL_law_338 (by decide) (fun _ => ?_) (fun h => absurd rfl h)
        exact next v1 v2 hJ2 H locs ⟨wp_swap hP, wd_swap hD, hS⟩
      · refine lv_tableOut (tgt := 343) hx hb dL_law_42 (Or.inr (by rw [nI_toInt (by omega)]; omega)) (by decide) ?_
        exact next u1 u2 hJ H locs ⟨hP, hD, hS⟩
set_option maxHeartbeats 8000000 in
set_option maxRecDepth 100000 in
theorem whole_start {p : Program} {e : Env} {s : State} {m : MethodId} {below : List Frame} {meth : Method} {c : Code} (l : Launch) {b L : Nat} {xs : Nat → Int32} (hL : L ≤ 193) (C0 : lw_At p s m meth c b L xs) : W p l e room_1 s m #[Value.ref b] below meth c s.heap [] 0 0 (lw_Z below #[Value.ref b] s) (entryFrame m ([Value.ref b] : List Value).toArray 4) := by
  obtain ⟨hx, hb, hr, hml, hown, hts0, hX, hbl, hlocks, hgv⟩ := id C0
  have hts : ∀ w ∈ lw_all, w.before #[Value.ref b] s = true := fun w h => hts0 w (lw_all_tbl h)
  have hA : ∀ q : Nat, s.heap.size ≤ q → (fun q : Nat => s.heap.size ≤ q) q := fun _ h => h
  have hbA : ¬ (fun q : Nat => s.heap.size ≤ q) b := Nat.not_le.mpr hbl
  have S : CallFix p m c code 4 s #[Value.ref b] lw_all RX0 := ⟨hx, hb, hml, hown, hts⟩
  obtain ⟨c0_, iS0, hKn0⟩ := u_known (C := RX1) (T := TX1) (N := 6) (n := 6) hts0 (fun w h => lw_all_tbl (in_X1 w h)) (hts0 _ (lw_all_tbl q23))
  obtain ⟨c1_, iS1, hKn1⟩ := u_known (C := RX2) (T := TX2) (N := 4) (n := 4) hts0 (fun w h => lw_all_tbl (in_X2 w h)) (hts0 _ (lw_all_tbl q144))
  obtain ⟨D, hKc⟩ : ∃ D : va_G, ∀ (k : Nat) (q : vw_C), vwCl[k]? = some q → u_Kn s q.1 q.2.1 q.2.2 (D.1 k) (D.2 k) := by
    refine ⟨(fun k => if k = 0 then c0_ else c1_, fun k => if k = 0 then iS0 else iS1), ?_⟩
    intro k q hq
    match k, hq with
    | 0, hq => cases hq; exact hKn0
    | 1, hq => cases hq; exact hKn1
    | k + 2, hq => simp [vwCl] at hq
  have hS : va_S (fun q : Nat => s.heap.size ≤ q) s.heap s.heap [] := va_S.rf
  have hK : va_K D vwCl [] s := ⟨hKc, fun k q h => by simp at h⟩
  have hP : va_P D vwCl [] s.heap := fun k q h => by simp at h
  have hD : va_D (fun q : Nat => s.heap.size ≤ q) [] := ⟨fun i j p q h => by simp at h, fun k q h => by simp at h⟩
  have hl := lv_entry ([.ref b]) (n := 4) (Nat.le_of_ble_eq_true rfl)
  rw [lg_entry_eq]
  generalize (lg_sl ([.ref b]) ++ List.replicate (4 - (lg_sl ([.ref b])).length) Slot.unset).toArray = ls at hl ⊢
  have hl : lv_has ls 4 [(0, .ref b)] := hl
  refine va_new (ci := 0) (fs := [.int 0, .null, .null, .int 0, .null, .null]) (C := RX1) (T := TX1) (N := 6) hx hb hts in_X1 tyX1 tyX1_ok hown (hts _ q22) (hts _ q23) (hts _ q20) hK hP hD hS hA rfl (fun j hj => by rcases (show j = 0 ∨ j = 1 ∨ j = 2 ∨ j = 3 ∨ j = 4 ∨ j = 5 by omega) with rfl | rfl | rfl | rfl | rfl | rfl <;> rfl) (Nat.le_of_ble_eq_true rfl) (Nat.le_of_ble_eq_true rfl) dL_law_0 (fun h1 H hP hD hS => ?_)
  have hP : va_P D vwCl ([(h1, .inr (0, [.int 0, .null, .null, .int 0, .null, .null]))]) H := hP
  have hD : va_D (fun q : Nat => s.heap.size ≤ q) ([(h1, .inr (0, [.int 0, .null, .null, .int 0, .null, .null]))]) := hD
  refine W.widen (k := 1) (n := 6) (Nat.le_of_ble_eq_true rfl) (Nat.le_of_ble_eq_true rfl) ?_
  refine lv_dup hx hb dL_law_3 rfl ?_
  refine lv_aload_n hx hb dL_law_4 rfl (lv_at hl 0 rfl) ?_
  refine lv_iconst (v := 0) hx hb dL_law_5 (by decide) ?_
  refine va_calli (va_runS (As := [.ref b, .int 0]) (rest := [.ref h1, .ref h1]) S (mX0_cell l b L xs hL) (va_cwS 2 hts (lw_S q140 q141 q19 q142) rfl rfl rfl (by decide +kernel) ⟨by decide, by decide⟩) ⟨fun a U g mk q => by obtain ⟨q0, q1⟩ := q; exact ⟨q0, va_X.moved (u := U) (U := U.calling g mk a) (Vm.Alike.refl U.vm) q1⟩, fun U hU hW => ⟨rfl, by show va_X b L xs U U.heap; rw [hU]; exact va_X.moved hW.alike (hX.kept (hS.2.1 b hbl hbA))⟩⟩ rfl rfl hl.1 rfl (lv_room (Nat.le_of_ble_eq_true rfl)) dL_law_6 ⟨by decide, by decide⟩) hS (fun q _ h => h.elim) (fun q h => h.elim) (fun r1 _ t H1 locs1 ht hvm hp1 hB hz hk hS => ?_)
  have hP : va_P D vwCl ([(h1, .inr (0, [.int 0, .null, .null, .int 0, .null, .null]))]) H1 := hP.kept (fun k q hq => hk q.1 (hP k q hq).lt (fun f => f))
  generalize H1 = H at hP hS ⊢
  have hPc := hP.sub (ws' := [(h1, .inr (0, [.int 0, .null, .null, .int 0, .null, .null]))]) [0] rfl
  have hDc := hD.sub (ws' := [(h1, .inr (0, [.int 0, .null, .null, .int 0, .null, .null]))]) [0] (by decide) rfl
  have hKc := hK.sub (tys' := []) [] rfl
  have hFc := va_free (wc := [(h1, .inr (0, [.int 0, .null, .null, .int 0, .null, .null]))]) hD hS hA [0] rfl
  refine va_callv (va_runI (As := [.int r1]) (rest := [.ref h1]) S (mX1_init l D h1 H.size r1) (cwI 1 hts (lw_meth q26) rfl rfl rfl (hts _ q20) (hts _ q24) (hts _ q25) rfl (by decide +kernel) ⟨by decide, by decide⟩) ⟨fun a U g mk q => by obtain ⟨q0, q1, qP, qK, qD⟩ := q; exact ⟨q0, q1, qP, va_K.moved (u := U) (U := U.calling g mk a) (Vm.Alike.refl U.vm) qK, qD⟩, fun U hU hW => ⟨rfl, by rw [hU], by rw [hU]; exact hPc, va_K.moved hW.alike hKc, hDc.weaken (fun _ _ _ _ => trivial)⟩⟩ rfl rfl hl.1 rfl (lv_room (Nat.le_of_ble_eq_true rfl)) dL_law_9 ⟨by decide, by decide⟩) hS (fun q _ h => hFc q h) hFc (fun u t H1 locs ht hvm hw hB hz1 hk1 hS => ?_)
  obtain ⟨⟨D1, a1, k1⟩, n1⟩ := u
  obtain ⟨eD, eh1, en1⟩ := hw
  have eD : D1 = D := eD
  have eh1 : a1 0 = h1 := eh1
  have en1 : n1 = clampN r1 := en1
  obtain ⟨hP1, hK1, hD1⟩ := hB
  have hP1 : va_P D1 vwCl (w1 (D1, a1, k1) (z1 n1)) t.heap := hP1
  have hK1 : va_K D1 vwCl (x1 (D1, a1, k1)).2.1 t := hK1
  rw [eD] at hP1 hK1 hD1
  rw [ht] at hP1
  have hK1 := va_K.moved hvm.symm hK1
  obtain ⟨hP, hD⟩ := va_join (wr := []) (w1 := w1 (D, a1, k1) (z1 n1)) hP hD [0] [] rfl rfl (by decide) (by decide) hk1 hFc hP1 hD1
  have hP : va_P D vwCl (w1 (D, a1, k1) (z1 n1)) H1 := hP
  have hD : va_D (fun q : Nat => s.heap.size ≤ q) (w1 (D, a1, k1) (z1 n1)) := hD
  have hK1x : va_K D vwCl (x1 (D, a1, k1)).2.1 s := hK1
  generalize H1 = H at hP hS ⊢
  refine W.widen (k := 5) (n := 42) (Nat.le_of_ble_eq_true rfl) (Nat.le_of_ble_eq_true rfl) ?_
  refine lv_astore_n (lv' := [(1, .ref h1), (0, .ref b)]) hx hb dL_law_12 rfl hl (by decide) rfl (fun ls hl => ?_)
  refine va_new (ci := 1) (fs := [.int 0, .null, .null, .null]) (C := RX2) (T := TX2) (N := 4) hx hb hts in_X2 tyX2 tyX2_ok hown (hts _ q143) (hts _ q144) (hts _ q21) hK hP hD hS hA rfl (fun j hj => by rcases (show j = 0 ∨ j = 1 ∨ j = 2 ∨ j = 3 by omega) with rfl | rfl | rfl | rfl <;> rfl) (Nat.le_of_ble_eq_true rfl) (Nat.le_of_ble_eq_true rfl) dL_law_13 (fun h2 H hP hD hS => ?_)
  have hP : va_P D vwCl (w1 (D, a1, k1) (z1 n1) ++ [(h2, .inr (1, [.int 0, .null, .null, .null]))]) H := hP
  have hD : va_D (fun q : Nat => s.heap.size ≤ q) (w1 (D, a1, k1) (z1 n1) ++ [(h2, .inr (1, [.int 0, .null, .null, .null]))]) := hD
  refine W.widen (k := 6) (n := 46) (Nat.le_of_ble_eq_true rfl) (Nat.le_of_ble_eq_true rfl) ?_
  refine lv_dup hx hb dL_law_16 rfl ?_
  refine lv_aload_n hx hb dL_law_17 rfl (lv_at hl 1 rfl) ?_
  refine lv_iconst (v := 0) hx hb dL_law_18 (by decide) ?_
  refine va_calli (va_runS (As := [.ref b, .int 0]) (rest := [.ref h2, .ref h2]) S (mX0_cell l b L xs hL) (va_cwS 2 hts (lw_S q140 q141 q19 q142) rfl rfl rfl (by decide +kernel) ⟨by decide, by decide⟩) ⟨fun a U g mk q => by obtain ⟨q0, q1⟩ := q; exact ⟨q0, va_X.moved (u := U) (U := U.calling g mk a) (Vm.Alike.refl U.vm) q1⟩, fun U hU hW => ⟨rfl, by show va_X b L xs U U.heap; rw [hU]; exact va_X.moved hW.alike (hX.kept (hS.2.1 b hbl hbA))⟩⟩ rfl rfl hl.1 rfl (lv_room (Nat.le_of_ble_eq_true rfl)) dL_law_19 ⟨by decide, by decide⟩) hS (fun q _ h => h.elim) (fun q h => h.elim) (fun r2 _ t H1 locs1 ht hvm hp2 hB hz hk hS => ?_)
  have hP : va_P D vwCl (w1 (D, a1, k1) (z1 n1) ++ [(h2, .inr (1, [.int 0, .null, .null, .null]))]) H1 := hP.kept (fun k q hq => hk q.1 (hP k q hq).lt (fun f => f))
  generalize H1 = H at hP hS ⊢
  have hPc := hP.sub (ws' := [(h2, .inr (1, [.int 0, .null, .null, .null]))]) [5] rfl
  have hDc := hD.sub (ws' := [(h2, .inr (1, [.int 0, .null, .null, .null]))]) [5] (by decide) rfl
  have hKc := hK.sub (tys' := []) [] rfl
  have hFc := va_free (wc := [(h2, .inr (1, [.int 0, .null, .null, .null]))]) hD hS hA [5] rfl
  refine va_callv (va_runI (As := [.int r2]) (rest := [.ref h2]) S (mX2_init l D h2 H.size r2) (cwI 1 hts (lw_meth q147) rfl rfl rfl (hts _ q21) (hts _ q145) (hts _ q146) rfl (by decide +kernel) ⟨by decide, by decide⟩) ⟨fun a U g mk q => by obtain ⟨q0, q1, qP, qK, qD⟩ := q; exact ⟨q0, q1, qP, va_K.moved (u := U) (U := U.calling g mk a) (Vm.Alike.refl U.vm) qK, qD⟩, fun U hU hW => ⟨rfl, by rw [hU], by rw [hU]; exact hPc, va_K.moved hW.alike hKc, hDc.weaken (fun _ _ _ _ => trivial)⟩⟩ rfl rfl hl.1 rfl (lv_room (Nat.le_of_ble_eq_true rfl)) dL_law_22 ⟨by decide, by decide⟩) hS (fun q _ h => hFc q h) hFc (fun u t H1 locs ht hvm hw hB hz1 hk1 hS => ?_)
  obtain ⟨⟨D2, a2, k2⟩, n2⟩ := u
  obtain ⟨eD, eh2, en2⟩ := hw
  have eD : D2 = D := eD
  have eh2 : a2 0 = h2 := eh2
  have en2 : n2 = clampN r2 := en2
  obtain ⟨hP1, hK1, hD1⟩ := hB
  have hP1 : va_P D2 vwCl (w2 (D2, a2, k2) (z2 n2)) t.heap := hP1
  have hK1 : va_K D2 vwCl (x2 (D2, a2, k2)).2.1 t := hK1
  rw [eD] at hP1 hK1 hD1
  rw [ht] at hP1
  have hK1 := va_K.moved hvm.symm hK1
  obtain ⟨hP, hD⟩ := va_join (wr := w1 (D, a1, k1) (z1 n1)) (w1 := w2 (D, a2, k2) (z2 n2)) hP hD [5] [0, 1, 2, 3, 4] rfl rfl (by decide) (by decide) hk1 hFc hP1 hD1
  have hK2x : va_K D vwCl (x2 (D, a2, k2)).2.1 s := hK1
  refine W.widen (k := 9) (n := 576) (Nat.le_of_ble_eq_true rfl) (Nat.le_of_ble_eq_true rfl) ?_
  refine lv_astore_n (lv' := [(2, .ref h2), (1, .ref h1), (0, .ref b)]) hx hb dL_law_25 rfl hl (by decide) rfl (fun ls hl => ?_)
  refine lv_iconst (v := nI 1) hx hb dL_law_26 (by decide) ?_
  refine lv_istore_n (lv' := [(3, .int (nI 1)), (2, .ref h2), (1, .ref h1), (0, .ref b)]) hx hb dL_law_27 rfl hl (by decide) rfl (fun ls hl => ?_)
  have er : r1 = r2 := by rw [hp1, hp2]
  have en : n2 = n1 := by rw [en1, en2, er]
  have n9 : n1 ≤ 9 := by rw [en1]; exact clamp_le r1
  rw [en] at hP hD
  rw [← eh1, ← eh2] at hl
  exact law_loop hL C0 hK1x hK2x (L + 4) 1 (by omega) (by omega) (z1 n1) (z2 n1) (JJ_new n9) H1 _ ⟨hP, hD, hS⟩ ls (lv_sub hl [3, 2, 1, 0] rfl)
end
section
set_option maxHeartbeats 4000000 in
theorem lw_walk (l : Launch) (b : Addr) (xs : List Int32) : MetFree l x (headSpec (Jvm.Cond.code x code maxLocals ret :: tables_1) room_1) (lw_P b xs) (fun _ _ _ _ _ => True) lw_Q := by
  refine MetFree.of_bodyS (code := code) (maxLocals := maxLocals) (ret := ret) (by decide) ?_ ?_
  · intro args s m h hn
    obtain ⟨meth, c, h1, h2, h3, h4, h5, h6, -, -⟩ := Cond.code_spec hn (atoms_spec (ws := Jvm.Cond.code x code maxLocals ret :: tables_1) h _ List.mem_cons_self)
    exact ⟨meth, c, h1, h2, h3, h4, h5, h6⟩
  · intro p e s m args below meth c s₁ B hml0 hP _
    obtain ⟨rfl, hx, hbd, hgv⟩ := hP
    obtain ⟨scr, harrAt, hlist, hof, hsmall⟩ := hx
    obtain ⟨hcb, hkn, -, -⟩ := State.arrayAt?_spec harrAt
    have hown : s.vm.findClass R_law = some m.cls := findClass_of_methodNamed B.named
    have hts0 : ∀ c ∈ (Jvm.Cond.code x code maxLocals ret :: tables_1), c.before #[Value.ref b] s = true := atoms_spec (ws := Jvm.Cond.code x code maxLocals ret :: tables_1) B.pre
    have hts : ∀ w ∈ lw_tbl, w.before #[Value.ref b] s = true := k2_hts_sels lw_privs (fun w hw => hts0 w (List.mem_cons_of_mem _ hw)) lw_privs_ok
    have hml : c.maxLocals = 4 := B.maxLocals_eq (hts0 _ List.mem_cons_self)
    have X₀ : Stand p l e room_1 s m #[Value.ref b] below meth c s₁ [] 0 0 := Stand.of_body B
    have hh0 : s₁.heap = s.heap := by rw [B.state]; rfl
    have hsz : scr.slots.size = xs.length := by rw [← Array.length_toList, hlist, List.length_map]
    have hval : ∀ j : Nat, j < xs.length → scr.slots[j]? = some (.int (xs.getD j 0)) := fun j hj => by
      rw [← Array.getElem?_toList, hlist]
      simp [hj]
    have hbl : b < s.heap.size := (Array.getElem?_eq_some_iff.mp hcb).1
    have hX : va_X b xs.length (fun j => xs.getD j 0) s s.heap := ⟨scr, hcb, hof, hkn, hsz, hval⟩
    have K : W p l e room_1 s m #[Value.ref b] below meth c s₁.heap [] 0 0 (lw_Z below #[Value.ref b] s) (entryFrame m ([Value.ref b] : List Value).toArray 4) := by
      rw [hh0]
      exact whole_start l hbd ⟨B.exec, B.bytes, B.returns, hml, hown, hts, hX, hbl, B.notSynchronized, hgv⟩
    obtain ⟨t, a1, o, b1, b2, b3⟩ := K s₁ rfl X₀
    exact ⟨t, o, a1, b1, b2, b3⟩
theorem lw_pre_spec {args : Array Value} {s : State} (h : (Jvm.Cond.and given_1 narrow_1).before args s = true) (hr : rest_1_c.before args s = true) : ∃ (b : Addr) (xs : List Int32), lw_P b xs args s := by
  have hs := flat_of_before _ h
  have hq := flat_of_before _ hr
  have hc : (Cond.count 1).before args s = true := hs _ (by decide +kernel)
  have harr : (Cond.arrayOf (.arg 0) .int).before args s = true := hs _ (by decide +kernel)
  have hle : (Cond.le (.length (.arg 0)) (.int 193)).before args s = true := hs _ (by decide +kernel)
  have hlen : (Cond.isInt (.length (.arg 0))).before args s = true := hq _ (by decide +kernel)
  have hall : (Cond.all (.arg 0) (.isInt (.elem (.arg 0) (.index 0)))).before args s = true := hq _ (by decide +kernel)
  obtain ⟨b, xs, hb, hx⟩ := State.ints_of_pre rfl harr hlen hall
  have hsm : xs.length < 2 ^ 31 := hx.choose_spec.2.2.2
  have hev : (Term.length (.arg 0)).eval args s none [] s = some (.int xs.length.toInt32) := hx.length_eval hb
  have hv := Cond.le_ints hev (show (Term.int 193).eval args s none [] s = some (.int 193) from rfl)
  have hd : xs.length.toInt32 ≤ 193 := by
    simpa [Cond.before, Cond.holds, hv] using hle
  have hN : xs.length ≤ 193 := (Int32.ofNat_le_ofNat hsm (by decide)).mp (show Int32.ofNat xs.length ≤ Int32.ofNat 193 from hd)
  exact ⟨b, xs, Cond.one_arg hc (show args[0]? = some (.ref b) from hb), hx, hN, h⟩
theorem lw_comes (l : Launch) : Comes l x (Jvm.Cond.code x code maxLocals ret :: tables_1) room_1 (fun tb e args s => Calls_1 tb e args s ∧ rest_1 tb e args s ∧ Pre_1 tb e args s)
    (fun _ _ args s o t => lw_Q args s o t) := by
  intro p e ha hc hk s m args below hf hfit hheap happ hpre
  obtain ⟨b, xs, hP⟩ := lw_pre_spec hpre.2.2 hpre.2.1
  obtain ⟨k, o, h1, h2, h3, hQ⟩ := lw_walk l b xs p e ha hc hk s m args below hf ((Spec.applies_iff_loose hf).mp happ).1 hP trivial
  exact ⟨k, o, h1, h2, h3, hQ⟩
theorem lw_frame {s t : State} {o : Outcome} {args : Array Value} (h : Framed s o t [] 600000 7290000) :
    Framed s o t (fieldLocs frame_1_writes args s ++ arrayLocs frame_1_arrays args s ++ staticLocs frame_1_statics s) 600000 7290000 := h
theorem lw_limb (L : Cond) (hL : ∀ (args : Array Value) (s t : State), L.after args s (.returned (some (.int 1))) t = true) :
    ArmFor flags0 classFile x code maxLocals ret World_1 tables_1 room_1 Calls_1 rest_1 Pre_1
      (fun tb e a s o t => postC L tb e a s o t ∧ Framed s o t (fieldLocs frame_1_writes a s ++ arrayLocs frame_1_arrays a s ++ staticLocs frame_1_statics s) 600000 7290000) := by
  intro l _ _ _ p e ha hc hk s m args below hf hfit hheap happ hpre
  obtain ⟨k, o, h1, h2, h3, rfl, hF⟩ := lw_comes l p e ha hc hk s m args below hf hfit hheap happ hpre
  exact ⟨k, _, h1, h2, h3, hL args s _, lw_frame hF⟩
theorem i_vc : Claimed_1_1 ∧ Claimed_1_2 := ⟨lw_limb limb_1_1 (fun args s t => by simp [limb_1_1, Cond.after, Cond.holds, Cond.value]), lw_limb limb_1_2 (fun args s t => Cond.after_iff.mpr (by
  first | (rw [show limb_1_2 = Cond.eq .result (.int 1) from rfl, Cond.eq_ints (x := 1) (y := 1) rfl rfl]; simp; done) | (simp [limb_1_2, Cond.value, Term.eval]; done)))⟩
end
