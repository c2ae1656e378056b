section
-- ===== PART A: goes FIRST, ahead of the names: the tables' words, and 'selects' of the private methods out of them =====
/-- a private method of a class that the tables say can be made, by its rows of tables_1 -/
def lw_okq (q : MethodName × Nat) : Prop := (q.1.cls ≠ "java/lang/invoke/MethodHandle" ∧ q.1.cls ≠ "java/lang/invoke/VarHandle") ∧ Cond.instantiable q.1.cls q.2 ∈ tables_1 ∧ Cond.privateMethod q.1 ∈ tables_1 ∧ Cond.instanceMethod q.1 ∈ tables_1
set_option maxRecDepth 100000
theorem lw_t1 {w : Cond} (h : w ∈ tables_1_1) : w ∈ tables_1 := List.mem_append_left _ h
theorem lw_t2 {w : Cond} (h : w ∈ tables_1_2) : w ∈ tables_1 := List.mem_append_right _ h
theorem lw_p0 : lw_okq (⟨"RowLegaliser", "noCell", "(I)Z"⟩, 8) := ⟨⟨by decide +kernel, by decide +kernel⟩, lw_t1 (List.mem_of_getElem? (i := 4) rfl), lw_t1 (List.mem_of_getElem? (i := 46) rfl), lw_t1 (List.mem_of_getElem? (i := 47) rfl)⟩
theorem lw_p1 : lw_okq (⟨"RowLegaliser", "partCost", "(IIII)I"⟩, 8) := ⟨⟨by decide +kernel, by decide +kernel⟩, lw_t1 (List.mem_of_getElem? (i := 4) rfl), lw_t1 (List.mem_of_getElem? (i := 66) rfl), lw_t1 (List.mem_of_getElem? (i := 67) rfl)⟩
theorem lw_p2 : lw_okq (⟨"RowLegaliser", "widthOf", "(II)I"⟩, 8) := ⟨⟨by decide +kernel, by decide +kernel⟩, lw_t1 (List.mem_of_getElem? (i := 4) rfl), lw_t1 (List.mem_of_getElem? (i := 70) rfl), lw_t1 (List.mem_of_getElem? (i := 71) rfl)⟩
theorem lw_p3 : lw_okq (⟨"RowLegaliser", "addUnit", "(I)I"⟩, 8) := ⟨⟨by decide +kernel, by decide +kernel⟩, lw_t1 (List.mem_of_getElem? (i := 4) rfl), lw_t1 (List.mem_of_getElem? (i := 77) rfl), lw_t1 (List.mem_of_getElem? (i := 78) rfl)⟩
theorem lw_p4 : lw_okq (⟨"RowLegaliser", "addPoint", "(I)V"⟩, 8) := ⟨⟨by decide +kernel, by decide +kernel⟩, lw_t1 (List.mem_of_getElem? (i := 4) rfl), lw_t1 (List.mem_of_getElem? (i := 81) rfl), lw_t1 (List.mem_of_getElem? (i := 82) rfl)⟩
theorem lw_p5 : lw_okq (⟨"RowLegaliser", "findPlaces", "()V"⟩, 8) := ⟨⟨by decide +kernel, by decide +kernel⟩, lw_t1 (List.mem_of_getElem? (i := 4) rfl), lw_t1 (List.mem_of_getElem? (i := 94) rfl), lw_t1 (List.mem_of_getElem? (i := 95) rfl)⟩
theorem lw_p6 : lw_okq (⟨"RowLegaliser", "bestUpTo", "(II)I"⟩, 8) := ⟨⟨by decide +kernel, by decide +kernel⟩, lw_t1 (List.mem_of_getElem? (i := 4) rfl), lw_t1 (List.mem_of_getElem? (i := 98) rfl), lw_t1 (List.mem_of_getElem? (i := 99) rfl)⟩
theorem lw_p7 : lw_okq (⟨"RowLegaliser", "upTo", "(III)I"⟩, 8) := ⟨⟨by decide +kernel, by decide +kernel⟩, lw_t1 (List.mem_of_getElem? (i := 4) rfl), lw_t1 (List.mem_of_getElem? (i := 102) rfl), lw_t1 (List.mem_of_getElem? (i := 103) rfl)⟩
theorem lw_p8 : lw_okq (⟨"RowLegaliser", "fitsAtWish", "(I)Z"⟩, 8) := ⟨⟨by decide +kernel, by decide +kernel⟩, lw_t1 (List.mem_of_getElem? (i := 4) rfl), lw_t1 (List.mem_of_getElem? (i := 118) rfl), lw_t1 (List.mem_of_getElem? (i := 119) rfl)⟩
theorem lw_p9 : lw_okq (⟨"RowLegaliserModel", "badWish", "(I)Z"⟩, 8) := ⟨⟨by decide +kernel, by decide +kernel⟩, lw_t1 (List.mem_of_getElem? (i := 125) rfl), lw_t1 (List.mem_of_getElem? (i := 160) rfl), lw_t1 (List.mem_of_getElem? (i := 161) rfl)⟩
theorem lw_p10 : lw_okq (⟨"RowLegaliserModel", "badWeight", "(I)Z"⟩, 8) := ⟨⟨by decide +kernel, by decide +kernel⟩, lw_t1 (List.mem_of_getElem? (i := 125) rfl), lw_t1 (List.mem_of_getElem? (i := 164) rfl), lw_t1 (List.mem_of_getElem? (i := 165) rfl)⟩
theorem lw_p11 : lw_okq (⟨"RowLegaliserModel", "badCell", "(I)Z"⟩, 8) := ⟨⟨by decide +kernel, by decide +kernel⟩, lw_t1 (List.mem_of_getElem? (i := 125) rfl), lw_t1 (List.mem_of_getElem? (i := 172) rfl), lw_t1 (List.mem_of_getElem? (i := 173) rfl)⟩
theorem lw_p12 : lw_okq (⟨"RowLegaliserModel", "fillUp", "(I)V"⟩, 8) := ⟨⟨by decide +kernel, by decide +kernel⟩, lw_t1 (List.mem_of_getElem? (i := 125) rfl), lw_t1 (List.mem_of_getElem? (i := 196) rfl), lw_t1 (List.mem_of_getElem? (i := 197) rfl)⟩
theorem lw_p13 : lw_okq (⟨"RowLegaliserModel", "least", "(II)I"⟩, 8) := ⟨⟨by decide +kernel, by decide +kernel⟩, lw_t1 (List.mem_of_getElem? (i := 125) rfl), lw_t1 (List.mem_of_getElem? (i := 201) rfl), lw_t1 (List.mem_of_getElem? (i := 202) rfl)⟩
theorem lw_p14 : lw_okq (⟨"RowLegaliserModel", "own", "(II)I"⟩, 8) := ⟨⟨by decide +kernel, by decide +kernel⟩, lw_t1 (List.mem_of_getElem? (i := 125) rfl), lw_t1 (List.mem_of_getElem? (i := 205) rfl), lw_t1 (List.mem_of_getElem? (i := 206) rfl)⟩
theorem lw_p15 : lw_okq (⟨"RowLegaliserModel", "sum", "(II)I"⟩, 8) := ⟨⟨by decide +kernel, by decide +kernel⟩, lw_t1 (List.mem_of_getElem? (i := 125) rfl), lw_t1 (List.mem_of_getElem? (i := 209) rfl), lw_t1 (List.mem_of_getElem? (i := 210) rfl)⟩
def lw_privs_1 : List (MethodName × Nat) := [(⟨"RowLegaliser", "noCell", "(I)Z"⟩, 8), (⟨"RowLegaliser", "partCost", "(IIII)I"⟩, 8), (⟨"RowLegaliser", "widthOf", "(II)I"⟩, 8), (⟨"RowLegaliser", "addUnit", "(I)I"⟩, 8), (⟨"RowLegaliser", "addPoint", "(I)V"⟩, 8), (⟨"RowLegaliser", "findPlaces", "()V"⟩, 8), (⟨"RowLegaliser", "bestUpTo", "(II)I"⟩, 8), (⟨"RowLegaliser", "upTo", "(III)I"⟩, 8), (⟨"RowLegaliser", "fitsAtWish", "(I)Z"⟩, 8), (⟨"RowLegaliserModel", "badWish", "(I)Z"⟩, 8), (⟨"RowLegaliserModel", "badWeight", "(I)Z"⟩, 8), (⟨"RowLegaliserModel", "badCell", "(I)Z"⟩, 8), (⟨"RowLegaliserModel", "fillUp", "(I)V"⟩, 8), (⟨"RowLegaliserModel", "least", "(II)I"⟩, 8), (⟨"RowLegaliserModel", "own", "(II)I"⟩, 8), (⟨"RowLegaliserModel", "sum", "(II)I"⟩, 8)]
theorem lw_r1 : ∀ q ∈ lw_privs_1, lw_okq q := List.forall_mem_cons.mpr ⟨lw_p0, List.forall_mem_cons.mpr ⟨lw_p1, List.forall_mem_cons.mpr ⟨lw_p2, List.forall_mem_cons.mpr ⟨lw_p3, List.forall_mem_cons.mpr ⟨lw_p4, List.forall_mem_cons.mpr ⟨lw_p5, List.forall_mem_cons.mpr ⟨lw_p6, List.forall_mem_cons.mpr ⟨lw_p7, List.forall_mem_cons.mpr ⟨lw_p8, List.forall_mem_cons.mpr ⟨lw_p9, List.forall_mem_cons.mpr ⟨lw_p10, List.forall_mem_cons.mpr ⟨lw_p11, List.forall_mem_cons.mpr ⟨lw_p12, List.forall_mem_cons.mpr ⟨lw_p13, List.forall_mem_cons.mpr ⟨lw_p14, List.forall_mem_cons.mpr ⟨lw_p15, fun _ h => absurd h List.not_mem_nil⟩⟩⟩⟩⟩⟩⟩⟩⟩⟩⟩⟩⟩⟩⟩⟩
theorem lw_p16 : lw_okq (⟨"RowLegaliserModel", "leastUp", "(I)I"⟩, 8) := ⟨⟨by decide +kernel, by decide +kernel⟩, lw_t1 (List.mem_of_getElem? (i := 125) rfl), lw_t1 (List.mem_of_getElem? (i := 213) rfl), lw_t1 (List.mem_of_getElem? (i := 214) rfl)⟩
theorem lw_p17 : lw_okq (⟨"RowLegaliserModel", "fillDown", "()V"⟩, 8) := ⟨⟨by decide +kernel, by decide +kernel⟩, lw_t1 (List.mem_of_getElem? (i := 125) rfl), lw_t1 (List.mem_of_getElem? (i := 226) rfl), lw_t1 (List.mem_of_getElem? (i := 227) rfl)⟩
theorem lw_p18 : lw_okq (⟨"RowLegaliserModel", "allContent", "(I)Z"⟩, 8) := ⟨⟨by decide +kernel, by decide +kernel⟩, lw_t1 (List.mem_of_getElem? (i := 125) rfl), lw_t1 (List.mem_of_getElem? (i := 238) rfl), lw_t1 (List.mem_of_getElem? (i := 239) rfl)⟩
def lw_privs_2 : List (MethodName × Nat) := [(⟨"RowLegaliserModel", "leastUp", "(I)I"⟩, 8), (⟨"RowLegaliserModel", "fillDown", "()V"⟩, 8), (⟨"RowLegaliserModel", "allContent", "(I)Z"⟩, 8)]
theorem lw_r2 : ∀ q ∈ lw_privs_2, lw_okq q := List.forall_mem_cons.mpr ⟨lw_p16, List.forall_mem_cons.mpr ⟨lw_p17, List.forall_mem_cons.mpr ⟨lw_p18, fun _ h => absurd h List.not_mem_nil⟩⟩⟩
def lw_privs : List (MethodName × Nat) := lw_privs_1 ++ (lw_privs_2)
def lw_tbl : List Cond := k2_sels lw_privs ++ tables_1
theorem lw_privs_ok : ∀ q ∈ lw_privs, lw_okq q := by
  show ∀ q ∈ lw_privs_1 ++ (lw_privs_2), lw_okq q
  exact List.forall_mem_append.mpr ⟨lw_r1, lw_r2⟩
-- ===== ONE list of words for every method: the tables' words that hold all through a run =====
def lw_all : List Cond := lw_tbl.filter goodWord
/-- a word of the tables by its place: claim/WORDS.tsv -/
theorem lw_w {w : Cond} (i : Nat) (h : lw_tbl[i]? = some w) (g : goodWord w = true) : w ∈ lw_all := List.mem_filter.mpr ⟨List.mem_of_getElem? h, g⟩
theorem lw_all_tbl {w : Cond} (h : w ∈ lw_all) : w ∈ lw_tbl := (List.mem_filter.mp h).1
theorem lw_self : GoodIn lw_all lw_all := fun w h => ⟨h, good_of_word (List.mem_filter.mp h).2⟩
/-- a class's field words, by their places -/
theorem lw_in (ws : List Cond) (ps : List Nat) (hp : ws = ps.filterMap (fun i => lw_tbl[i]?)) (hg : ws.all goodWord = true) : ∀ w ∈ ws, w ∈ lw_all := by
  intro w h
  have h1 := List.all_eq_true.mp hg w h
  rw [hp] at h
  obtain ⟨i, -, hi⟩ := List.mem_filterMap.mp h
  exact lw_w i hi h1
/-- the words of a contract for the method y with code b, L locals, answer r -/
abbrev ws_ (y : MethodName) (b : ByteArray) (L : Nat) (r : Option FieldType) : List Cond := Cond.code y b L r :: lw_all
theorem lw_meth {y : MethodName} {b : ByteArray} {L : Nat} {r : Option FieldType} (h : Cond.code y b L r ∈ lw_all) : GoodIn lw_all (ws_ y b L r) := by
  intro w hw
  rcases List.mem_cons.mp hw with e | e
  · rw [e]
    exact lw_self _ h
  · exact lw_self _ e
theorem lw_app {a c : List Cond} (ha : ∀ w ∈ a, w ∈ lw_all) (hc : GoodIn lw_all c) : GoodIn lw_all (a ++ c) := by
  intro w hw
  rcases List.mem_append.mp hw with e | e
  · exact lw_self w (ha w e)
  · exact hc w e
/-- what a call through an object asks: cwV n hts (lw_V ..) -/
theorem lw_V {own : String} {idx : Nat} {C : String} {y : MethodName} {b : ByteArray} {L : Nat} {r : Option FieldType} (h1 : Cond.methodLink own idx y ∈ lw_all) (h2 : Cond.instanceMethod y ∈ lw_all) (h3 : Cond.selects C y y ∈ lw_all) (h4 : Cond.initialized C ∈ lw_all) (h5 : Cond.code y b L r ∈ lw_all) : GoodIn lw_all (wsV own idx C y (ws_ y b L r)) := by
  refine lw_app ?_ (lw_meth h5)
  intro w hw
  simp only [List.mem_cons, List.not_mem_nil, or_false] at hw
  rcases hw with e | e | e | e
  · rw [e]; exact h1
  · rw [e]; exact h2
  · rw [e]; exact h3
  · rw [e]; exact h4
/-- what a static call asks: va_cwS n hts (lw_S ..) -/
theorem lw_S {own : String} {idx : Nat} {y : MethodName} {b : ByteArray} {L : Nat} {r : Option FieldType} (h1 : Cond.methodLink own idx y ∈ lw_all) (h2 : Cond.static y ∈ lw_all) (h3 : Cond.initialized y.cls ∈ lw_all) (h4 : Cond.code y b L r ∈ lw_all) : GoodIn lw_all (va_wsS own idx y (ws_ y b L r)) := by
  refine lw_app ?_ (lw_meth h4)
  intro w hw
  simp only [List.mem_cons, List.not_mem_nil, or_false] at hw
  rcases hw with e | e | e
  · rw [e]; exact h1
  · rw [e]; exact h2
  · rw [e]; exact h3
/-- the words of a contract for a method WITH HANDLERS (hh: its table) -/
abbrev wsW_ (y : MethodName) (b : ByteArray) (L : Nat) (r : Option FieldType) (hh : List (Nat × Nat × Nat × Nat)) : List Cond := Cond.codeWith y b L r hh :: lw_all
theorem lw_methW {y : MethodName} {b : ByteArray} {L : Nat} {r : Option FieldType} {hh : List (Nat × Nat × Nat × Nat)} (h : Cond.codeWith y b L r hh ∈ lw_all) : GoodIn lw_all (wsW_ y b L r hh) := by
  intro w hw
  rcases List.mem_cons.mp hw with e | e
  · rw [e]
    exact lw_self _ h
  · exact lw_self _ e
/-- any list of words by their places (lw_in), good -/
theorem lw_good {ws : List Cond} (h : ∀ w ∈ ws, w ∈ lw_all) : GoodIn lw_all ws := fun w hw => lw_self w (h w hw)
/-- what a call of a method with handlers asks: vx_cwVW n hts (lw_VW ..), vx_cwSW n hts (lw_SW ..) -/
theorem lw_VW {own : String} {idx : Nat} {C : String} {y : MethodName} {b : ByteArray} {L : Nat} {r : Option FieldType} {hh : List (Nat × Nat × Nat × Nat)} (h1 : Cond.methodLink own idx y ∈ lw_all) (h2 : Cond.instanceMethod y ∈ lw_all) (h3 : Cond.selects C y y ∈ lw_all) (h4 : Cond.initialized C ∈ lw_all) (h5 : Cond.codeWith y b L r hh ∈ lw_all) : GoodIn lw_all (wsV own idx C y (wsW_ y b L r hh)) := by
  refine lw_app ?_ (lw_methW h5)
  intro w hw
  simp only [List.mem_cons, List.not_mem_nil, or_false] at hw
  rcases hw with e | e | e | e
  · rw [e]; exact h1
  · rw [e]; exact h2
  · rw [e]; exact h3
  · rw [e]; exact h4
theorem lw_SW {own : String} {idx : Nat} {y : MethodName} {b : ByteArray} {L : Nat} {r : Option FieldType} {hh : List (Nat × Nat × Nat × Nat)} (h1 : Cond.methodLink own idx y ∈ lw_all) (h2 : Cond.static y ∈ lw_all) (h3 : Cond.initialized y.cls ∈ lw_all) (h4 : Cond.codeWith y b L r hh ∈ lw_all) : GoodIn lw_all (va_wsS own idx y (wsW_ y b L r hh)) := by
  refine lw_app ?_ (lw_methW h4)
  intro w hw
  simp only [List.mem_cons, List.not_mem_nil, or_false] at hw
  rcases hw with e | e | e
  · rw [e]; exact h1
  · rw [e]; exact h2
  · rw [e]; exact h3
/-- a word by its place in its run of the tables -/
theorem lw_at {r : List Cond} (hr : ∀ w ∈ r, w ∈ lw_tbl) {w : Cond} (i : Nat) (h : r[i]? = some w) : w ∈ lw_tbl := hr w (List.mem_of_getElem? h)
theorem lw_g {w : Cond} (h : w ∈ lw_tbl) (g : goodWord w = true) : w ∈ lw_all := List.mem_filter.mpr ⟨h, g⟩
theorem lw_ms : ∀ w ∈ k2_sels lw_privs, w ∈ lw_tbl := fun w h => show w ∈ k2_sels lw_privs ++ tables_1 from List.mem_append_left _ h
theorem lw_m1 : ∀ w ∈ tables_1_1, w ∈ lw_tbl := fun w h => show w ∈ k2_sels lw_privs ++ tables_1 from List.mem_append_right (k2_sels lw_privs) (show w ∈ tables_1 from List.mem_append_left _ h)
theorem lw_m2 : ∀ w ∈ tables_1_2, w ∈ lw_tbl := fun w h => show w ∈ k2_sels lw_privs ++ tables_1 from List.mem_append_right (k2_sels lw_privs) (show w ∈ tables_1 from List.mem_append_right _ h)
theorem qs0 : (Cond.selects "RowLegaliser" ⟨"RowLegaliser", "noCell", "(I)Z"⟩ ⟨"RowLegaliser", "noCell", "(I)Z"⟩) ∈ lw_all := lw_g (lw_at lw_ms 0 rfl) rfl
theorem qs1 : (Cond.selects "RowLegaliser" ⟨"RowLegaliser", "partCost", "(IIII)I"⟩ ⟨"RowLegaliser", "partCost", "(IIII)I"⟩) ∈ lw_all := lw_g (lw_at lw_ms 1 rfl) rfl
theorem qs2 : (Cond.selects "RowLegaliser" ⟨"RowLegaliser", "widthOf", "(II)I"⟩ ⟨"RowLegaliser", "widthOf", "(II)I"⟩) ∈ lw_all := lw_g (lw_at lw_ms 2 rfl) rfl
theorem qs3 : (Cond.selects "RowLegaliser" ⟨"RowLegaliser", "addUnit", "(I)I"⟩ ⟨"RowLegaliser", "addUnit", "(I)I"⟩) ∈ lw_all := lw_g (lw_at lw_ms 3 rfl) rfl
theorem qs4 : (Cond.selects "RowLegaliser" ⟨"RowLegaliser", "addPoint", "(I)V"⟩ ⟨"RowLegaliser", "addPoint", "(I)V"⟩) ∈ lw_all := lw_g (lw_at lw_ms 4 rfl) rfl
theorem qs5 : (Cond.selects "RowLegaliser" ⟨"RowLegaliser", "findPlaces", "()V"⟩ ⟨"RowLegaliser", "findPlaces", "()V"⟩) ∈ lw_all := lw_g (lw_at lw_ms 5 rfl) rfl
theorem qs6 : (Cond.selects "RowLegaliser" ⟨"RowLegaliser", "bestUpTo", "(II)I"⟩ ⟨"RowLegaliser", "bestUpTo", "(II)I"⟩) ∈ lw_all := lw_g (lw_at lw_ms 6 rfl) rfl
theorem qs7 : (Cond.selects "RowLegaliser" ⟨"RowLegaliser", "upTo", "(III)I"⟩ ⟨"RowLegaliser", "upTo", "(III)I"⟩) ∈ lw_all := lw_g (lw_at lw_ms 7 rfl) rfl
theorem qs8 : (Cond.selects "RowLegaliser" ⟨"RowLegaliser", "fitsAtWish", "(I)Z"⟩ ⟨"RowLegaliser", "fitsAtWish", "(I)Z"⟩) ∈ lw_all := lw_g (lw_at lw_ms 8 rfl) rfl
theorem qs9 : (Cond.selects "RowLegaliserModel" ⟨"RowLegaliserModel", "badWish", "(I)Z"⟩ ⟨"RowLegaliserModel", "badWish", "(I)Z"⟩) ∈ lw_all := lw_g (lw_at lw_ms 9 rfl) rfl
theorem qs10 : (Cond.selects "RowLegaliserModel" ⟨"RowLegaliserModel", "badWeight", "(I)Z"⟩ ⟨"RowLegaliserModel", "badWeight", "(I)Z"⟩) ∈ lw_all := lw_g (lw_at lw_ms 10 rfl) rfl
theorem qs11 : (Cond.selects "RowLegaliserModel" ⟨"RowLegaliserModel", "badCell", "(I)Z"⟩ ⟨"RowLegaliserModel", "badCell", "(I)Z"⟩) ∈ lw_all := lw_g (lw_at lw_ms 11 rfl) rfl
theorem qs12 : (Cond.selects "RowLegaliserModel" ⟨"RowLegaliserModel", "fillUp", "(I)V"⟩ ⟨"RowLegaliserModel", "fillUp", "(I)V"⟩) ∈ lw_all := lw_g (lw_at lw_ms 12 rfl) rfl
theorem qs13 : (Cond.selects "RowLegaliserModel" ⟨"RowLegaliserModel", "least", "(II)I"⟩ ⟨"RowLegaliserModel", "least", "(II)I"⟩) ∈ lw_all := lw_g (lw_at lw_ms 13 rfl) rfl
theorem qs14 : (Cond.selects "RowLegaliserModel" ⟨"RowLegaliserModel", "own", "(II)I"⟩ ⟨"RowLegaliserModel", "own", "(II)I"⟩) ∈ lw_all := lw_g (lw_at lw_ms 14 rfl) rfl
theorem qs15 : (Cond.selects "RowLegaliserModel" ⟨"RowLegaliserModel", "sum", "(II)I"⟩ ⟨"RowLegaliserModel", "sum", "(II)I"⟩) ∈ lw_all := lw_g (lw_at lw_ms 15 rfl) rfl
theorem qs16 : (Cond.selects "RowLegaliserModel" ⟨"RowLegaliserModel", "leastUp", "(I)I"⟩ ⟨"RowLegaliserModel", "leastUp", "(I)I"⟩) ∈ lw_all := lw_g (lw_at lw_ms 16 rfl) rfl
theorem qs17 : (Cond.selects "RowLegaliserModel" ⟨"RowLegaliserModel", "fillDown", "()V"⟩ ⟨"RowLegaliserModel", "fillDown", "()V"⟩) ∈ lw_all := lw_g (lw_at lw_ms 17 rfl) rfl
theorem qs18 : (Cond.selects "RowLegaliserModel" ⟨"RowLegaliserModel", "allContent", "(I)Z"⟩ ⟨"RowLegaliserModel", "allContent", "(I)Z"⟩) ∈ lw_all := lw_g (lw_at lw_ms 18 rfl) rfl
end
section
/-! java/lang/Object -/
set_option maxRecDepth 100000
def RJ0 : String := "java/lang/Object"
abbrev cJ0_init : ByteArray := object_method_1_code
def yJ0_init : MethodName := ⟨RJ0, "<init>", "()V"⟩
theorem dJ0_init_0 : decode cJ0_init 0 = .ok (.return_, 1) := by decide +kernel
theorem q28 : (Jvm.Cond.instanceMethod ({ cls := "java/lang/Object", name := "<init>", desc := "()V" } : Jvm.MethodName)) ∈ lw_all := lw_g (lw_at lw_m1 9 rfl) rfl
theorem q29 : (Jvm.Cond.code ({ cls := "java/lang/Object", name := "<init>", desc := "()V" } : Jvm.MethodName) object_method_1_code (1 : Nat) (Option.none : Option Jvm.ClassFile.FieldType)) ∈ lw_all := lw_g (lw_at lw_m1 10 rfl) rfl
theorem q55 : (Jvm.Cond.arrayClass Jvm.ClassFile.FieldType.int) ∈ lw_all := lw_g (lw_at lw_m1 36 rfl) rfl
set_option maxRecDepth 100000
/-! RowLegaliserLaw -/
set_option maxRecDepth 100000
def RX0 : String := "RowLegaliserLaw"
abbrev cX0_cell : ByteArray := method_2_code
def yX0_cell : MethodName := ⟨RX0, "cell", "([II)I"⟩
theorem dX0_cell_0 : decode cX0_cell 0 = .ok (.iload_n 1, 1) := by decide +kernel
theorem dX0_cell_1 : decode cX0_cell 1 = .ok (.aload_n 0, 1) := by decide +kernel
theorem dX0_cell_2 : decode cX0_cell 2 = .ok (.arraylength, 1) := by decide +kernel
theorem dX0_cell_3 : decode cX0_cell 3 = .ok (.if_icmp .ge 9, 3) := by decide +kernel
theorem dX0_cell_6 : decode cX0_cell 6 = .ok (.aload_n 0, 1) := by decide +kernel
theorem dX0_cell_7 : decode cX0_cell 7 = .ok (.iload_n 1, 1) := by decide +kernel
theorem dX0_cell_8 : decode cX0_cell 8 = .ok (.iaload, 1) := by decide +kernel
theorem dX0_cell_9 : decode cX0_cell 9 = .ok (.goto 4, 3) := by decide +kernel
theorem dX0_cell_12 : decode cX0_cell 12 = .ok (.iconst 0, 1) := by decide +kernel
theorem dX0_cell_13 : decode cX0_cell 13 = .ok (.ireturn, 1) := by decide +kernel
theorem q19 : (Jvm.Cond.initialized "RowLegaliserLaw") ∈ lw_all := lw_g (lw_at lw_m1 0 rfl) rfl
theorem q22 : (Jvm.Cond.classLink "RowLegaliserLaw" (7 : Nat) "RowLegaliser") ∈ lw_all := lw_g (lw_at lw_m1 3 rfl) rfl
theorem q24 : (Jvm.Cond.methodLink "RowLegaliserLaw" (15 : Nat) ({ cls := "RowLegaliser", name := "<init>", desc := "(I)V" } : Jvm.MethodName)) ∈ lw_all := lw_g (lw_at lw_m1 5 rfl) rfl
theorem q56 : (Jvm.Cond.methodLink "RowLegaliserLaw" (21 : Nat) ({ cls := "RowLegaliser", name := "append", desc := "(III)I" } : Jvm.MethodName)) ∈ lw_all := lw_g (lw_at lw_m1 37 rfl) rfl
theorem q60 : (Jvm.Cond.methodLink "RowLegaliserLaw" (26 : Nat) ({ cls := "RowLegaliser", name := "move", desc := "(II)I" } : Jvm.MethodName)) ∈ lw_all := lw_g (lw_at lw_m1 41 rfl) rfl
theorem q68 : (Jvm.Cond.methodLink "RowLegaliserLaw" (31 : Nat) ({ cls := "RowLegaliser", name := "reweigh", desc := "(II)I" } : Jvm.MethodName)) ∈ lw_all := lw_g (lw_at lw_m1 49 rfl) rfl
theorem q72 : (Jvm.Cond.methodLink "RowLegaliserLaw" (35 : Nat) ({ cls := "RowLegaliser", name := "exchange", desc := "(I)I" } : Jvm.MethodName)) ∈ lw_all := lw_g (lw_at lw_m1 53 rfl) rfl
theorem q76 : (Jvm.Cond.methodLink "RowLegaliserLaw" (40 : Nat) ({ cls := "RowLegaliser", name := "drop", desc := "()I" } : Jvm.MethodName)) ∈ lw_all := lw_g (lw_at lw_m1 57 rfl) rfl
theorem q80 : (Jvm.Cond.methodLink "RowLegaliserLaw" (45 : Nat) ({ cls := "RowLegaliser", name := "cost", desc := "()I" } : Jvm.MethodName)) ∈ lw_all := lw_g (lw_at lw_m1 61 rfl) rfl
theorem q103 : (Jvm.Cond.methodLink "RowLegaliserLaw" (49 : Nat) ({ cls := "RowLegaliser", name := "costOf", desc := "(I)I" } : Jvm.MethodName)) ∈ lw_all := lw_g (lw_at lw_m1 84 rfl) rfl
theorem q107 : (Jvm.Cond.methodLink "RowLegaliserLaw" (53 : Nat) ({ cls := "RowLegaliser", name := "leftmost", desc := "(I)I" } : Jvm.MethodName)) ∈ lw_all := lw_g (lw_at lw_m1 88 rfl) rfl
theorem q124 : (Jvm.Cond.methodLink "RowLegaliserLaw" (57 : Nat) ({ cls := "RowLegaliser", name := "costAt", desc := "(II)I" } : Jvm.MethodName)) ∈ lw_all := lw_g (lw_at lw_m1 105 rfl) rfl
theorem q128 : (Jvm.Cond.methodLink "RowLegaliserLaw" (61 : Nat) ({ cls := "RowLegaliser", name := "room", desc := "()I" } : Jvm.MethodName)) ∈ lw_all := lw_g (lw_at lw_m1 109 rfl) rfl
theorem q132 : (Jvm.Cond.methodLink "RowLegaliserLaw" (65 : Nat) ({ cls := "RowLegaliser", name := "content", desc := "()I" } : Jvm.MethodName)) ∈ lw_all := lw_g (lw_at lw_m1 113 rfl) rfl
theorem q140 : (Jvm.Cond.methodLink "RowLegaliserLaw" (9 : Nat) ({ cls := "RowLegaliserLaw", name := "cell", desc := "([II)I" } : Jvm.MethodName)) ∈ lw_all := lw_g (lw_at lw_m1 121 rfl) rfl
theorem q141 : (Jvm.Cond.static ({ cls := "RowLegaliserLaw", name := "cell", desc := "([II)I" } : Jvm.MethodName)) ∈ lw_all := lw_g (lw_at lw_m1 122 rfl) rfl
theorem q142 : (Jvm.Cond.code ({ cls := "RowLegaliserLaw", name := "cell", desc := "([II)I" } : Jvm.MethodName) method_2_code (2 : Nat) (Option.some Jvm.ClassFile.FieldType.int)) ∈ lw_all := lw_g (lw_at lw_m1 123 rfl) rfl
theorem q143 : (Jvm.Cond.classLink "RowLegaliserLaw" (18 : Nat) "RowLegaliserModel") ∈ lw_all := lw_g (lw_at lw_m1 124 rfl) rfl
theorem q145 : (Jvm.Cond.methodLink "RowLegaliserLaw" (20 : Nat) ({ cls := "RowLegaliserModel", name := "<init>", desc := "(I)V" } : Jvm.MethodName)) ∈ lw_all := lw_g (lw_at lw_m1 126 rfl) rfl
theorem q174 : (Jvm.Cond.methodLink "RowLegaliserLaw" (25 : Nat) ({ cls := "RowLegaliserModel", name := "append", desc := "(III)I" } : Jvm.MethodName)) ∈ lw_all := lw_g (lw_at lw_m1 155 rfl) rfl
theorem q186 : (Jvm.Cond.methodLink "RowLegaliserLaw" (30 : Nat) ({ cls := "RowLegaliserModel", name := "move", desc := "(II)I" } : Jvm.MethodName)) ∈ lw_all := lw_g (lw_at lw_m1 167 rfl) rfl
theorem q194 : (Jvm.Cond.methodLink "RowLegaliserLaw" (34 : Nat) ({ cls := "RowLegaliserModel", name := "reweigh", desc := "(II)I" } : Jvm.MethodName)) ∈ lw_all := lw_g (lw_at lw_m1 175 rfl) rfl
theorem q198 : (Jvm.Cond.methodLink "RowLegaliserLaw" (39 : Nat) ({ cls := "RowLegaliserModel", name := "exchange", desc := "(I)I" } : Jvm.MethodName)) ∈ lw_all := lw_g (lw_at lw_m1 179 rfl) rfl
theorem q202 : (Jvm.Cond.methodLink "RowLegaliserLaw" (44 : Nat) ({ cls := "RowLegaliserModel", name := "drop", desc := "()I" } : Jvm.MethodName)) ∈ lw_all := lw_g (lw_at lw_m1 183 rfl) rfl
theorem q206 : (Jvm.Cond.methodLink "RowLegaliserLaw" (48 : Nat) ({ cls := "RowLegaliserModel", name := "cost", desc := "()I" } : Jvm.MethodName)) ∈ lw_all := lw_g (lw_at lw_m1 187 rfl) rfl
theorem q235 : (Jvm.Cond.methodLink "RowLegaliserLaw" (52 : Nat) ({ cls := "RowLegaliserModel", name := "costOf", desc := "(I)I" } : Jvm.MethodName)) ∈ lw_all := lw_g (lw_at lw_m1 216 rfl) rfl
theorem q236 : (Jvm.Cond.methodLink "RowLegaliserLaw" (56 : Nat) ({ cls := "RowLegaliserModel", name := "leftmost", desc := "(I)I" } : Jvm.MethodName)) ∈ lw_all := lw_g (lw_at lw_m1 217 rfl) rfl
theorem q240 : (Jvm.Cond.methodLink "RowLegaliserLaw" (60 : Nat) ({ cls := "RowLegaliserModel", name := "costAt", desc := "(II)I" } : Jvm.MethodName)) ∈ lw_all := lw_g (lw_at lw_m1 221 rfl) rfl
theorem q248 : (Jvm.Cond.methodLink "RowLegaliserLaw" (64 : Nat) ({ cls := "RowLegaliserModel", name := "room", desc := "()I" } : Jvm.MethodName)) ∈ lw_all := lw_g (lw_at lw_m1 229 rfl) rfl
theorem q252 : (Jvm.Cond.methodLink "RowLegaliserLaw" (68 : Nat) ({ cls := "RowLegaliserModel", name := "content", desc := "()I" } : Jvm.MethodName)) ∈ lw_all := lw_g (lw_at lw_m1 233 rfl) rfl
/-! the law's own entry -/
set_option maxRecDepth 100000
abbrev cL_law : ByteArray := code
theorem dL_law_0 : decode cL_law 0 = .ok (.new 7, 3) := by decide +kernel
theorem dL_law_3 : decode cL_law 3 = .ok (.dup, 1) := by decide +kernel
theorem dL_law_4 : decode cL_law 4 = .ok (.aload_n 0, 1) := by decide +kernel
theorem dL_law_5 : decode cL_law 5 = .ok (.iconst 0, 1) := by decide +kernel
theorem dL_law_6 : decode cL_law 6 = .ok (.invokestatic 9, 3) := by decide +kernel
theorem dL_law_9 : decode cL_law 9 = .ok (.invokespecial 15, 3) := by decide +kernel
theorem dL_law_12 : decode cL_law 12 = .ok (.astore_n 1, 1) := by decide +kernel
theorem dL_law_13 : decode cL_law 13 = .ok (.new 18, 3) := by decide +kernel
theorem dL_law_16 : decode cL_law 16 = .ok (.dup, 1) := by decide +kernel
theorem dL_law_17 : decode cL_law 17 = .ok (.aload_n 0, 1) := by decide +kernel
theorem dL_law_18 : decode cL_law 18 = .ok (.iconst 0, 1) := by decide +kernel
theorem dL_law_19 : decode cL_law 19 = .ok (.invokestatic 9, 3) := by decide +kernel
theorem dL_law_22 : decode cL_law 22 = .ok (.invokespecial 20, 3) := by decide +kernel
theorem dL_law_25 : decode cL_law 25 = .ok (.astore_n 2, 1) := by decide +kernel
theorem dL_law_26 : decode cL_law 26 = .ok (.iconst 1, 1) := by decide +kernel
theorem dL_law_27 : decode cL_law 27 = .ok (.istore_n 3, 1) := by decide +kernel
theorem dL_law_28 : decode cL_law 28 = .ok (.iload_n 3, 1) := by decide +kernel
theorem dL_law_29 : decode cL_law 29 = .ok (.aload_n 0, 1) := by decide +kernel
theorem dL_law_30 : decode cL_law 30 = .ok (.arraylength, 1) := by decide +kernel
theorem dL_law_31 : decode cL_law 31 = .ok (.iconst 4, 1) := by decide +kernel
theorem dL_law_32 : decode cL_law 32 = .ok (.isub, 1) := by decide +kernel
theorem dL_law_33 : decode cL_law 33 = .ok (.if_icmp .gt 336, 3) := by decide +kernel
theorem dL_law_36 : decode cL_law 36 = .ok (.aload_n 0, 1) := by decide +kernel
theorem dL_law_37 : decode cL_law 37 = .ok (.iload_n 3, 1) := by decide +kernel
theorem dL_law_38 : decode cL_law 38 = .ok (.iaload, 1) := by decide +kernel
theorem dL_law_39 : decode cL_law 39 = .ok (.bipush 15, 2) := by decide +kernel
theorem dL_law_41 : decode cL_law 41 = .ok (.iand, 1) := by decide +kernel
theorem dL_law_42 : decode cL_law 42 = .ok (.tableswitch 321 0 10 #[58, 101, 134, 167, 190, 203, 216, 239, 262, 295, 308], 58) := by decide +kernel
theorem dL_law_100 : decode cL_law 100 = .ok (.aload_n 1, 1) := by decide +kernel
theorem dL_law_101 : decode cL_law 101 = .ok (.aload_n 0, 1) := by decide +kernel
theorem dL_law_102 : decode cL_law 102 = .ok (.iload_n 3, 1) := by decide +kernel
theorem dL_law_103 : decode cL_law 103 = .ok (.iconst 1, 1) := by decide +kernel
theorem dL_law_104 : decode cL_law 104 = .ok (.iadd, 1) := by decide +kernel
theorem dL_law_105 : decode cL_law 105 = .ok (.iaload, 1) := by decide +kernel
theorem dL_law_106 : decode cL_law 106 = .ok (.aload_n 0, 1) := by decide +kernel
theorem dL_law_107 : decode cL_law 107 = .ok (.iload_n 3, 1) := by decide +kernel
theorem dL_law_108 : decode cL_law 108 = .ok (.iconst 2, 1) := by decide +kernel
theorem dL_law_109 : decode cL_law 109 = .ok (.iadd, 1) := by decide +kernel
theorem dL_law_110 : decode cL_law 110 = .ok (.iaload, 1) := by decide +kernel
theorem dL_law_111 : decode cL_law 111 = .ok (.aload_n 0, 1) := by decide +kernel
theorem dL_law_112 : decode cL_law 112 = .ok (.iload_n 3, 1) := by decide +kernel
theorem dL_law_113 : decode cL_law 113 = .ok (.iconst 3, 1) := by decide +kernel
theorem dL_law_114 : decode cL_law 114 = .ok (.iadd, 1) := by decide +kernel
theorem dL_law_115 : decode cL_law 115 = .ok (.iaload, 1) := by decide +kernel
theorem dL_law_116 : decode cL_law 116 = .ok (.invokevirtual 21, 3) := by decide +kernel
theorem dL_law_119 : decode cL_law 119 = .ok (.aload_n 2, 1) := by decide +kernel
theorem dL_law_120 : decode cL_law 120 = .ok (.aload_n 0, 1) := by decide +kernel
theorem dL_law_121 : decode cL_law 121 = .ok (.iload_n 3, 1) := by decide +kernel
theorem dL_law_122 : decode cL_law 122 = .ok (.iconst 1, 1) := by decide +kernel
theorem dL_law_123 : decode cL_law 123 = .ok (.iadd, 1) := by decide +kernel
theorem dL_law_124 : decode cL_law 124 = .ok (.iaload, 1) := by decide +kernel
theorem dL_law_125 : decode cL_law 125 = .ok (.aload_n 0, 1) := by decide +kernel
theorem dL_law_126 : decode cL_law 126 = .ok (.iload_n 3, 1) := by decide +kernel
theorem dL_law_127 : decode cL_law 127 = .ok (.iconst 2, 1) := by decide +kernel
theorem dL_law_128 : decode cL_law 128 = .ok (.iadd, 1) := by decide +kernel
theorem dL_law_129 : decode cL_law 129 = .ok (.iaload, 1) := by decide +kernel
theorem dL_law_130 : decode cL_law 130 = .ok (.aload_n 0, 1) := by decide +kernel
theorem dL_law_131 : decode cL_law 131 = .ok (.iload_n 3, 1) := by decide +kernel
theorem dL_law_132 : decode cL_law 132 = .ok (.iconst 3, 1) := by decide +kernel
theorem dL_law_133 : decode cL_law 133 = .ok (.iadd, 1) := by decide +kernel
theorem dL_law_134 : decode cL_law 134 = .ok (.iaload, 1) := by decide +kernel
theorem dL_law_135 : decode cL_law 135 = .ok (.invokevirtual 25, 3) := by decide +kernel
theorem dL_law_138 : decode cL_law 138 = .ok (.if_icmp .eq 225, 3) := by decide +kernel
theorem dL_law_141 : decode cL_law 141 = .ok (.iconst 0, 1) := by decide +kernel
theorem dL_law_142 : decode cL_law 142 = .ok (.ireturn, 1) := by decide +kernel
theorem dL_law_143 : decode cL_law 143 = .ok (.aload_n 1, 1) := by decide +kernel
theorem dL_law_144 : decode cL_law 144 = .ok (.aload_n 0, 1) := by decide +kernel
theorem dL_law_145 : decode cL_law 145 = .ok (.iload_n 3, 1) := by decide +kernel
theorem dL_law_146 : decode cL_law 146 = .ok (.iconst 1, 1) := by decide +kernel
theorem dL_law_147 : decode cL_law 147 = .ok (.iadd, 1) := by decide +kernel
theorem dL_law_148 : decode cL_law 148 = .ok (.iaload, 1) := by decide +kernel
theorem dL_law_149 : decode cL_law 149 = .ok (.aload_n 0, 1) := by decide +kernel
theorem dL_law_150 : decode cL_law 150 = .ok (.iload_n 3, 1) := by decide +kernel
theorem dL_law_151 : decode cL_law 151 = .ok (.iconst 2, 1) := by decide +kernel
theorem dL_law_152 : decode cL_law 152 = .ok (.iadd, 1) := by decide +kernel
theorem dL_law_153 : decode cL_law 153 = .ok (.iaload, 1) := by decide +kernel
theorem dL_law_154 : decode cL_law 154 = .ok (.invokevirtual 26, 3) := by decide +kernel
theorem dL_law_157 : decode cL_law 157 = .ok (.aload_n 2, 1) := by decide +kernel
theorem dL_law_158 : decode cL_law 158 = .ok (.aload_n 0, 1) := by decide +kernel
theorem dL_law_159 : decode cL_law 159 = .ok (.iload_n 3, 1) := by decide +kernel
theorem dL_law_160 : decode cL_law 160 = .ok (.iconst 1, 1) := by decide +kernel
theorem dL_law_161 : decode cL_law 161 = .ok (.iadd, 1) := by decide +kernel
theorem dL_law_162 : decode cL_law 162 = .ok (.iaload, 1) := by decide +kernel
theorem dL_law_163 : decode cL_law 163 = .ok (.aload_n 0, 1) := by decide +kernel
theorem dL_law_164 : decode cL_law 164 = .ok (.iload_n 3, 1) := by decide +kernel
theorem dL_law_165 : decode cL_law 165 = .ok (.iconst 2, 1) := by decide +kernel
theorem dL_law_166 : decode cL_law 166 = .ok (.iadd, 1) := by decide +kernel
theorem dL_law_167 : decode cL_law 167 = .ok (.iaload, 1) := by decide +kernel
theorem dL_law_168 : decode cL_law 168 = .ok (.invokevirtual 30, 3) := by decide +kernel
theorem dL_law_171 : decode cL_law 171 = .ok (.if_icmp .eq 192, 3) := by decide +kernel
theorem dL_law_174 : decode cL_law 174 = .ok (.iconst 0, 1) := by decide +kernel
theorem dL_law_175 : decode cL_law 175 = .ok (.ireturn, 1) := by decide +kernel
theorem dL_law_176 : decode cL_law 176 = .ok (.aload_n 1, 1) := by decide +kernel
theorem dL_law_177 : decode cL_law 177 = .ok (.aload_n 0, 1) := by decide +kernel
theorem dL_law_178 : decode cL_law 178 = .ok (.iload_n 3, 1) := by decide +kernel
theorem dL_law_179 : decode cL_law 179 = .ok (.iconst 1, 1) := by decide +kernel
theorem dL_law_180 : decode cL_law 180 = .ok (.iadd, 1) := by decide +kernel
theorem dL_law_181 : decode cL_law 181 = .ok (.iaload, 1) := by decide +kernel
theorem dL_law_182 : decode cL_law 182 = .ok (.aload_n 0, 1) := by decide +kernel
theorem dL_law_183 : decode cL_law 183 = .ok (.iload_n 3, 1) := by decide +kernel
theorem dL_law_184 : decode cL_law 184 = .ok (.iconst 2, 1) := by decide +kernel
theorem dL_law_185 : decode cL_law 185 = .ok (.iadd, 1) := by decide +kernel
theorem dL_law_186 : decode cL_law 186 = .ok (.iaload, 1) := by decide +kernel
theorem dL_law_187 : decode cL_law 187 = .ok (.invokevirtual 31, 3) := by decide +kernel
theorem dL_law_190 : decode cL_law 190 = .ok (.aload_n 2, 1) := by decide +kernel
theorem dL_law_191 : decode cL_law 191 = .ok (.aload_n 0, 1) := by decide +kernel
theorem dL_law_192 : decode cL_law 192 = .ok (.iload_n 3, 1) := by decide +kernel
theorem dL_law_193 : decode cL_law 193 = .ok (.iconst 1, 1) := by decide +kernel
theorem dL_law_194 : decode cL_law 194 = .ok (.iadd, 1) := by decide +kernel
theorem dL_law_195 : decode cL_law 195 = .ok (.iaload, 1) := by decide +kernel
theorem dL_law_196 : decode cL_law 196 = .ok (.aload_n 0, 1) := by decide +kernel
theorem dL_law_197 : decode cL_law 197 = .ok (.iload_n 3, 1) := by decide +kernel
theorem dL_law_198 : decode cL_law 198 = .ok (.iconst 2, 1) := by decide +kernel
theorem dL_law_199 : decode cL_law 199 = .ok (.iadd, 1) := by decide +kernel
theorem dL_law_200 : decode cL_law 200 = .ok (.iaload, 1) := by decide +kernel
theorem dL_law_201 : decode cL_law 201 = .ok (.invokevirtual 34, 3) := by decide +kernel
theorem dL_law_204 : decode cL_law 204 = .ok (.if_icmp .eq 159, 3) := by decide +kernel
theorem dL_law_207 : decode cL_law 207 = .ok (.iconst 0, 1) := by decide +kernel
theorem dL_law_208 : decode cL_law 208 = .ok (.ireturn, 1) := by decide +kernel
theorem dL_law_209 : decode cL_law 209 = .ok (.aload_n 1, 1) := by decide +kernel
theorem dL_law_210 : decode cL_law 210 = .ok (.aload_n 0, 1) := by decide +kernel
theorem dL_law_211 : decode cL_law 211 = .ok (.iload_n 3, 1) := by decide +kernel
theorem dL_law_212 : decode cL_law 212 = .ok (.iconst 1, 1) := by decide +kernel
theorem dL_law_213 : decode cL_law 213 = .ok (.iadd, 1) := by decide +kernel
theorem dL_law_214 : decode cL_law 214 = .ok (.iaload, 1) := by decide +kernel
theorem dL_law_215 : decode cL_law 215 = .ok (.invokevirtual 35, 3) := by decide +kernel
theorem dL_law_218 : decode cL_law 218 = .ok (.aload_n 2, 1) := by decide +kernel
theorem dL_law_219 : decode cL_law 219 = .ok (.aload_n 0, 1) := by decide +kernel
theorem dL_law_220 : decode cL_law 220 = .ok (.iload_n 3, 1) := by decide +kernel
theorem dL_law_221 : decode cL_law 221 = .ok (.iconst 1, 1) := by decide +kernel
theorem dL_law_222 : decode cL_law 222 = .ok (.iadd, 1) := by decide +kernel
theorem dL_law_223 : decode cL_law 223 = .ok (.iaload, 1) := by decide +kernel
theorem dL_law_224 : decode cL_law 224 = .ok (.invokevirtual 39, 3) := by decide +kernel
theorem dL_law_227 : decode cL_law 227 = .ok (.if_icmp .eq 136, 3) := by decide +kernel
theorem dL_law_230 : decode cL_law 230 = .ok (.iconst 0, 1) := by decide +kernel
theorem dL_law_231 : decode cL_law 231 = .ok (.ireturn, 1) := by decide +kernel
theorem dL_law_232 : decode cL_law 232 = .ok (.aload_n 1, 1) := by decide +kernel
theorem dL_law_233 : decode cL_law 233 = .ok (.invokevirtual 40, 3) := by decide +kernel
theorem dL_law_236 : decode cL_law 236 = .ok (.aload_n 2, 1) := by decide +kernel
theorem dL_law_237 : decode cL_law 237 = .ok (.invokevirtual 44, 3) := by decide +kernel
theorem dL_law_240 : decode cL_law 240 = .ok (.if_icmp .eq 123, 3) := by decide +kernel
theorem dL_law_243 : decode cL_law 243 = .ok (.iconst 0, 1) := by decide +kernel
theorem dL_law_244 : decode cL_law 244 = .ok (.ireturn, 1) := by decide +kernel
theorem dL_law_245 : decode cL_law 245 = .ok (.aload_n 1, 1) := by decide +kernel
theorem dL_law_246 : decode cL_law 246 = .ok (.invokevirtual 45, 3) := by decide +kernel
theorem dL_law_249 : decode cL_law 249 = .ok (.aload_n 2, 1) := by decide +kernel
theorem dL_law_250 : decode cL_law 250 = .ok (.invokevirtual 48, 3) := by decide +kernel
theorem dL_law_253 : decode cL_law 253 = .ok (.if_icmp .eq 110, 3) := by decide +kernel
theorem dL_law_256 : decode cL_law 256 = .ok (.iconst 0, 1) := by decide +kernel
theorem dL_law_257 : decode cL_law 257 = .ok (.ireturn, 1) := by decide +kernel
theorem dL_law_258 : decode cL_law 258 = .ok (.aload_n 1, 1) := by decide +kernel
theorem dL_law_259 : decode cL_law 259 = .ok (.aload_n 0, 1) := by decide +kernel
theorem dL_law_260 : decode cL_law 260 = .ok (.iload_n 3, 1) := by decide +kernel
theorem dL_law_261 : decode cL_law 261 = .ok (.iconst 1, 1) := by decide +kernel
theorem dL_law_262 : decode cL_law 262 = .ok (.iadd, 1) := by decide +kernel
theorem dL_law_263 : decode cL_law 263 = .ok (.iaload, 1) := by decide +kernel
theorem dL_law_264 : decode cL_law 264 = .ok (.invokevirtual 49, 3) := by decide +kernel
theorem dL_law_267 : decode cL_law 267 = .ok (.aload_n 2, 1) := by decide +kernel
theorem dL_law_268 : decode cL_law 268 = .ok (.aload_n 0, 1) := by decide +kernel
theorem dL_law_269 : decode cL_law 269 = .ok (.iload_n 3, 1) := by decide +kernel
theorem dL_law_270 : decode cL_law 270 = .ok (.iconst 1, 1) := by decide +kernel
theorem dL_law_271 : decode cL_law 271 = .ok (.iadd, 1) := by decide +kernel
theorem dL_law_272 : decode cL_law 272 = .ok (.iaload, 1) := by decide +kernel
theorem dL_law_273 : decode cL_law 273 = .ok (.invokevirtual 52, 3) := by decide +kernel
theorem dL_law_276 : decode cL_law 276 = .ok (.if_icmp .eq 87, 3) := by decide +kernel
theorem dL_law_279 : decode cL_law 279 = .ok (.iconst 0, 1) := by decide +kernel
theorem dL_law_280 : decode cL_law 280 = .ok (.ireturn, 1) := by decide +kernel
theorem dL_law_281 : decode cL_law 281 = .ok (.aload_n 1, 1) := by decide +kernel
theorem dL_law_282 : decode cL_law 282 = .ok (.aload_n 0, 1) := by decide +kernel
theorem dL_law_283 : decode cL_law 283 = .ok (.iload_n 3, 1) := by decide +kernel
theorem dL_law_284 : decode cL_law 284 = .ok (.iconst 1, 1) := by decide +kernel
theorem dL_law_285 : decode cL_law 285 = .ok (.iadd, 1) := by decide +kernel
theorem dL_law_286 : decode cL_law 286 = .ok (.iaload, 1) := by decide +kernel
theorem dL_law_287 : decode cL_law 287 = .ok (.invokevirtual 53, 3) := by decide +kernel
theorem dL_law_290 : decode cL_law 290 = .ok (.aload_n 2, 1) := by decide +kernel
theorem dL_law_291 : decode cL_law 291 = .ok (.aload_n 0, 1) := by decide +kernel
theorem dL_law_292 : decode cL_law 292 = .ok (.iload_n 3, 1) := by decide +kernel
theorem dL_law_293 : decode cL_law 293 = .ok (.iconst 1, 1) := by decide +kernel
theorem dL_law_294 : decode cL_law 294 = .ok (.iadd, 1) := by decide +kernel
theorem dL_law_295 : decode cL_law 295 = .ok (.iaload, 1) := by decide +kernel
theorem dL_law_296 : decode cL_law 296 = .ok (.invokevirtual 56, 3) := by decide +kernel
theorem dL_law_299 : decode cL_law 299 = .ok (.if_icmp .eq 64, 3) := by decide +kernel
theorem dL_law_302 : decode cL_law 302 = .ok (.iconst 0, 1) := by decide +kernel
theorem dL_law_303 : decode cL_law 303 = .ok (.ireturn, 1) := by decide +kernel
theorem dL_law_304 : decode cL_law 304 = .ok (.aload_n 1, 1) := by decide +kernel
theorem dL_law_305 : decode cL_law 305 = .ok (.aload_n 0, 1) := by decide +kernel
theorem dL_law_306 : decode cL_law 306 = .ok (.iload_n 3, 1) := by decide +kernel
theorem dL_law_307 : decode cL_law 307 = .ok (.iconst 1, 1) := by decide +kernel
theorem dL_law_308 : decode cL_law 308 = .ok (.iadd, 1) := by decide +kernel
theorem dL_law_309 : decode cL_law 309 = .ok (.iaload, 1) := by decide +kernel
theorem dL_law_310 : decode cL_law 310 = .ok (.aload_n 0, 1) := by decide +kernel
theorem dL_law_311 : decode cL_law 311 = .ok (.iload_n 3, 1) := by decide +kernel
theorem dL_law_312 : decode cL_law 312 = .ok (.iconst 2, 1) := by decide +kernel
theorem dL_law_313 : decode cL_law 313 = .ok (.iadd, 1) := by decide +kernel
theorem dL_law_314 : decode cL_law 314 = .ok (.iaload, 1) := by decide +kernel
theorem dL_law_315 : decode cL_law 315 = .ok (.invokevirtual 57, 3) := by decide +kernel
theorem dL_law_318 : decode cL_law 318 = .ok (.aload_n 2, 1) := by decide +kernel
theorem dL_law_319 : decode cL_law 319 = .ok (.aload_n 0, 1) := by decide +kernel
theorem dL_law_320 : decode cL_law 320 = .ok (.iload_n 3, 1) := by decide +kernel
theorem dL_law_321 : decode cL_law 321 = .ok (.iconst 1, 1) := by decide +kernel
theorem dL_law_322 : decode cL_law 322 = .ok (.iadd, 1) := by decide +kernel
theorem dL_law_323 : decode cL_law 323 = .ok (.iaload, 1) := by decide +kernel
theorem dL_law_324 : decode cL_law 324 = .ok (.aload_n 0, 1) := by decide +kernel
theorem dL_law_325 : decode cL_law 325 = .ok (.iload_n 3, 1) := by decide +kernel
theorem dL_law_326 : decode cL_law 326 = .ok (.iconst 2, 1) := by decide +kernel
theorem dL_law_327 : decode cL_law 327 = .ok (.iadd, 1) := by decide +kernel
theorem dL_law_328 : decode cL_law 328 = .ok (.iaload, 1) := by decide +kernel
theorem dL_law_329 : decode cL_law 329 = .ok (.invokevirtual 60, 3) := by decide +kernel
theorem dL_law_332 : decode cL_law 332 = .ok (.if_icmp .eq 31, 3) := by decide +kernel
theorem dL_law_335 : decode cL_law 335 = .ok (.iconst 0, 1) := by decide +kernel
theorem dL_law_336 : decode cL_law 336 = .ok (.ireturn, 1) := by decide +kernel
theorem dL_law_337 : decode cL_law 337 = .ok (.aload_n 1, 1) := by decide +kernel
theorem dL_law_338 : decode cL_law 338 = .ok (.invokevirtual 61, 3) := by decide +kernel
theorem dL_law_341 : decode cL_law 341 = .ok (.aload_n 2, 1) := by decide +kernel
theorem dL_law_342 : decode cL_law 342 = .ok (.invokevirtual 64, 3) := by decide +kernel
theorem dL_law_345 : decode cL_law 345 = .ok (.if_icmp .eq 18, 3) := by decide +kernel
theorem dL_law_348 : decode cL_law 348 = .ok (.iconst 0, 1) := by decide +kernel
theorem dL_law_349 : decode cL_law 349 = .ok (.ireturn, 1) := by decide +kernel
theorem dL_law_350 : decode cL_law 350 = .ok (.aload_n 1, 1) := by decide +kernel
theorem dL_law_351 : decode cL_law 351 = .ok (.invokevirtual 65, 3) := by decide +kernel
theorem dL_law_354 : decode cL_law 354 = .ok (.aload_n 2, 1) := by decide +kernel
theorem dL_law_355 : decode cL_law 355 = .ok (.invokevirtual 68, 3) := by decide +kernel
theorem dL_law_358 : decode cL_law 358 = .ok (.if_icmp .eq 5, 3) := by decide +kernel
theorem dL_law_361 : decode cL_law 361 = .ok (.iconst 0, 1) := by decide +kernel
theorem dL_law_362 : decode cL_law 362 = .ok (.ireturn, 1) := by decide +kernel
theorem dL_law_363 : decode cL_law 363 = .ok (.iinc 3 4, 3) := by decide +kernel
theorem dL_law_366 : decode cL_law 366 = .ok (.goto (-338), 3) := by decide +kernel
theorem dL_law_369 : decode cL_law 369 = .ok (.iconst 1, 1) := by decide +kernel
theorem dL_law_370 : decode cL_law 370 = .ok (.ireturn, 1) := by decide +kernel
end
section
/-! RowLegaliser -/
set_option maxRecDepth 100000
def RX1 : String := "RowLegaliser"
def TX1 : u_T := fun k => match k with
  | 0 => ("RowLegaliser", "length", "I", true)
  | 1 => ("RowLegaliser", "cells", "I", false)
  | 2 => ("RowLegaliser", "width", "[I", true)
  | 3 => ("RowLegaliser", "wish", "[I", true)
  | 4 => ("RowLegaliser", "weight", "[I", true)
  | 5 => ("RowLegaliser", "points", "I", false)
  | 6 => ("RowLegaliser", "point", "[I", true)
  | _ => ("RowLegaliser", "place", "[I", true)
def tyX1 : Nat → FieldType := fun k => match k with
  | 0 => .int
  | 1 => .int
  | 2 => .array .int
  | 3 => .array .int
  | 4 => .array .int
  | 5 => .int
  | 6 => .array .int
  | _ => .array .int
abbrev wsX10 : List Cond := u_ws RX1 TX1 8
theorem nmX1 : ∀ a, a < 8 → ∀ b, b < 8 → a ≠ b → (TX1 a).2.1 ≠ (TX1 b).2.1 := by decide +kernel
theorem tyX1_ok : ∀ k, k < 8 → parseFieldDescriptor (TX1 k).2.2.1 = some (tyX1 k) := by decide +kernel
abbrev cX1_init : ByteArray := prog_1_method_1_code
def yX1_init : MethodName := ⟨RX1, "<init>", "(I)V"⟩
theorem dX1_init_0 : decode cX1_init 0 = .ok (.aload_n 0, 1) := by decide +kernel
theorem dX1_init_1 : decode cX1_init 1 = .ok (.invokespecial 1, 3) := by decide +kernel
theorem dX1_init_4 : decode cX1_init 4 = .ok (.aload_n 0, 1) := by decide +kernel
theorem dX1_init_5 : decode cX1_init 5 = .ok (.bipush 10, 2) := by decide +kernel
theorem dX1_init_7 : decode cX1_init 7 = .ok (.newarray .int, 2) := by decide +kernel
theorem dX1_init_9 : decode cX1_init 9 = .ok (.putfield 7, 3) := by decide +kernel
theorem dX1_init_12 : decode cX1_init 12 = .ok (.aload_n 0, 1) := by decide +kernel
theorem dX1_init_13 : decode cX1_init 13 = .ok (.bipush 10, 2) := by decide +kernel
theorem dX1_init_15 : decode cX1_init 15 = .ok (.newarray .int, 2) := by decide +kernel
theorem dX1_init_17 : decode cX1_init 17 = .ok (.putfield 13, 3) := by decide +kernel
theorem dX1_init_20 : decode cX1_init 20 = .ok (.aload_n 0, 1) := by decide +kernel
theorem dX1_init_21 : decode cX1_init 21 = .ok (.bipush 10, 2) := by decide +kernel
theorem dX1_init_23 : decode cX1_init 23 = .ok (.newarray .int, 2) := by decide +kernel
theorem dX1_init_25 : decode cX1_init 25 = .ok (.putfield 16, 3) := by decide +kernel
theorem dX1_init_28 : decode cX1_init 28 = .ok (.aload_n 0, 1) := by decide +kernel
theorem dX1_init_29 : decode cX1_init 29 = .ok (.bipush 64, 2) := by decide +kernel
theorem dX1_init_31 : decode cX1_init 31 = .ok (.newarray .int, 2) := by decide +kernel
theorem dX1_init_33 : decode cX1_init 33 = .ok (.putfield 19, 3) := by decide +kernel
theorem dX1_init_36 : decode cX1_init 36 = .ok (.aload_n 0, 1) := by decide +kernel
theorem dX1_init_37 : decode cX1_init 37 = .ok (.bipush 10, 2) := by decide +kernel
theorem dX1_init_39 : decode cX1_init 39 = .ok (.newarray .int, 2) := by decide +kernel
theorem dX1_init_41 : decode cX1_init 41 = .ok (.putfield 22, 3) := by decide +kernel
theorem dX1_init_44 : decode cX1_init 44 = .ok (.iload_n 1, 1) := by decide +kernel
theorem dX1_init_45 : decode cX1_init 45 = .ok (.istore_n 2, 1) := by decide +kernel
theorem dX1_init_46 : decode cX1_init 46 = .ok (.iload_n 2, 1) := by decide +kernel
theorem dX1_init_47 : decode cX1_init 47 = .ok (.bipush 10, 2) := by decide +kernel
theorem dX1_init_49 : decode cX1_init 49 = .ok (.if_icmp .ge 6, 3) := by decide +kernel
theorem dX1_init_52 : decode cX1_init 52 = .ok (.bipush 10, 2) := by decide +kernel
theorem dX1_init_54 : decode cX1_init 54 = .ok (.istore_n 2, 1) := by decide +kernel
theorem dX1_init_55 : decode cX1_init 55 = .ok (.iload_n 2, 1) := by decide +kernel
theorem dX1_init_56 : decode cX1_init 56 = .ok (.bipush 60, 2) := by decide +kernel
theorem dX1_init_58 : decode cX1_init 58 = .ok (.if_icmp .le 6, 3) := by decide +kernel
theorem dX1_init_61 : decode cX1_init 61 = .ok (.bipush 60, 2) := by decide +kernel
theorem dX1_init_63 : decode cX1_init 63 = .ok (.istore_n 2, 1) := by decide +kernel
theorem dX1_init_64 : decode cX1_init 64 = .ok (.aload_n 0, 1) := by decide +kernel
theorem dX1_init_65 : decode cX1_init 65 = .ok (.iload_n 2, 1) := by decide +kernel
theorem dX1_init_66 : decode cX1_init 66 = .ok (.putfield 25, 3) := by decide +kernel
theorem dX1_init_69 : decode cX1_init 69 = .ok (.return_, 1) := by decide +kernel
abbrev cX1_append : ByteArray := prog_1_method_3_code
def yX1_append : MethodName := ⟨RX1, "append", "(III)I"⟩
theorem dX1_append_0 : decode cX1_append 0 = .ok (.iload_n 1, 1) := by decide +kernel
theorem dX1_append_1 : decode cX1_append 1 = .ok (.iconst 1, 1) := by decide +kernel
theorem dX1_append_2 : decode cX1_append 2 = .ok (.if_icmp .lt 8, 3) := by decide +kernel
theorem dX1_append_5 : decode cX1_append 5 = .ok (.iload_n 1, 1) := by decide +kernel
theorem dX1_append_6 : decode cX1_append 6 = .ok (.iconst 5, 1) := by decide +kernel
theorem dX1_append_7 : decode cX1_append 7 = .ok (.if_icmp .le 5, 3) := by decide +kernel
theorem dX1_append_10 : decode cX1_append 10 = .ok (.iconst (-1), 1) := by decide +kernel
theorem dX1_append_11 : decode cX1_append 11 = .ok (.ireturn, 1) := by decide +kernel
theorem dX1_append_12 : decode cX1_append 12 = .ok (.iload_n 2, 1) := by decide +kernel
theorem dX1_append_13 : decode cX1_append 13 = .ok (.ifCond .lt 9, 3) := by decide +kernel
theorem dX1_append_16 : decode cX1_append 16 = .ok (.iload_n 2, 1) := by decide +kernel
theorem dX1_append_17 : decode cX1_append 17 = .ok (.bipush 60, 2) := by decide +kernel
theorem dX1_append_19 : decode cX1_append 19 = .ok (.if_icmp .le 6, 3) := by decide +kernel
theorem dX1_append_22 : decode cX1_append 22 = .ok (.bipush (-2), 2) := by decide +kernel
theorem dX1_append_24 : decode cX1_append 24 = .ok (.ireturn, 1) := by decide +kernel
theorem dX1_append_25 : decode cX1_append 25 = .ok (.iload_n 3, 1) := by decide +kernel
theorem dX1_append_26 : decode cX1_append 26 = .ok (.iconst 1, 1) := by decide +kernel
theorem dX1_append_27 : decode cX1_append 27 = .ok (.if_icmp .lt 8, 3) := by decide +kernel
theorem dX1_append_30 : decode cX1_append 30 = .ok (.iload_n 3, 1) := by decide +kernel
theorem dX1_append_31 : decode cX1_append 31 = .ok (.iconst 5, 1) := by decide +kernel
theorem dX1_append_32 : decode cX1_append 32 = .ok (.if_icmp .le 6, 3) := by decide +kernel
theorem dX1_append_35 : decode cX1_append 35 = .ok (.bipush (-3), 2) := by decide +kernel
theorem dX1_append_37 : decode cX1_append 37 = .ok (.ireturn, 1) := by decide +kernel
theorem dX1_append_38 : decode cX1_append 38 = .ok (.aload_n 0, 1) := by decide +kernel
theorem dX1_append_39 : decode cX1_append 39 = .ok (.getfield 29, 3) := by decide +kernel
theorem dX1_append_42 : decode cX1_append 42 = .ok (.bipush 10, 2) := by decide +kernel
theorem dX1_append_44 : decode cX1_append 44 = .ok (.if_icmp .lt 6, 3) := by decide +kernel
theorem dX1_append_47 : decode cX1_append 47 = .ok (.bipush (-5), 2) := by decide +kernel
theorem dX1_append_49 : decode cX1_append 49 = .ok (.ireturn, 1) := by decide +kernel
theorem dX1_append_50 : decode cX1_append 50 = .ok (.aload_n 0, 1) := by decide +kernel
theorem dX1_append_51 : decode cX1_append 51 = .ok (.getfield 7, 3) := by decide +kernel
theorem dX1_append_54 : decode cX1_append 54 = .ok (.aload_n 0, 1) := by decide +kernel
theorem dX1_append_55 : decode cX1_append 55 = .ok (.getfield 29, 3) := by decide +kernel
theorem dX1_append_58 : decode cX1_append 58 = .ok (.iload_n 1, 1) := by decide +kernel
theorem dX1_append_59 : decode cX1_append 59 = .ok (.iastore, 1) := by decide +kernel
theorem dX1_append_60 : decode cX1_append 60 = .ok (.aload_n 0, 1) := by decide +kernel
theorem dX1_append_61 : decode cX1_append 61 = .ok (.getfield 13, 3) := by decide +kernel
theorem dX1_append_64 : decode cX1_append 64 = .ok (.aload_n 0, 1) := by decide +kernel
theorem dX1_append_65 : decode cX1_append 65 = .ok (.getfield 29, 3) := by decide +kernel
theorem dX1_append_68 : decode cX1_append 68 = .ok (.iload_n 2, 1) := by decide +kernel
theorem dX1_append_69 : decode cX1_append 69 = .ok (.iastore, 1) := by decide +kernel
theorem dX1_append_70 : decode cX1_append 70 = .ok (.aload_n 0, 1) := by decide +kernel
theorem dX1_append_71 : decode cX1_append 71 = .ok (.getfield 16, 3) := by decide +kernel
theorem dX1_append_74 : decode cX1_append 74 = .ok (.aload_n 0, 1) := by decide +kernel
theorem dX1_append_75 : decode cX1_append 75 = .ok (.getfield 29, 3) := by decide +kernel
theorem dX1_append_78 : decode cX1_append 78 = .ok (.iload_n 3, 1) := by decide +kernel
theorem dX1_append_79 : decode cX1_append 79 = .ok (.iastore, 1) := by decide +kernel
theorem dX1_append_80 : decode cX1_append 80 = .ok (.aload_n 0, 1) := by decide +kernel
theorem dX1_append_81 : decode cX1_append 81 = .ok (.dup, 1) := by decide +kernel
theorem dX1_append_82 : decode cX1_append 82 = .ok (.getfield 29, 3) := by decide +kernel
theorem dX1_append_85 : decode cX1_append 85 = .ok (.iconst 1, 1) := by decide +kernel
theorem dX1_append_86 : decode cX1_append 86 = .ok (.iadd, 1) := by decide +kernel
theorem dX1_append_87 : decode cX1_append 87 = .ok (.putfield 29, 3) := by decide +kernel
theorem dX1_append_90 : decode cX1_append 90 = .ok (.aload_n 0, 1) := by decide +kernel
theorem dX1_append_91 : decode cX1_append 91 = .ok (.getfield 29, 3) := by decide +kernel
theorem dX1_append_94 : decode cX1_append 94 = .ok (.iconst 1, 1) := by decide +kernel
theorem dX1_append_95 : decode cX1_append 95 = .ok (.isub, 1) := by decide +kernel
theorem dX1_append_96 : decode cX1_append 96 = .ok (.ireturn, 1) := by decide +kernel
abbrev cX1_move : ByteArray := prog_1_method_4_code
def yX1_move : MethodName := ⟨RX1, "move", "(II)I"⟩
theorem dX1_move_0 : decode cX1_move 0 = .ok (.aload_n 0, 1) := by decide +kernel
theorem dX1_move_1 : decode cX1_move 1 = .ok (.iload_n 1, 1) := by decide +kernel
theorem dX1_move_2 : decode cX1_move 2 = .ok (.invokevirtual 32, 3) := by decide +kernel
theorem dX1_move_5 : decode cX1_move 5 = .ok (.ifCond .eq 6, 3) := by decide +kernel
theorem dX1_move_8 : decode cX1_move 8 = .ok (.bipush (-4), 2) := by decide +kernel
theorem dX1_move_10 : decode cX1_move 10 = .ok (.ireturn, 1) := by decide +kernel
theorem dX1_move_11 : decode cX1_move 11 = .ok (.iload_n 2, 1) := by decide +kernel
theorem dX1_move_12 : decode cX1_move 12 = .ok (.ifCond .lt 9, 3) := by decide +kernel
theorem dX1_move_15 : decode cX1_move 15 = .ok (.iload_n 2, 1) := by decide +kernel
theorem dX1_move_16 : decode cX1_move 16 = .ok (.bipush 60, 2) := by decide +kernel
theorem dX1_move_18 : decode cX1_move 18 = .ok (.if_icmp .le 6, 3) := by decide +kernel
theorem dX1_move_21 : decode cX1_move 21 = .ok (.bipush (-2), 2) := by decide +kernel
theorem dX1_move_23 : decode cX1_move 23 = .ok (.ireturn, 1) := by decide +kernel
theorem dX1_move_24 : decode cX1_move 24 = .ok (.aload_n 0, 1) := by decide +kernel
theorem dX1_move_25 : decode cX1_move 25 = .ok (.getfield 13, 3) := by decide +kernel
theorem dX1_move_28 : decode cX1_move 28 = .ok (.iload_n 1, 1) := by decide +kernel
theorem dX1_move_29 : decode cX1_move 29 = .ok (.iaload, 1) := by decide +kernel
theorem dX1_move_30 : decode cX1_move 30 = .ok (.istore_n 3, 1) := by decide +kernel
theorem dX1_move_31 : decode cX1_move 31 = .ok (.aload_n 0, 1) := by decide +kernel
theorem dX1_move_32 : decode cX1_move 32 = .ok (.getfield 13, 3) := by decide +kernel
theorem dX1_move_35 : decode cX1_move 35 = .ok (.iload_n 1, 1) := by decide +kernel
theorem dX1_move_36 : decode cX1_move 36 = .ok (.iload_n 2, 1) := by decide +kernel
theorem dX1_move_37 : decode cX1_move 37 = .ok (.iastore, 1) := by decide +kernel
theorem dX1_move_38 : decode cX1_move 38 = .ok (.iload_n 3, 1) := by decide +kernel
theorem dX1_move_39 : decode cX1_move 39 = .ok (.ireturn, 1) := by decide +kernel
abbrev cX1_noCell : ByteArray := prog_1_method_2_code
def yX1_noCell : MethodName := ⟨RX1, "noCell", "(I)Z"⟩
theorem dX1_noCell_0 : decode cX1_noCell 0 = .ok (.iload_n 1, 1) := by decide +kernel
theorem dX1_noCell_1 : decode cX1_noCell 1 = .ok (.ifCond .lt 11, 3) := by decide +kernel
theorem dX1_noCell_4 : decode cX1_noCell 4 = .ok (.iload_n 1, 1) := by decide +kernel
theorem dX1_noCell_5 : decode cX1_noCell 5 = .ok (.aload_n 0, 1) := by decide +kernel
theorem dX1_noCell_6 : decode cX1_noCell 6 = .ok (.getfield 29, 3) := by decide +kernel
theorem dX1_noCell_9 : decode cX1_noCell 9 = .ok (.if_icmp .lt 7, 3) := by decide +kernel
theorem dX1_noCell_12 : decode cX1_noCell 12 = .ok (.iconst 1, 1) := by decide +kernel
theorem dX1_noCell_13 : decode cX1_noCell 13 = .ok (.goto 4, 3) := by decide +kernel
theorem dX1_noCell_16 : decode cX1_noCell 16 = .ok (.iconst 0, 1) := by decide +kernel
theorem dX1_noCell_17 : decode cX1_noCell 17 = .ok (.ireturn, 1) := by decide +kernel
abbrev cX1_reweigh : ByteArray := prog_1_method_5_code
def yX1_reweigh : MethodName := ⟨RX1, "reweigh", "(II)I"⟩
theorem dX1_reweigh_0 : decode cX1_reweigh 0 = .ok (.aload_n 0, 1) := by decide +kernel
theorem dX1_reweigh_1 : decode cX1_reweigh 1 = .ok (.iload_n 1, 1) := by decide +kernel
theorem dX1_reweigh_2 : decode cX1_reweigh 2 = .ok (.invokevirtual 32, 3) := by decide +kernel
theorem dX1_reweigh_5 : decode cX1_reweigh 5 = .ok (.ifCond .eq 6, 3) := by decide +kernel
theorem dX1_reweigh_8 : decode cX1_reweigh 8 = .ok (.bipush (-4), 2) := by decide +kernel
theorem dX1_reweigh_10 : decode cX1_reweigh 10 = .ok (.ireturn, 1) := by decide +kernel
theorem dX1_reweigh_11 : decode cX1_reweigh 11 = .ok (.iload_n 2, 1) := by decide +kernel
theorem dX1_reweigh_12 : decode cX1_reweigh 12 = .ok (.iconst 1, 1) := by decide +kernel
theorem dX1_reweigh_13 : decode cX1_reweigh 13 = .ok (.if_icmp .lt 8, 3) := by decide +kernel
theorem dX1_reweigh_16 : decode cX1_reweigh 16 = .ok (.iload_n 2, 1) := by decide +kernel
theorem dX1_reweigh_17 : decode cX1_reweigh 17 = .ok (.iconst 5, 1) := by decide +kernel
theorem dX1_reweigh_18 : decode cX1_reweigh 18 = .ok (.if_icmp .le 6, 3) := by decide +kernel
theorem dX1_reweigh_21 : decode cX1_reweigh 21 = .ok (.bipush (-3), 2) := by decide +kernel
theorem dX1_reweigh_23 : decode cX1_reweigh 23 = .ok (.ireturn, 1) := by decide +kernel
theorem dX1_reweigh_24 : decode cX1_reweigh 24 = .ok (.aload_n 0, 1) := by decide +kernel
theorem dX1_reweigh_25 : decode cX1_reweigh 25 = .ok (.getfield 16, 3) := by decide +kernel
theorem dX1_reweigh_28 : decode cX1_reweigh 28 = .ok (.iload_n 1, 1) := by decide +kernel
theorem dX1_reweigh_29 : decode cX1_reweigh 29 = .ok (.iaload, 1) := by decide +kernel
theorem dX1_reweigh_30 : decode cX1_reweigh 30 = .ok (.istore_n 3, 1) := by decide +kernel
theorem dX1_reweigh_31 : decode cX1_reweigh 31 = .ok (.aload_n 0, 1) := by decide +kernel
theorem dX1_reweigh_32 : decode cX1_reweigh 32 = .ok (.getfield 16, 3) := by decide +kernel
theorem dX1_reweigh_35 : decode cX1_reweigh 35 = .ok (.iload_n 1, 1) := by decide +kernel
theorem dX1_reweigh_36 : decode cX1_reweigh 36 = .ok (.iload_n 2, 1) := by decide +kernel
theorem dX1_reweigh_37 : decode cX1_reweigh 37 = .ok (.iastore, 1) := by decide +kernel
theorem dX1_reweigh_38 : decode cX1_reweigh 38 = .ok (.iload_n 3, 1) := by decide +kernel
theorem dX1_reweigh_39 : decode cX1_reweigh 39 = .ok (.ireturn, 1) := by decide +kernel
abbrev cX1_exchange : ByteArray := prog_1_method_6_code
def yX1_exchange : MethodName := ⟨RX1, "exchange", "(I)I"⟩
theorem dX1_exchange_0 : decode cX1_exchange 0 = .ok (.aload_n 0, 1) := by decide +kernel
theorem dX1_exchange_1 : decode cX1_exchange 1 = .ok (.iload_n 1, 1) := by decide +kernel
theorem dX1_exchange_2 : decode cX1_exchange 2 = .ok (.invokevirtual 32, 3) := by decide +kernel
theorem dX1_exchange_5 : decode cX1_exchange 5 = .ok (.ifCond .ne 13, 3) := by decide +kernel
theorem dX1_exchange_8 : decode cX1_exchange 8 = .ok (.aload_n 0, 1) := by decide +kernel
theorem dX1_exchange_9 : decode cX1_exchange 9 = .ok (.iload_n 1, 1) := by decide +kernel
theorem dX1_exchange_10 : decode cX1_exchange 10 = .ok (.iconst 1, 1) := by decide +kernel
theorem dX1_exchange_11 : decode cX1_exchange 11 = .ok (.iadd, 1) := by decide +kernel
theorem dX1_exchange_12 : decode cX1_exchange 12 = .ok (.invokevirtual 32, 3) := by decide +kernel
theorem dX1_exchange_15 : decode cX1_exchange 15 = .ok (.ifCond .eq 6, 3) := by decide +kernel
theorem dX1_exchange_18 : decode cX1_exchange 18 = .ok (.bipush (-4), 2) := by decide +kernel
theorem dX1_exchange_20 : decode cX1_exchange 20 = .ok (.ireturn, 1) := by decide +kernel
theorem dX1_exchange_21 : decode cX1_exchange 21 = .ok (.aload_n 0, 1) := by decide +kernel
theorem dX1_exchange_22 : decode cX1_exchange 22 = .ok (.getfield 7, 3) := by decide +kernel
theorem dX1_exchange_25 : decode cX1_exchange 25 = .ok (.iload_n 1, 1) := by decide +kernel
theorem dX1_exchange_26 : decode cX1_exchange 26 = .ok (.iaload, 1) := by decide +kernel
theorem dX1_exchange_27 : decode cX1_exchange 27 = .ok (.istore_n 2, 1) := by decide +kernel
theorem dX1_exchange_28 : decode cX1_exchange 28 = .ok (.aload_n 0, 1) := by decide +kernel
theorem dX1_exchange_29 : decode cX1_exchange 29 = .ok (.getfield 7, 3) := by decide +kernel
theorem dX1_exchange_32 : decode cX1_exchange 32 = .ok (.iload_n 1, 1) := by decide +kernel
theorem dX1_exchange_33 : decode cX1_exchange 33 = .ok (.aload_n 0, 1) := by decide +kernel
theorem dX1_exchange_34 : decode cX1_exchange 34 = .ok (.getfield 7, 3) := by decide +kernel
theorem dX1_exchange_37 : decode cX1_exchange 37 = .ok (.iload_n 1, 1) := by decide +kernel
theorem dX1_exchange_38 : decode cX1_exchange 38 = .ok (.iconst 1, 1) := by decide +kernel
theorem dX1_exchange_39 : decode cX1_exchange 39 = .ok (.iadd, 1) := by decide +kernel
theorem dX1_exchange_40 : decode cX1_exchange 40 = .ok (.iaload, 1) := by decide +kernel
theorem dX1_exchange_41 : decode cX1_exchange 41 = .ok (.iastore, 1) := by decide +kernel
theorem dX1_exchange_42 : decode cX1_exchange 42 = .ok (.aload_n 0, 1) := by decide +kernel
theorem dX1_exchange_43 : decode cX1_exchange 43 = .ok (.getfield 7, 3) := by decide +kernel
theorem dX1_exchange_46 : decode cX1_exchange 46 = .ok (.iload_n 1, 1) := by decide +kernel
theorem dX1_exchange_47 : decode cX1_exchange 47 = .ok (.iconst 1, 1) := by decide +kernel
theorem dX1_exchange_48 : decode cX1_exchange 48 = .ok (.iadd, 1) := by decide +kernel
theorem dX1_exchange_49 : decode cX1_exchange 49 = .ok (.iload_n 2, 1) := by decide +kernel
theorem dX1_exchange_50 : decode cX1_exchange 50 = .ok (.iastore, 1) := by decide +kernel
theorem dX1_exchange_51 : decode cX1_exchange 51 = .ok (.aload_n 0, 1) := by decide +kernel
theorem dX1_exchange_52 : decode cX1_exchange 52 = .ok (.getfield 13, 3) := by decide +kernel
theorem dX1_exchange_55 : decode cX1_exchange 55 = .ok (.iload_n 1, 1) := by decide +kernel
theorem dX1_exchange_56 : decode cX1_exchange 56 = .ok (.iaload, 1) := by decide +kernel
theorem dX1_exchange_57 : decode cX1_exchange 57 = .ok (.istore_n 3, 1) := by decide +kernel
theorem dX1_exchange_58 : decode cX1_exchange 58 = .ok (.aload_n 0, 1) := by decide +kernel
theorem dX1_exchange_59 : decode cX1_exchange 59 = .ok (.getfield 13, 3) := by decide +kernel
theorem dX1_exchange_62 : decode cX1_exchange 62 = .ok (.iload_n 1, 1) := by decide +kernel
theorem dX1_exchange_63 : decode cX1_exchange 63 = .ok (.aload_n 0, 1) := by decide +kernel
theorem dX1_exchange_64 : decode cX1_exchange 64 = .ok (.getfield 13, 3) := by decide +kernel
theorem dX1_exchange_67 : decode cX1_exchange 67 = .ok (.iload_n 1, 1) := by decide +kernel
theorem dX1_exchange_68 : decode cX1_exchange 68 = .ok (.iconst 1, 1) := by decide +kernel
theorem dX1_exchange_69 : decode cX1_exchange 69 = .ok (.iadd, 1) := by decide +kernel
theorem dX1_exchange_70 : decode cX1_exchange 70 = .ok (.iaload, 1) := by decide +kernel
theorem dX1_exchange_71 : decode cX1_exchange 71 = .ok (.iastore, 1) := by decide +kernel
theorem dX1_exchange_72 : decode cX1_exchange 72 = .ok (.aload_n 0, 1) := by decide +kernel
theorem dX1_exchange_73 : decode cX1_exchange 73 = .ok (.getfield 13, 3) := by decide +kernel
theorem dX1_exchange_76 : decode cX1_exchange 76 = .ok (.iload_n 1, 1) := by decide +kernel
theorem dX1_exchange_77 : decode cX1_exchange 77 = .ok (.iconst 1, 1) := by decide +kernel
theorem dX1_exchange_78 : decode cX1_exchange 78 = .ok (.iadd, 1) := by decide +kernel
theorem dX1_exchange_79 : decode cX1_exchange 79 = .ok (.iload_n 3, 1) := by decide +kernel
theorem dX1_exchange_80 : decode cX1_exchange 80 = .ok (.iastore, 1) := by decide +kernel
theorem dX1_exchange_81 : decode cX1_exchange 81 = .ok (.aload_n 0, 1) := by decide +kernel
theorem dX1_exchange_82 : decode cX1_exchange 82 = .ok (.getfield 16, 3) := by decide +kernel
theorem dX1_exchange_85 : decode cX1_exchange 85 = .ok (.iload_n 1, 1) := by decide +kernel
theorem dX1_exchange_86 : decode cX1_exchange 86 = .ok (.iaload, 1) := by decide +kernel
theorem dX1_exchange_87 : decode cX1_exchange 87 = .ok (.istore 4, 2) := by decide +kernel
theorem dX1_exchange_89 : decode cX1_exchange 89 = .ok (.aload_n 0, 1) := by decide +kernel
theorem dX1_exchange_90 : decode cX1_exchange 90 = .ok (.getfield 16, 3) := by decide +kernel
theorem dX1_exchange_93 : decode cX1_exchange 93 = .ok (.iload_n 1, 1) := by decide +kernel
theorem dX1_exchange_94 : decode cX1_exchange 94 = .ok (.aload_n 0, 1) := by decide +kernel
theorem dX1_exchange_95 : decode cX1_exchange 95 = .ok (.getfield 16, 3) := by decide +kernel
theorem dX1_exchange_98 : decode cX1_exchange 98 = .ok (.iload_n 1, 1) := by decide +kernel
theorem dX1_exchange_99 : decode cX1_exchange 99 = .ok (.iconst 1, 1) := by decide +kernel
theorem dX1_exchange_100 : decode cX1_exchange 100 = .ok (.iadd, 1) := by decide +kernel
theorem dX1_exchange_101 : decode cX1_exchange 101 = .ok (.iaload, 1) := by decide +kernel
theorem dX1_exchange_102 : decode cX1_exchange 102 = .ok (.iastore, 1) := by decide +kernel
theorem dX1_exchange_103 : decode cX1_exchange 103 = .ok (.aload_n 0, 1) := by decide +kernel
theorem dX1_exchange_104 : decode cX1_exchange 104 = .ok (.getfield 16, 3) := by decide +kernel
theorem dX1_exchange_107 : decode cX1_exchange 107 = .ok (.iload_n 1, 1) := by decide +kernel
theorem dX1_exchange_108 : decode cX1_exchange 108 = .ok (.iconst 1, 1) := by decide +kernel
theorem dX1_exchange_109 : decode cX1_exchange 109 = .ok (.iadd, 1) := by decide +kernel
theorem dX1_exchange_110 : decode cX1_exchange 110 = .ok (.iload 4, 2) := by decide +kernel
theorem dX1_exchange_112 : decode cX1_exchange 112 = .ok (.iastore, 1) := by decide +kernel
theorem dX1_exchange_113 : decode cX1_exchange 113 = .ok (.iconst 0, 1) := by decide +kernel
theorem dX1_exchange_114 : decode cX1_exchange 114 = .ok (.ireturn, 1) := by decide +kernel
abbrev cX1_drop : ByteArray := prog_1_method_7_code
def yX1_drop : MethodName := ⟨RX1, "drop", "()I"⟩
theorem dX1_drop_0 : decode cX1_drop 0 = .ok (.aload_n 0, 1) := by decide +kernel
theorem dX1_drop_1 : decode cX1_drop 1 = .ok (.getfield 29, 3) := by decide +kernel
theorem dX1_drop_4 : decode cX1_drop 4 = .ok (.ifCond .ne 6, 3) := by decide +kernel
theorem dX1_drop_7 : decode cX1_drop 7 = .ok (.bipush (-6), 2) := by decide +kernel
theorem dX1_drop_9 : decode cX1_drop 9 = .ok (.ireturn, 1) := by decide +kernel
theorem dX1_drop_10 : decode cX1_drop 10 = .ok (.aload_n 0, 1) := by decide +kernel
theorem dX1_drop_11 : decode cX1_drop 11 = .ok (.dup, 1) := by decide +kernel
theorem dX1_drop_12 : decode cX1_drop 12 = .ok (.getfield 29, 3) := by decide +kernel
theorem dX1_drop_15 : decode cX1_drop 15 = .ok (.iconst 1, 1) := by decide +kernel
theorem dX1_drop_16 : decode cX1_drop 16 = .ok (.isub, 1) := by decide +kernel
theorem dX1_drop_17 : decode cX1_drop 17 = .ok (.putfield 29, 3) := by decide +kernel
theorem dX1_drop_20 : decode cX1_drop 20 = .ok (.aload_n 0, 1) := by decide +kernel
theorem dX1_drop_21 : decode cX1_drop 21 = .ok (.getfield 29, 3) := by decide +kernel
theorem dX1_drop_24 : decode cX1_drop 24 = .ok (.ireturn, 1) := by decide +kernel
abbrev cX1_cost : ByteArray := prog_1_method_15_code
def yX1_cost : MethodName := ⟨RX1, "cost", "()I"⟩
theorem dX1_cost_0 : decode cX1_cost 0 = .ok (.aload_n 0, 1) := by decide +kernel
theorem dX1_cost_1 : decode cX1_cost 1 = .ok (.iconst 0, 1) := by decide +kernel
theorem dX1_cost_2 : decode cX1_cost 2 = .ok (.aload_n 0, 1) := by decide +kernel
theorem dX1_cost_3 : decode cX1_cost 3 = .ok (.getfield 29, 3) := by decide +kernel
theorem dX1_cost_6 : decode cX1_cost 6 = .ok (.iconst 0, 1) := by decide +kernel
theorem dX1_cost_7 : decode cX1_cost 7 = .ok (.aload_n 0, 1) := by decide +kernel
theorem dX1_cost_8 : decode cX1_cost 8 = .ok (.getfield 25, 3) := by decide +kernel
theorem dX1_cost_11 : decode cX1_cost 11 = .ok (.invokevirtual 54, 3) := by decide +kernel
theorem dX1_cost_14 : decode cX1_cost 14 = .ok (.ireturn, 1) := by decide +kernel
abbrev cX1_partCost : ByteArray := prog_1_method_12_code
def yX1_partCost : MethodName := ⟨RX1, "partCost", "(IIII)I"⟩
theorem dX1_partCost_0 : decode cX1_partCost 0 = .ok (.iload 4, 2) := by decide +kernel
theorem dX1_partCost_2 : decode cX1_partCost 2 = .ok (.aload_n 0, 1) := by decide +kernel
theorem dX1_partCost_3 : decode cX1_partCost 3 = .ok (.iload_n 1, 1) := by decide +kernel
theorem dX1_partCost_4 : decode cX1_partCost 4 = .ok (.iload_n 2, 1) := by decide +kernel
theorem dX1_partCost_5 : decode cX1_partCost 5 = .ok (.invokevirtual 43, 3) := by decide +kernel
theorem dX1_partCost_8 : decode cX1_partCost 8 = .ok (.isub, 1) := by decide +kernel
theorem dX1_partCost_9 : decode cX1_partCost 9 = .ok (.istore 5, 2) := by decide +kernel
theorem dX1_partCost_11 : decode cX1_partCost 11 = .ok (.iload 5, 2) := by decide +kernel
theorem dX1_partCost_13 : decode cX1_partCost 13 = .ok (.iload_n 3, 1) := by decide +kernel
theorem dX1_partCost_14 : decode cX1_partCost 14 = .ok (.if_icmp .ge 6, 3) := by decide +kernel
theorem dX1_partCost_17 : decode cX1_partCost 17 = .ok (.bipush (-6), 2) := by decide +kernel
theorem dX1_partCost_19 : decode cX1_partCost 19 = .ok (.ireturn, 1) := by decide +kernel
theorem dX1_partCost_20 : decode cX1_partCost 20 = .ok (.aload_n 0, 1) := by decide +kernel
theorem dX1_partCost_21 : decode cX1_partCost 21 = .ok (.iconst 0, 1) := by decide +kernel
theorem dX1_partCost_22 : decode cX1_partCost 22 = .ok (.putfield 36, 3) := by decide +kernel
theorem dX1_partCost_25 : decode cX1_partCost 25 = .ok (.iconst 0, 1) := by decide +kernel
theorem dX1_partCost_26 : decode cX1_partCost 26 = .ok (.istore 6, 2) := by decide +kernel
theorem dX1_partCost_28 : decode cX1_partCost 28 = .ok (.iconst 0, 1) := by decide +kernel
theorem dX1_partCost_29 : decode cX1_partCost 29 = .ok (.istore 7, 2) := by decide +kernel
theorem dX1_partCost_31 : decode cX1_partCost 31 = .ok (.iload_n 1, 1) := by decide +kernel
theorem dX1_partCost_32 : decode cX1_partCost 32 = .ok (.istore 8, 2) := by decide +kernel
theorem dX1_partCost_34 : decode cX1_partCost 34 = .ok (.iload 8, 2) := by decide +kernel
theorem dX1_partCost_36 : decode cX1_partCost 36 = .ok (.iload_n 2, 1) := by decide +kernel
theorem dX1_partCost_37 : decode cX1_partCost 37 = .ok (.if_icmp .ge 111, 3) := by decide +kernel
theorem dX1_partCost_40 : decode cX1_partCost 40 = .ok (.aload_n 0, 1) := by decide +kernel
theorem dX1_partCost_41 : decode cX1_partCost 41 = .ok (.getfield 13, 3) := by decide +kernel
theorem dX1_partCost_44 : decode cX1_partCost 44 = .ok (.iload 8, 2) := by decide +kernel
theorem dX1_partCost_46 : decode cX1_partCost 46 = .ok (.iaload, 1) := by decide +kernel
theorem dX1_partCost_47 : decode cX1_partCost 47 = .ok (.iload 7, 2) := by decide +kernel
theorem dX1_partCost_49 : decode cX1_partCost 49 = .ok (.isub, 1) := by decide +kernel
theorem dX1_partCost_50 : decode cX1_partCost 50 = .ok (.istore 9, 2) := by decide +kernel
theorem dX1_partCost_52 : decode cX1_partCost 52 = .ok (.iload 9, 2) := by decide +kernel
theorem dX1_partCost_54 : decode cX1_partCost 54 = .ok (.iload_n 3, 1) := by decide +kernel
theorem dX1_partCost_55 : decode cX1_partCost 55 = .ok (.if_icmp .ge 7, 3) := by decide +kernel
theorem dX1_partCost_58 : decode cX1_partCost 58 = .ok (.iload_n 3, 1) := by decide +kernel
theorem dX1_partCost_59 : decode cX1_partCost 59 = .ok (.goto 17, 3) := by decide +kernel
theorem dX1_partCost_62 : decode cX1_partCost 62 = .ok (.iload 9, 2) := by decide +kernel
theorem dX1_partCost_64 : decode cX1_partCost 64 = .ok (.iload 5, 2) := by decide +kernel
theorem dX1_partCost_66 : decode cX1_partCost 66 = .ok (.if_icmp .le 8, 3) := by decide +kernel
theorem dX1_partCost_69 : decode cX1_partCost 69 = .ok (.iload 5, 2) := by decide +kernel
theorem dX1_partCost_71 : decode cX1_partCost 71 = .ok (.goto 5, 3) := by decide +kernel
theorem dX1_partCost_74 : decode cX1_partCost 74 = .ok (.iload 9, 2) := by decide +kernel
theorem dX1_partCost_76 : decode cX1_partCost 76 = .ok (.istore 10, 2) := by decide +kernel
theorem dX1_partCost_78 : decode cX1_partCost 78 = .ok (.iload 6, 2) := by decide +kernel
theorem dX1_partCost_80 : decode cX1_partCost 80 = .ok (.aload_n 0, 1) := by decide +kernel
theorem dX1_partCost_81 : decode cX1_partCost 81 = .ok (.getfield 16, 3) := by decide +kernel
theorem dX1_partCost_84 : decode cX1_partCost 84 = .ok (.iload 8, 2) := by decide +kernel
theorem dX1_partCost_86 : decode cX1_partCost 86 = .ok (.iaload, 1) := by decide +kernel
theorem dX1_partCost_87 : decode cX1_partCost 87 = .ok (.iload 9, 2) := by decide +kernel
theorem dX1_partCost_89 : decode cX1_partCost 89 = .ok (.iload 10, 2) := by decide +kernel
theorem dX1_partCost_91 : decode cX1_partCost 91 = .ok (.invokestatic 47, 3) := by decide +kernel
theorem dX1_partCost_94 : decode cX1_partCost 94 = .ok (.imul, 1) := by decide +kernel
theorem dX1_partCost_95 : decode cX1_partCost 95 = .ok (.iadd, 1) := by decide +kernel
theorem dX1_partCost_96 : decode cX1_partCost 96 = .ok (.istore 6, 2) := by decide +kernel
theorem dX1_partCost_98 : decode cX1_partCost 98 = .ok (.iconst 0, 1) := by decide +kernel
theorem dX1_partCost_99 : decode cX1_partCost 99 = .ok (.istore 11, 2) := by decide +kernel
theorem dX1_partCost_101 : decode cX1_partCost 101 = .ok (.iload 11, 2) := by decide +kernel
theorem dX1_partCost_103 : decode cX1_partCost 103 = .ok (.aload_n 0, 1) := by decide +kernel
theorem dX1_partCost_104 : decode cX1_partCost 104 = .ok (.getfield 16, 3) := by decide +kernel
theorem dX1_partCost_107 : decode cX1_partCost 107 = .ok (.iload 8, 2) := by decide +kernel
theorem dX1_partCost_109 : decode cX1_partCost 109 = .ok (.iaload, 1) := by decide +kernel
theorem dX1_partCost_110 : decode cX1_partCost 110 = .ok (.if_icmp .ge 20, 3) := by decide +kernel
theorem dX1_partCost_113 : decode cX1_partCost 113 = .ok (.iload 6, 2) := by decide +kernel
theorem dX1_partCost_115 : decode cX1_partCost 115 = .ok (.aload_n 0, 1) := by decide +kernel
theorem dX1_partCost_116 : decode cX1_partCost 116 = .ok (.iload 10, 2) := by decide +kernel
theorem dX1_partCost_118 : decode cX1_partCost 118 = .ok (.invokevirtual 50, 3) := by decide +kernel
theorem dX1_partCost_121 : decode cX1_partCost 121 = .ok (.iadd, 1) := by decide +kernel
theorem dX1_partCost_122 : decode cX1_partCost 122 = .ok (.istore 6, 2) := by decide +kernel
theorem dX1_partCost_124 : decode cX1_partCost 124 = .ok (.iinc 11 1, 3) := by decide +kernel
theorem dX1_partCost_127 : decode cX1_partCost 127 = .ok (.goto (-26), 3) := by decide +kernel
theorem dX1_partCost_130 : decode cX1_partCost 130 = .ok (.iload 7, 2) := by decide +kernel
theorem dX1_partCost_132 : decode cX1_partCost 132 = .ok (.aload_n 0, 1) := by decide +kernel
theorem dX1_partCost_133 : decode cX1_partCost 133 = .ok (.getfield 7, 3) := by decide +kernel
theorem dX1_partCost_136 : decode cX1_partCost 136 = .ok (.iload 8, 2) := by decide +kernel
theorem dX1_partCost_138 : decode cX1_partCost 138 = .ok (.iaload, 1) := by decide +kernel
theorem dX1_partCost_139 : decode cX1_partCost 139 = .ok (.iadd, 1) := by decide +kernel
theorem dX1_partCost_140 : decode cX1_partCost 140 = .ok (.istore 7, 2) := by decide +kernel
theorem dX1_partCost_142 : decode cX1_partCost 142 = .ok (.iinc 8 1, 3) := by decide +kernel
theorem dX1_partCost_145 : decode cX1_partCost 145 = .ok (.goto (-111), 3) := by decide +kernel
theorem dX1_partCost_148 : decode cX1_partCost 148 = .ok (.iload 6, 2) := by decide +kernel
theorem dX1_partCost_150 : decode cX1_partCost 150 = .ok (.ireturn, 1) := by decide +kernel
abbrev cX1_widthOf : ByteArray := prog_1_method_11_code
def yX1_widthOf : MethodName := ⟨RX1, "widthOf", "(II)I"⟩
theorem dX1_widthOf_0 : decode cX1_widthOf 0 = .ok (.iconst 0, 1) := by decide +kernel
theorem dX1_widthOf_1 : decode cX1_widthOf 1 = .ok (.istore_n 3, 1) := by decide +kernel
theorem dX1_widthOf_2 : decode cX1_widthOf 2 = .ok (.iload_n 1, 1) := by decide +kernel
theorem dX1_widthOf_3 : decode cX1_widthOf 3 = .ok (.istore 4, 2) := by decide +kernel
theorem dX1_widthOf_5 : decode cX1_widthOf 5 = .ok (.iload 4, 2) := by decide +kernel
theorem dX1_widthOf_7 : decode cX1_widthOf 7 = .ok (.iload_n 2, 1) := by decide +kernel
theorem dX1_widthOf_8 : decode cX1_widthOf 8 = .ok (.if_icmp .ge 19, 3) := by decide +kernel
theorem dX1_widthOf_11 : decode cX1_widthOf 11 = .ok (.iload_n 3, 1) := by decide +kernel
theorem dX1_widthOf_12 : decode cX1_widthOf 12 = .ok (.aload_n 0, 1) := by decide +kernel
theorem dX1_widthOf_13 : decode cX1_widthOf 13 = .ok (.getfield 7, 3) := by decide +kernel
theorem dX1_widthOf_16 : decode cX1_widthOf 16 = .ok (.iload 4, 2) := by decide +kernel
theorem dX1_widthOf_18 : decode cX1_widthOf 18 = .ok (.iaload, 1) := by decide +kernel
theorem dX1_widthOf_19 : decode cX1_widthOf 19 = .ok (.iadd, 1) := by decide +kernel
theorem dX1_widthOf_20 : decode cX1_widthOf 20 = .ok (.istore_n 3, 1) := by decide +kernel
theorem dX1_widthOf_21 : decode cX1_widthOf 21 = .ok (.iinc 4 1, 3) := by decide +kernel
theorem dX1_widthOf_24 : decode cX1_widthOf 24 = .ok (.goto (-19), 3) := by decide +kernel
theorem dX1_widthOf_27 : decode cX1_widthOf 27 = .ok (.iload_n 3, 1) := by decide +kernel
theorem dX1_widthOf_28 : decode cX1_widthOf 28 = .ok (.ireturn, 1) := by decide +kernel
abbrev cX1_distance : ByteArray := prog_1_method_8_code
def yX1_distance : MethodName := ⟨RX1, "distance", "(II)I"⟩
theorem dX1_distance_0 : decode cX1_distance 0 = .ok (.iload_n 0, 1) := by decide +kernel
theorem dX1_distance_1 : decode cX1_distance 1 = .ok (.iload_n 1, 1) := by decide +kernel
theorem dX1_distance_2 : decode cX1_distance 2 = .ok (.if_icmp .ge 9, 3) := by decide +kernel
theorem dX1_distance_5 : decode cX1_distance 5 = .ok (.iload_n 1, 1) := by decide +kernel
theorem dX1_distance_6 : decode cX1_distance 6 = .ok (.iload_n 0, 1) := by decide +kernel
theorem dX1_distance_7 : decode cX1_distance 7 = .ok (.isub, 1) := by decide +kernel
theorem dX1_distance_8 : decode cX1_distance 8 = .ok (.goto 6, 3) := by decide +kernel
theorem dX1_distance_11 : decode cX1_distance 11 = .ok (.iload_n 0, 1) := by decide +kernel
theorem dX1_distance_12 : decode cX1_distance 12 = .ok (.iload_n 1, 1) := by decide +kernel
theorem dX1_distance_13 : decode cX1_distance 13 = .ok (.isub, 1) := by decide +kernel
theorem dX1_distance_14 : decode cX1_distance 14 = .ok (.ireturn, 1) := by decide +kernel
abbrev cX1_addUnit : ByteArray := prog_1_method_10_code
def yX1_addUnit : MethodName := ⟨RX1, "addUnit", "(I)I"⟩
theorem dX1_addUnit_0 : decode cX1_addUnit 0 = .ok (.aload_n 0, 1) := by decide +kernel
theorem dX1_addUnit_1 : decode cX1_addUnit 1 = .ok (.iload_n 1, 1) := by decide +kernel
theorem dX1_addUnit_2 : decode cX1_addUnit 2 = .ok (.invokevirtual 39, 3) := by decide +kernel
theorem dX1_addUnit_5 : decode cX1_addUnit 5 = .ok (.aload_n 0, 1) := by decide +kernel
theorem dX1_addUnit_6 : decode cX1_addUnit 6 = .ok (.getfield 19, 3) := by decide +kernel
theorem dX1_addUnit_9 : decode cX1_addUnit 9 = .ok (.aload_n 0, 1) := by decide +kernel
theorem dX1_addUnit_10 : decode cX1_addUnit 10 = .ok (.getfield 36, 3) := by decide +kernel
theorem dX1_addUnit_13 : decode cX1_addUnit 13 = .ok (.iconst 1, 1) := by decide +kernel
theorem dX1_addUnit_14 : decode cX1_addUnit 14 = .ok (.isub, 1) := by decide +kernel
theorem dX1_addUnit_15 : decode cX1_addUnit 15 = .ok (.iaload, 1) := by decide +kernel
theorem dX1_addUnit_16 : decode cX1_addUnit 16 = .ok (.istore_n 2, 1) := by decide +kernel
theorem dX1_addUnit_17 : decode cX1_addUnit 17 = .ok (.iload_n 2, 1) := by decide +kernel
theorem dX1_addUnit_18 : decode cX1_addUnit 18 = .ok (.iload_n 1, 1) := by decide +kernel
theorem dX1_addUnit_19 : decode cX1_addUnit 19 = .ok (.if_icmp .gt 5, 3) := by decide +kernel
theorem dX1_addUnit_22 : decode cX1_addUnit 22 = .ok (.iconst 0, 1) := by decide +kernel
theorem dX1_addUnit_23 : decode cX1_addUnit 23 = .ok (.ireturn, 1) := by decide +kernel
theorem dX1_addUnit_24 : decode cX1_addUnit 24 = .ok (.aload_n 0, 1) := by decide +kernel
theorem dX1_addUnit_25 : decode cX1_addUnit 25 = .ok (.dup, 1) := by decide +kernel
theorem dX1_addUnit_26 : decode cX1_addUnit 26 = .ok (.getfield 36, 3) := by decide +kernel
theorem dX1_addUnit_29 : decode cX1_addUnit 29 = .ok (.iconst 1, 1) := by decide +kernel
theorem dX1_addUnit_30 : decode cX1_addUnit 30 = .ok (.isub, 1) := by decide +kernel
theorem dX1_addUnit_31 : decode cX1_addUnit 31 = .ok (.putfield 36, 3) := by decide +kernel
theorem dX1_addUnit_34 : decode cX1_addUnit 34 = .ok (.aload_n 0, 1) := by decide +kernel
theorem dX1_addUnit_35 : decode cX1_addUnit 35 = .ok (.iload_n 1, 1) := by decide +kernel
theorem dX1_addUnit_36 : decode cX1_addUnit 36 = .ok (.invokevirtual 39, 3) := by decide +kernel
theorem dX1_addUnit_39 : decode cX1_addUnit 39 = .ok (.iload_n 2, 1) := by decide +kernel
theorem dX1_addUnit_40 : decode cX1_addUnit 40 = .ok (.iload_n 1, 1) := by decide +kernel
theorem dX1_addUnit_41 : decode cX1_addUnit 41 = .ok (.isub, 1) := by decide +kernel
theorem dX1_addUnit_42 : decode cX1_addUnit 42 = .ok (.ireturn, 1) := by decide +kernel
abbrev cX1_addPoint : ByteArray := prog_1_method_9_code
def yX1_addPoint : MethodName := ⟨RX1, "addPoint", "(I)V"⟩
theorem dX1_addPoint_0 : decode cX1_addPoint 0 = .ok (.aload_n 0, 1) := by decide +kernel
theorem dX1_addPoint_1 : decode cX1_addPoint 1 = .ok (.getfield 36, 3) := by decide +kernel
theorem dX1_addPoint_4 : decode cX1_addPoint 4 = .ok (.istore_n 2, 1) := by decide +kernel
theorem dX1_addPoint_5 : decode cX1_addPoint 5 = .ok (.iload_n 2, 1) := by decide +kernel
theorem dX1_addPoint_6 : decode cX1_addPoint 6 = .ok (.ifCond .le 35, 3) := by decide +kernel
theorem dX1_addPoint_9 : decode cX1_addPoint 9 = .ok (.aload_n 0, 1) := by decide +kernel
theorem dX1_addPoint_10 : decode cX1_addPoint 10 = .ok (.getfield 19, 3) := by decide +kernel
theorem dX1_addPoint_13 : decode cX1_addPoint 13 = .ok (.iload_n 2, 1) := by decide +kernel
theorem dX1_addPoint_14 : decode cX1_addPoint 14 = .ok (.iconst 1, 1) := by decide +kernel
theorem dX1_addPoint_15 : decode cX1_addPoint 15 = .ok (.isub, 1) := by decide +kernel
theorem dX1_addPoint_16 : decode cX1_addPoint 16 = .ok (.iaload, 1) := by decide +kernel
theorem dX1_addPoint_17 : decode cX1_addPoint 17 = .ok (.iload_n 1, 1) := by decide +kernel
theorem dX1_addPoint_18 : decode cX1_addPoint 18 = .ok (.if_icmp .le 23, 3) := by decide +kernel
theorem dX1_addPoint_21 : decode cX1_addPoint 21 = .ok (.aload_n 0, 1) := by decide +kernel
theorem dX1_addPoint_22 : decode cX1_addPoint 22 = .ok (.getfield 19, 3) := by decide +kernel
theorem dX1_addPoint_25 : decode cX1_addPoint 25 = .ok (.iload_n 2, 1) := by decide +kernel
theorem dX1_addPoint_26 : decode cX1_addPoint 26 = .ok (.aload_n 0, 1) := by decide +kernel
theorem dX1_addPoint_27 : decode cX1_addPoint 27 = .ok (.getfield 19, 3) := by decide +kernel
theorem dX1_addPoint_30 : decode cX1_addPoint 30 = .ok (.iload_n 2, 1) := by decide +kernel
theorem dX1_addPoint_31 : decode cX1_addPoint 31 = .ok (.iconst 1, 1) := by decide +kernel
theorem dX1_addPoint_32 : decode cX1_addPoint 32 = .ok (.isub, 1) := by decide +kernel
theorem dX1_addPoint_33 : decode cX1_addPoint 33 = .ok (.iaload, 1) := by decide +kernel
theorem dX1_addPoint_34 : decode cX1_addPoint 34 = .ok (.iastore, 1) := by decide +kernel
theorem dX1_addPoint_35 : decode cX1_addPoint 35 = .ok (.iinc 2 (-1), 3) := by decide +kernel
theorem dX1_addPoint_38 : decode cX1_addPoint 38 = .ok (.goto (-33), 3) := by decide +kernel
theorem dX1_addPoint_41 : decode cX1_addPoint 41 = .ok (.aload_n 0, 1) := by decide +kernel
theorem dX1_addPoint_42 : decode cX1_addPoint 42 = .ok (.getfield 19, 3) := by decide +kernel
theorem dX1_addPoint_45 : decode cX1_addPoint 45 = .ok (.iload_n 2, 1) := by decide +kernel
theorem dX1_addPoint_46 : decode cX1_addPoint 46 = .ok (.iload_n 1, 1) := by decide +kernel
theorem dX1_addPoint_47 : decode cX1_addPoint 47 = .ok (.iastore, 1) := by decide +kernel
theorem dX1_addPoint_48 : decode cX1_addPoint 48 = .ok (.aload_n 0, 1) := by decide +kernel
theorem dX1_addPoint_49 : decode cX1_addPoint 49 = .ok (.dup, 1) := by decide +kernel
theorem dX1_addPoint_50 : decode cX1_addPoint 50 = .ok (.getfield 36, 3) := by decide +kernel
theorem dX1_addPoint_53 : decode cX1_addPoint 53 = .ok (.iconst 1, 1) := by decide +kernel
theorem dX1_addPoint_54 : decode cX1_addPoint 54 = .ok (.iadd, 1) := by decide +kernel
theorem dX1_addPoint_55 : decode cX1_addPoint 55 = .ok (.putfield 36, 3) := by decide +kernel
theorem dX1_addPoint_58 : decode cX1_addPoint 58 = .ok (.return_, 1) := by decide +kernel
abbrev cX1_costOf : ByteArray := prog_1_method_16_code
def yX1_costOf : MethodName := ⟨RX1, "costOf", "(I)I"⟩
theorem dX1_costOf_0 : decode cX1_costOf 0 = .ok (.iload_n 1, 1) := by decide +kernel
theorem dX1_costOf_1 : decode cX1_costOf 1 = .ok (.ifCond .lt 11, 3) := by decide +kernel
theorem dX1_costOf_4 : decode cX1_costOf 4 = .ok (.iload_n 1, 1) := by decide +kernel
theorem dX1_costOf_5 : decode cX1_costOf 5 = .ok (.aload_n 0, 1) := by decide +kernel
theorem dX1_costOf_6 : decode cX1_costOf 6 = .ok (.getfield 29, 3) := by decide +kernel
theorem dX1_costOf_9 : decode cX1_costOf 9 = .ok (.if_icmp .le 6, 3) := by decide +kernel
theorem dX1_costOf_12 : decode cX1_costOf 12 = .ok (.bipush (-4), 2) := by decide +kernel
theorem dX1_costOf_14 : decode cX1_costOf 14 = .ok (.ireturn, 1) := by decide +kernel
theorem dX1_costOf_15 : decode cX1_costOf 15 = .ok (.aload_n 0, 1) := by decide +kernel
theorem dX1_costOf_16 : decode cX1_costOf 16 = .ok (.iconst 0, 1) := by decide +kernel
theorem dX1_costOf_17 : decode cX1_costOf 17 = .ok (.iload_n 1, 1) := by decide +kernel
theorem dX1_costOf_18 : decode cX1_costOf 18 = .ok (.iconst 0, 1) := by decide +kernel
theorem dX1_costOf_19 : decode cX1_costOf 19 = .ok (.aload_n 0, 1) := by decide +kernel
theorem dX1_costOf_20 : decode cX1_costOf 20 = .ok (.getfield 25, 3) := by decide +kernel
theorem dX1_costOf_23 : decode cX1_costOf 23 = .ok (.invokevirtual 54, 3) := by decide +kernel
theorem dX1_costOf_26 : decode cX1_costOf 26 = .ok (.ireturn, 1) := by decide +kernel
abbrev cX1_leftmost : ByteArray := prog_1_method_18_code
def yX1_leftmost : MethodName := ⟨RX1, "leftmost", "(I)I"⟩
theorem dX1_leftmost_0 : decode cX1_leftmost 0 = .ok (.aload_n 0, 1) := by decide +kernel
theorem dX1_leftmost_1 : decode cX1_leftmost 1 = .ok (.iload_n 1, 1) := by decide +kernel
theorem dX1_leftmost_2 : decode cX1_leftmost 2 = .ok (.invokevirtual 32, 3) := by decide +kernel
theorem dX1_leftmost_5 : decode cX1_leftmost 5 = .ok (.ifCond .eq 6, 3) := by decide +kernel
theorem dX1_leftmost_8 : decode cX1_leftmost 8 = .ok (.bipush (-4), 2) := by decide +kernel
theorem dX1_leftmost_10 : decode cX1_leftmost 10 = .ok (.ireturn, 1) := by decide +kernel
theorem dX1_leftmost_11 : decode cX1_leftmost 11 = .ok (.aload_n 0, 1) := by decide +kernel
theorem dX1_leftmost_12 : decode cX1_leftmost 12 = .ok (.invokevirtual 65, 3) := by decide +kernel
theorem dX1_leftmost_15 : decode cX1_leftmost 15 = .ok (.istore_n 2, 1) := by decide +kernel
theorem dX1_leftmost_16 : decode cX1_leftmost 16 = .ok (.iload_n 2, 1) := by decide +kernel
theorem dX1_leftmost_17 : decode cX1_leftmost 17 = .ok (.bipush (-6), 2) := by decide +kernel
theorem dX1_leftmost_19 : decode cX1_leftmost 19 = .ok (.if_icmp .ne 6, 3) := by decide +kernel
theorem dX1_leftmost_22 : decode cX1_leftmost 22 = .ok (.bipush (-6), 2) := by decide +kernel
theorem dX1_leftmost_24 : decode cX1_leftmost 24 = .ok (.ireturn, 1) := by decide +kernel
theorem dX1_leftmost_25 : decode cX1_leftmost 25 = .ok (.aload_n 0, 1) := by decide +kernel
theorem dX1_leftmost_26 : decode cX1_leftmost 26 = .ok (.invokevirtual 69, 3) := by decide +kernel
theorem dX1_leftmost_29 : decode cX1_leftmost 29 = .ok (.aload_n 0, 1) := by decide +kernel
theorem dX1_leftmost_30 : decode cX1_leftmost 30 = .ok (.getfield 22, 3) := by decide +kernel
theorem dX1_leftmost_33 : decode cX1_leftmost 33 = .ok (.iload_n 1, 1) := by decide +kernel
theorem dX1_leftmost_34 : decode cX1_leftmost 34 = .ok (.iaload, 1) := by decide +kernel
theorem dX1_leftmost_35 : decode cX1_leftmost 35 = .ok (.ireturn, 1) := by decide +kernel
abbrev cX1_findPlaces : ByteArray := prog_1_method_17_code
def yX1_findPlaces : MethodName := ⟨RX1, "findPlaces", "()V"⟩
theorem dX1_findPlaces_0 : decode cX1_findPlaces 0 = .ok (.aload_n 0, 1) := by decide +kernel
theorem dX1_findPlaces_1 : decode cX1_findPlaces 1 = .ok (.getfield 25, 3) := by decide +kernel
theorem dX1_findPlaces_4 : decode cX1_findPlaces 4 = .ok (.istore_n 1, 1) := by decide +kernel
theorem dX1_findPlaces_5 : decode cX1_findPlaces 5 = .ok (.aload_n 0, 1) := by decide +kernel
theorem dX1_findPlaces_6 : decode cX1_findPlaces 6 = .ok (.getfield 29, 3) := by decide +kernel
theorem dX1_findPlaces_9 : decode cX1_findPlaces 9 = .ok (.iconst 1, 1) := by decide +kernel
theorem dX1_findPlaces_10 : decode cX1_findPlaces 10 = .ok (.isub, 1) := by decide +kernel
theorem dX1_findPlaces_11 : decode cX1_findPlaces 11 = .ok (.istore_n 2, 1) := by decide +kernel
theorem dX1_findPlaces_12 : decode cX1_findPlaces 12 = .ok (.iload_n 2, 1) := by decide +kernel
theorem dX1_findPlaces_13 : decode cX1_findPlaces 13 = .ok (.ifCond .lt 57, 3) := by decide +kernel
theorem dX1_findPlaces_16 : decode cX1_findPlaces 16 = .ok (.aload_n 0, 1) := by decide +kernel
theorem dX1_findPlaces_17 : decode cX1_findPlaces 17 = .ok (.iload_n 2, 1) := by decide +kernel
theorem dX1_findPlaces_18 : decode cX1_findPlaces 18 = .ok (.iload_n 1, 1) := by decide +kernel
theorem dX1_findPlaces_19 : decode cX1_findPlaces 19 = .ok (.invokevirtual 58, 3) := by decide +kernel
theorem dX1_findPlaces_22 : decode cX1_findPlaces 22 = .ok (.istore_n 3, 1) := by decide +kernel
theorem dX1_findPlaces_23 : decode cX1_findPlaces 23 = .ok (.iconst 0, 1) := by decide +kernel
theorem dX1_findPlaces_24 : decode cX1_findPlaces 24 = .ok (.istore 4, 2) := by decide +kernel
theorem dX1_findPlaces_26 : decode cX1_findPlaces 26 = .ok (.iload 4, 2) := by decide +kernel
theorem dX1_findPlaces_28 : decode cX1_findPlaces 28 = .ok (.aload_n 0, 1) := by decide +kernel
theorem dX1_findPlaces_29 : decode cX1_findPlaces 29 = .ok (.getfield 25, 3) := by decide +kernel
theorem dX1_findPlaces_32 : decode cX1_findPlaces 32 = .ok (.if_icmp .ge 21, 3) := by decide +kernel
theorem dX1_findPlaces_35 : decode cX1_findPlaces 35 = .ok (.aload_n 0, 1) := by decide +kernel
theorem dX1_findPlaces_36 : decode cX1_findPlaces 36 = .ok (.iload_n 2, 1) := by decide +kernel
theorem dX1_findPlaces_37 : decode cX1_findPlaces 37 = .ok (.iload 4, 2) := by decide +kernel
theorem dX1_findPlaces_39 : decode cX1_findPlaces 39 = .ok (.iload_n 1, 1) := by decide +kernel
theorem dX1_findPlaces_40 : decode cX1_findPlaces 40 = .ok (.invokevirtual 61, 3) := by decide +kernel
theorem dX1_findPlaces_43 : decode cX1_findPlaces 43 = .ok (.iload_n 3, 1) := by decide +kernel
theorem dX1_findPlaces_44 : decode cX1_findPlaces 44 = .ok (.if_icmp .eq 9, 3) := by decide +kernel
theorem dX1_findPlaces_47 : decode cX1_findPlaces 47 = .ok (.iinc 4 1, 3) := by decide +kernel
theorem dX1_findPlaces_50 : decode cX1_findPlaces 50 = .ok (.goto (-24), 3) := by decide +kernel
theorem dX1_findPlaces_53 : decode cX1_findPlaces 53 = .ok (.aload_n 0, 1) := by decide +kernel
theorem dX1_findPlaces_54 : decode cX1_findPlaces 54 = .ok (.getfield 22, 3) := by decide +kernel
theorem dX1_findPlaces_57 : decode cX1_findPlaces 57 = .ok (.iload_n 2, 1) := by decide +kernel
theorem dX1_findPlaces_58 : decode cX1_findPlaces 58 = .ok (.iload 4, 2) := by decide +kernel
theorem dX1_findPlaces_60 : decode cX1_findPlaces 60 = .ok (.iastore, 1) := by decide +kernel
theorem dX1_findPlaces_61 : decode cX1_findPlaces 61 = .ok (.iload 4, 2) := by decide +kernel
theorem dX1_findPlaces_63 : decode cX1_findPlaces 63 = .ok (.istore_n 1, 1) := by decide +kernel
theorem dX1_findPlaces_64 : decode cX1_findPlaces 64 = .ok (.iinc 2 (-1), 3) := by decide +kernel
theorem dX1_findPlaces_67 : decode cX1_findPlaces 67 = .ok (.goto (-55), 3) := by decide +kernel
theorem dX1_findPlaces_70 : decode cX1_findPlaces 70 = .ok (.return_, 1) := by decide +kernel
abbrev cX1_bestUpTo : ByteArray := prog_1_method_14_code
def yX1_bestUpTo : MethodName := ⟨RX1, "bestUpTo", "(II)I"⟩
theorem dX1_bestUpTo_0 : decode cX1_bestUpTo 0 = .ok (.aload_n 0, 1) := by decide +kernel
theorem dX1_bestUpTo_1 : decode cX1_bestUpTo 1 = .ok (.iconst 0, 1) := by decide +kernel
theorem dX1_bestUpTo_2 : decode cX1_bestUpTo 2 = .ok (.iload_n 1, 1) := by decide +kernel
theorem dX1_bestUpTo_3 : decode cX1_bestUpTo 3 = .ok (.iconst 1, 1) := by decide +kernel
theorem dX1_bestUpTo_4 : decode cX1_bestUpTo 4 = .ok (.iadd, 1) := by decide +kernel
theorem dX1_bestUpTo_5 : decode cX1_bestUpTo 5 = .ok (.iconst 0, 1) := by decide +kernel
theorem dX1_bestUpTo_6 : decode cX1_bestUpTo 6 = .ok (.iload_n 2, 1) := by decide +kernel
theorem dX1_bestUpTo_7 : decode cX1_bestUpTo 7 = .ok (.invokevirtual 54, 3) := by decide +kernel
theorem dX1_bestUpTo_10 : decode cX1_bestUpTo 10 = .ok (.ireturn, 1) := by decide +kernel
abbrev cX1_upTo : ByteArray := prog_1_method_13_code
def yX1_upTo : MethodName := ⟨RX1, "upTo", "(III)I"⟩
theorem dX1_upTo_0 : decode cX1_upTo 0 = .ok (.iload_n 2, 1) := by decide +kernel
theorem dX1_upTo_1 : decode cX1_upTo 1 = .ok (.ifCond .lt 15, 3) := by decide +kernel
theorem dX1_upTo_4 : decode cX1_upTo 4 = .ok (.iload_n 2, 1) := by decide +kernel
theorem dX1_upTo_5 : decode cX1_upTo 5 = .ok (.iload_n 3, 1) := by decide +kernel
theorem dX1_upTo_6 : decode cX1_upTo 6 = .ok (.aload_n 0, 1) := by decide +kernel
theorem dX1_upTo_7 : decode cX1_upTo 7 = .ok (.getfield 7, 3) := by decide +kernel
theorem dX1_upTo_10 : decode cX1_upTo 10 = .ok (.iload_n 1, 1) := by decide +kernel
theorem dX1_upTo_11 : decode cX1_upTo 11 = .ok (.iaload, 1) := by decide +kernel
theorem dX1_upTo_12 : decode cX1_upTo 12 = .ok (.isub, 1) := by decide +kernel
theorem dX1_upTo_13 : decode cX1_upTo 13 = .ok (.if_icmp .le 6, 3) := by decide +kernel
theorem dX1_upTo_16 : decode cX1_upTo 16 = .ok (.bipush (-6), 2) := by decide +kernel
theorem dX1_upTo_18 : decode cX1_upTo 18 = .ok (.ireturn, 1) := by decide +kernel
theorem dX1_upTo_19 : decode cX1_upTo 19 = .ok (.aload_n 0, 1) := by decide +kernel
theorem dX1_upTo_20 : decode cX1_upTo 20 = .ok (.iconst 0, 1) := by decide +kernel
theorem dX1_upTo_21 : decode cX1_upTo 21 = .ok (.iload_n 1, 1) := by decide +kernel
theorem dX1_upTo_22 : decode cX1_upTo 22 = .ok (.iconst 0, 1) := by decide +kernel
theorem dX1_upTo_23 : decode cX1_upTo 23 = .ok (.iload_n 2, 1) := by decide +kernel
theorem dX1_upTo_24 : decode cX1_upTo 24 = .ok (.invokevirtual 54, 3) := by decide +kernel
theorem dX1_upTo_27 : decode cX1_upTo 27 = .ok (.istore 4, 2) := by decide +kernel
theorem dX1_upTo_29 : decode cX1_upTo 29 = .ok (.iload 4, 2) := by decide +kernel
theorem dX1_upTo_31 : decode cX1_upTo 31 = .ok (.bipush (-6), 2) := by decide +kernel
theorem dX1_upTo_33 : decode cX1_upTo 33 = .ok (.if_icmp .ne 8, 3) := by decide +kernel
theorem dX1_upTo_36 : decode cX1_upTo 36 = .ok (.bipush (-6), 2) := by decide +kernel
theorem dX1_upTo_38 : decode cX1_upTo 38 = .ok (.goto 23, 3) := by decide +kernel
theorem dX1_upTo_41 : decode cX1_upTo 41 = .ok (.iload 4, 2) := by decide +kernel
theorem dX1_upTo_43 : decode cX1_upTo 43 = .ok (.aload_n 0, 1) := by decide +kernel
theorem dX1_upTo_44 : decode cX1_upTo 44 = .ok (.getfield 16, 3) := by decide +kernel
theorem dX1_upTo_47 : decode cX1_upTo 47 = .ok (.iload_n 1, 1) := by decide +kernel
theorem dX1_upTo_48 : decode cX1_upTo 48 = .ok (.iaload, 1) := by decide +kernel
theorem dX1_upTo_49 : decode cX1_upTo 49 = .ok (.iload_n 2, 1) := by decide +kernel
theorem dX1_upTo_50 : decode cX1_upTo 50 = .ok (.aload_n 0, 1) := by decide +kernel
theorem dX1_upTo_51 : decode cX1_upTo 51 = .ok (.getfield 13, 3) := by decide +kernel
theorem dX1_upTo_54 : decode cX1_upTo 54 = .ok (.iload_n 1, 1) := by decide +kernel
theorem dX1_upTo_55 : decode cX1_upTo 55 = .ok (.iaload, 1) := by decide +kernel
theorem dX1_upTo_56 : decode cX1_upTo 56 = .ok (.invokestatic 47, 3) := by decide +kernel
theorem dX1_upTo_59 : decode cX1_upTo 59 = .ok (.imul, 1) := by decide +kernel
theorem dX1_upTo_60 : decode cX1_upTo 60 = .ok (.iadd, 1) := by decide +kernel
theorem dX1_upTo_61 : decode cX1_upTo 61 = .ok (.ireturn, 1) := by decide +kernel
abbrev cX1_costAt : ByteArray := prog_1_method_19_code
def yX1_costAt : MethodName := ⟨RX1, "costAt", "(II)I"⟩
theorem dX1_costAt_0 : decode cX1_costAt 0 = .ok (.aload_n 0, 1) := by decide +kernel
theorem dX1_costAt_1 : decode cX1_costAt 1 = .ok (.iload_n 1, 1) := by decide +kernel
theorem dX1_costAt_2 : decode cX1_costAt 2 = .ok (.invokevirtual 32, 3) := by decide +kernel
theorem dX1_costAt_5 : decode cX1_costAt 5 = .ok (.ifCond .eq 6, 3) := by decide +kernel
theorem dX1_costAt_8 : decode cX1_costAt 8 = .ok (.bipush (-4), 2) := by decide +kernel
theorem dX1_costAt_10 : decode cX1_costAt 10 = .ok (.ireturn, 1) := by decide +kernel
theorem dX1_costAt_11 : decode cX1_costAt 11 = .ok (.aload_n 0, 1) := by decide +kernel
theorem dX1_costAt_12 : decode cX1_costAt 12 = .ok (.iload_n 1, 1) := by decide +kernel
theorem dX1_costAt_13 : decode cX1_costAt 13 = .ok (.iload_n 2, 1) := by decide +kernel
theorem dX1_costAt_14 : decode cX1_costAt 14 = .ok (.aload_n 0, 1) := by decide +kernel
theorem dX1_costAt_15 : decode cX1_costAt 15 = .ok (.getfield 25, 3) := by decide +kernel
theorem dX1_costAt_18 : decode cX1_costAt 18 = .ok (.invokevirtual 61, 3) := by decide +kernel
theorem dX1_costAt_21 : decode cX1_costAt 21 = .ok (.istore_n 3, 1) := by decide +kernel
theorem dX1_costAt_22 : decode cX1_costAt 22 = .ok (.iload_n 3, 1) := by decide +kernel
theorem dX1_costAt_23 : decode cX1_costAt 23 = .ok (.bipush (-6), 2) := by decide +kernel
theorem dX1_costAt_25 : decode cX1_costAt 25 = .ok (.if_icmp .ne 6, 3) := by decide +kernel
theorem dX1_costAt_28 : decode cX1_costAt 28 = .ok (.bipush (-6), 2) := by decide +kernel
theorem dX1_costAt_30 : decode cX1_costAt 30 = .ok (.ireturn, 1) := by decide +kernel
theorem dX1_costAt_31 : decode cX1_costAt 31 = .ok (.aload_n 0, 1) := by decide +kernel
theorem dX1_costAt_32 : decode cX1_costAt 32 = .ok (.iload_n 1, 1) := by decide +kernel
theorem dX1_costAt_33 : decode cX1_costAt 33 = .ok (.iconst 1, 1) := by decide +kernel
theorem dX1_costAt_34 : decode cX1_costAt 34 = .ok (.iadd, 1) := by decide +kernel
theorem dX1_costAt_35 : decode cX1_costAt 35 = .ok (.aload_n 0, 1) := by decide +kernel
theorem dX1_costAt_36 : decode cX1_costAt 36 = .ok (.getfield 29, 3) := by decide +kernel
theorem dX1_costAt_39 : decode cX1_costAt 39 = .ok (.iload_n 2, 1) := by decide +kernel
theorem dX1_costAt_40 : decode cX1_costAt 40 = .ok (.aload_n 0, 1) := by decide +kernel
theorem dX1_costAt_41 : decode cX1_costAt 41 = .ok (.getfield 7, 3) := by decide +kernel
theorem dX1_costAt_44 : decode cX1_costAt 44 = .ok (.iload_n 1, 1) := by decide +kernel
theorem dX1_costAt_45 : decode cX1_costAt 45 = .ok (.iaload, 1) := by decide +kernel
theorem dX1_costAt_46 : decode cX1_costAt 46 = .ok (.iadd, 1) := by decide +kernel
theorem dX1_costAt_47 : decode cX1_costAt 47 = .ok (.aload_n 0, 1) := by decide +kernel
theorem dX1_costAt_48 : decode cX1_costAt 48 = .ok (.getfield 25, 3) := by decide +kernel
theorem dX1_costAt_51 : decode cX1_costAt 51 = .ok (.invokevirtual 54, 3) := by decide +kernel
theorem dX1_costAt_54 : decode cX1_costAt 54 = .ok (.istore 4, 2) := by decide +kernel
theorem dX1_costAt_56 : decode cX1_costAt 56 = .ok (.iload 4, 2) := by decide +kernel
theorem dX1_costAt_58 : decode cX1_costAt 58 = .ok (.bipush (-6), 2) := by decide +kernel
theorem dX1_costAt_60 : decode cX1_costAt 60 = .ok (.if_icmp .ne 8, 3) := by decide +kernel
theorem dX1_costAt_63 : decode cX1_costAt 63 = .ok (.bipush (-6), 2) := by decide +kernel
theorem dX1_costAt_65 : decode cX1_costAt 65 = .ok (.goto 7, 3) := by decide +kernel
theorem dX1_costAt_68 : decode cX1_costAt 68 = .ok (.iload_n 3, 1) := by decide +kernel
theorem dX1_costAt_69 : decode cX1_costAt 69 = .ok (.iload 4, 2) := by decide +kernel
theorem dX1_costAt_71 : decode cX1_costAt 71 = .ok (.iadd, 1) := by decide +kernel
theorem dX1_costAt_72 : decode cX1_costAt 72 = .ok (.ireturn, 1) := by decide +kernel
abbrev cX1_room : ByteArray := prog_1_method_20_code
def yX1_room : MethodName := ⟨RX1, "room", "()I"⟩
theorem dX1_room_0 : decode cX1_room 0 = .ok (.aload_n 0, 1) := by decide +kernel
theorem dX1_room_1 : decode cX1_room 1 = .ok (.getfield 25, 3) := by decide +kernel
theorem dX1_room_4 : decode cX1_room 4 = .ok (.aload_n 0, 1) := by decide +kernel
theorem dX1_room_5 : decode cX1_room 5 = .ok (.iconst 0, 1) := by decide +kernel
theorem dX1_room_6 : decode cX1_room 6 = .ok (.aload_n 0, 1) := by decide +kernel
theorem dX1_room_7 : decode cX1_room 7 = .ok (.getfield 29, 3) := by decide +kernel
theorem dX1_room_10 : decode cX1_room 10 = .ok (.invokevirtual 43, 3) := by decide +kernel
theorem dX1_room_13 : decode cX1_room 13 = .ok (.isub, 1) := by decide +kernel
theorem dX1_room_14 : decode cX1_room 14 = .ok (.ireturn, 1) := by decide +kernel
abbrev cX1_content : ByteArray := prog_1_method_22_code
def yX1_content : MethodName := ⟨RX1, "content", "()I"⟩
theorem dX1_content_0 : decode cX1_content 0 = .ok (.iconst 0, 1) := by decide +kernel
theorem dX1_content_1 : decode cX1_content 1 = .ok (.istore_n 1, 1) := by decide +kernel
theorem dX1_content_2 : decode cX1_content 2 = .ok (.iconst 0, 1) := by decide +kernel
theorem dX1_content_3 : decode cX1_content 3 = .ok (.istore_n 2, 1) := by decide +kernel
theorem dX1_content_4 : decode cX1_content 4 = .ok (.iload_n 2, 1) := by decide +kernel
theorem dX1_content_5 : decode cX1_content 5 = .ok (.aload_n 0, 1) := by decide +kernel
theorem dX1_content_6 : decode cX1_content 6 = .ok (.getfield 29, 3) := by decide +kernel
theorem dX1_content_9 : decode cX1_content 9 = .ok (.if_icmp .ge 117, 3) := by decide +kernel
theorem dX1_content_12 : decode cX1_content 12 = .ok (.aload_n 0, 1) := by decide +kernel
theorem dX1_content_13 : decode cX1_content 13 = .ok (.iload_n 2, 1) := by decide +kernel
theorem dX1_content_14 : decode cX1_content 14 = .ok (.invokevirtual 72, 3) := by decide +kernel
theorem dX1_content_17 : decode cX1_content 17 = .ok (.istore_n 3, 1) := by decide +kernel
theorem dX1_content_18 : decode cX1_content 18 = .ok (.iconst 0, 1) := by decide +kernel
theorem dX1_content_19 : decode cX1_content 19 = .ok (.istore 4, 2) := by decide +kernel
theorem dX1_content_21 : decode cX1_content 21 = .ok (.iconst 0, 1) := by decide +kernel
theorem dX1_content_22 : decode cX1_content 22 = .ok (.istore 5, 2) := by decide +kernel
theorem dX1_content_24 : decode cX1_content 24 = .ok (.iload 5, 2) := by decide +kernel
theorem dX1_content_26 : decode cX1_content 26 = .ok (.iload_n 2, 1) := by decide +kernel
theorem dX1_content_27 : decode cX1_content 27 = .ok (.if_icmp .ge 58, 3) := by decide +kernel
theorem dX1_content_30 : decode cX1_content 30 = .ok (.iload_n 3, 1) := by decide +kernel
theorem dX1_content_31 : decode cX1_content 31 = .ok (.ifCond .eq 54, 3) := by decide +kernel
theorem dX1_content_34 : decode cX1_content 34 = .ok (.aload_n 0, 1) := by decide +kernel
theorem dX1_content_35 : decode cX1_content 35 = .ok (.getfield 13, 3) := by decide +kernel
theorem dX1_content_38 : decode cX1_content 38 = .ok (.iload 5, 2) := by decide +kernel
theorem dX1_content_40 : decode cX1_content 40 = .ok (.iaload, 1) := by decide +kernel
theorem dX1_content_41 : decode cX1_content 41 = .ok (.aload_n 0, 1) := by decide +kernel
theorem dX1_content_42 : decode cX1_content 42 = .ok (.getfield 7, 3) := by decide +kernel
theorem dX1_content_45 : decode cX1_content 45 = .ok (.iload 5, 2) := by decide +kernel
theorem dX1_content_47 : decode cX1_content 47 = .ok (.iaload, 1) := by decide +kernel
theorem dX1_content_48 : decode cX1_content 48 = .ok (.iadd, 1) := by decide +kernel
theorem dX1_content_49 : decode cX1_content 49 = .ok (.aload_n 0, 1) := by decide +kernel
theorem dX1_content_50 : decode cX1_content 50 = .ok (.getfield 13, 3) := by decide +kernel
theorem dX1_content_53 : decode cX1_content 53 = .ok (.iload_n 2, 1) := by decide +kernel
theorem dX1_content_54 : decode cX1_content 54 = .ok (.iaload, 1) := by decide +kernel
theorem dX1_content_55 : decode cX1_content 55 = .ok (.if_icmp .gt 24, 3) := by decide +kernel
theorem dX1_content_58 : decode cX1_content 58 = .ok (.aload_n 0, 1) := by decide +kernel
theorem dX1_content_59 : decode cX1_content 59 = .ok (.getfield 22, 3) := by decide +kernel
theorem dX1_content_62 : decode cX1_content 62 = .ok (.iload 5, 2) := by decide +kernel
theorem dX1_content_64 : decode cX1_content 64 = .ok (.iaload, 1) := by decide +kernel
theorem dX1_content_65 : decode cX1_content 65 = .ok (.iload 4, 2) := by decide +kernel
theorem dX1_content_67 : decode cX1_content 67 = .ok (.if_icmp .le 12, 3) := by decide +kernel
theorem dX1_content_70 : decode cX1_content 70 = .ok (.aload_n 0, 1) := by decide +kernel
theorem dX1_content_71 : decode cX1_content 71 = .ok (.getfield 22, 3) := by decide +kernel
theorem dX1_content_74 : decode cX1_content 74 = .ok (.iload 5, 2) := by decide +kernel
theorem dX1_content_76 : decode cX1_content 76 = .ok (.iaload, 1) := by decide +kernel
theorem dX1_content_77 : decode cX1_content 77 = .ok (.istore 4, 2) := by decide +kernel
theorem dX1_content_79 : decode cX1_content 79 = .ok (.iinc 5 1, 3) := by decide +kernel
theorem dX1_content_82 : decode cX1_content 82 = .ok (.goto (-58), 3) := by decide +kernel
theorem dX1_content_85 : decode cX1_content 85 = .ok (.aload_n 0, 1) := by decide +kernel
theorem dX1_content_86 : decode cX1_content 86 = .ok (.getfield 22, 3) := by decide +kernel
theorem dX1_content_89 : decode cX1_content 89 = .ok (.iload_n 2, 1) := by decide +kernel
theorem dX1_content_90 : decode cX1_content 90 = .ok (.iload_n 3, 1) := by decide +kernel
theorem dX1_content_91 : decode cX1_content 91 = .ok (.ifCond .eq 10, 3) := by decide +kernel
theorem dX1_content_94 : decode cX1_content 94 = .ok (.iload 4, 2) := by decide +kernel
theorem dX1_content_96 : decode cX1_content 96 = .ok (.iconst 1, 1) := by decide +kernel
theorem dX1_content_97 : decode cX1_content 97 = .ok (.iadd, 1) := by decide +kernel
theorem dX1_content_98 : decode cX1_content 98 = .ok (.goto 4, 3) := by decide +kernel
theorem dX1_content_101 : decode cX1_content 101 = .ok (.iconst 0, 1) := by decide +kernel
theorem dX1_content_102 : decode cX1_content 102 = .ok (.iastore, 1) := by decide +kernel
theorem dX1_content_103 : decode cX1_content 103 = .ok (.aload_n 0, 1) := by decide +kernel
theorem dX1_content_104 : decode cX1_content 104 = .ok (.getfield 22, 3) := by decide +kernel
theorem dX1_content_107 : decode cX1_content 107 = .ok (.iload_n 2, 1) := by decide +kernel
theorem dX1_content_108 : decode cX1_content 108 = .ok (.iaload, 1) := by decide +kernel
theorem dX1_content_109 : decode cX1_content 109 = .ok (.iload_n 1, 1) := by decide +kernel
theorem dX1_content_110 : decode cX1_content 110 = .ok (.if_icmp .le 10, 3) := by decide +kernel
theorem dX1_content_113 : decode cX1_content 113 = .ok (.aload_n 0, 1) := by decide +kernel
theorem dX1_content_114 : decode cX1_content 114 = .ok (.getfield 22, 3) := by decide +kernel
theorem dX1_content_117 : decode cX1_content 117 = .ok (.iload_n 2, 1) := by decide +kernel
theorem dX1_content_118 : decode cX1_content 118 = .ok (.iaload, 1) := by decide +kernel
theorem dX1_content_119 : decode cX1_content 119 = .ok (.istore_n 1, 1) := by decide +kernel
theorem dX1_content_120 : decode cX1_content 120 = .ok (.iinc 2 1, 3) := by decide +kernel
theorem dX1_content_123 : decode cX1_content 123 = .ok (.goto (-119), 3) := by decide +kernel
theorem dX1_content_126 : decode cX1_content 126 = .ok (.iload_n 1, 1) := by decide +kernel
theorem dX1_content_127 : decode cX1_content 127 = .ok (.ireturn, 1) := by decide +kernel
abbrev cX1_fitsAtWish : ByteArray := prog_1_method_21_code
def yX1_fitsAtWish : MethodName := ⟨RX1, "fitsAtWish", "(I)Z"⟩
theorem dX1_fitsAtWish_0 : decode cX1_fitsAtWish 0 = .ok (.aload_n 0, 1) := by decide +kernel
theorem dX1_fitsAtWish_1 : decode cX1_fitsAtWish 1 = .ok (.getfield 13, 3) := by decide +kernel
theorem dX1_fitsAtWish_4 : decode cX1_fitsAtWish 4 = .ok (.iload_n 1, 1) := by decide +kernel
theorem dX1_fitsAtWish_5 : decode cX1_fitsAtWish 5 = .ok (.iaload, 1) := by decide +kernel
theorem dX1_fitsAtWish_6 : decode cX1_fitsAtWish 6 = .ok (.aload_n 0, 1) := by decide +kernel
theorem dX1_fitsAtWish_7 : decode cX1_fitsAtWish 7 = .ok (.getfield 7, 3) := by decide +kernel
theorem dX1_fitsAtWish_10 : decode cX1_fitsAtWish 10 = .ok (.iload_n 1, 1) := by decide +kernel
theorem dX1_fitsAtWish_11 : decode cX1_fitsAtWish 11 = .ok (.iaload, 1) := by decide +kernel
theorem dX1_fitsAtWish_12 : decode cX1_fitsAtWish 12 = .ok (.iadd, 1) := by decide +kernel
theorem dX1_fitsAtWish_13 : decode cX1_fitsAtWish 13 = .ok (.aload_n 0, 1) := by decide +kernel
theorem dX1_fitsAtWish_14 : decode cX1_fitsAtWish 14 = .ok (.getfield 25, 3) := by decide +kernel
theorem dX1_fitsAtWish_17 : decode cX1_fitsAtWish 17 = .ok (.if_icmp .gt 7, 3) := by decide +kernel
theorem dX1_fitsAtWish_20 : decode cX1_fitsAtWish 20 = .ok (.iconst 1, 1) := by decide +kernel
theorem dX1_fitsAtWish_21 : decode cX1_fitsAtWish 21 = .ok (.goto 4, 3) := by decide +kernel
theorem dX1_fitsAtWish_24 : decode cX1_fitsAtWish 24 = .ok (.iconst 0, 1) := by decide +kernel
theorem dX1_fitsAtWish_25 : decode cX1_fitsAtWish 25 = .ok (.ireturn, 1) := by decide +kernel
theorem q20 : (Jvm.Cond.initialized "RowLegaliser") ∈ lw_all := lw_g (lw_at lw_m1 1 rfl) rfl
theorem q23 : (Jvm.Cond.instantiable "RowLegaliser" (8 : Nat)) ∈ lw_all := lw_g (lw_at lw_m1 4 rfl) rfl
theorem q25 : (Jvm.Cond.instanceMethod ({ cls := "RowLegaliser", name := "<init>", desc := "(I)V" } : Jvm.MethodName)) ∈ lw_all := lw_g (lw_at lw_m1 6 rfl) rfl
theorem q26 : (Jvm.Cond.code ({ cls := "RowLegaliser", name := "<init>", desc := "(I)V" } : Jvm.MethodName) prog_1_method_1_code (3 : Nat) (Option.none : Option Jvm.ClassFile.FieldType)) ∈ lw_all := lw_g (lw_at lw_m1 7 rfl) rfl
theorem q27 : (Jvm.Cond.methodLink "RowLegaliser" (1 : Nat) ({ cls := "java/lang/Object", name := "<init>", desc := "()V" } : Jvm.MethodName)) ∈ lw_all := lw_g (lw_at lw_m1 8 rfl) rfl
theorem q30 : (Jvm.Cond.fieldLink "RowLegaliser" (25 : Nat) "RowLegaliser" "length" "I") ∈ lw_all := lw_g (lw_at lw_m1 11 rfl) rfl
theorem q31 : (Jvm.Cond.fieldLink "RowLegaliser" (29 : Nat) "RowLegaliser" "cells" "I") ∈ lw_all := lw_g (lw_at lw_m1 12 rfl) rfl
theorem q32 : (Jvm.Cond.fieldLink "RowLegaliser" (7 : Nat) "RowLegaliser" "width" "[I") ∈ lw_all := lw_g (lw_at lw_m1 13 rfl) rfl
theorem q33 : (Jvm.Cond.fieldLink "RowLegaliser" (13 : Nat) "RowLegaliser" "wish" "[I") ∈ lw_all := lw_g (lw_at lw_m1 14 rfl) rfl
theorem q34 : (Jvm.Cond.fieldLink "RowLegaliser" (16 : Nat) "RowLegaliser" "weight" "[I") ∈ lw_all := lw_g (lw_at lw_m1 15 rfl) rfl
theorem q35 : (Jvm.Cond.fieldLink "RowLegaliser" (36 : Nat) "RowLegaliser" "points" "I") ∈ lw_all := lw_g (lw_at lw_m1 16 rfl) rfl
theorem q36 : (Jvm.Cond.fieldLink "RowLegaliser" (19 : Nat) "RowLegaliser" "point" "[I") ∈ lw_all := lw_g (lw_at lw_m1 17 rfl) rfl
theorem q37 : (Jvm.Cond.fieldLink "RowLegaliser" (22 : Nat) "RowLegaliser" "place" "[I") ∈ lw_all := lw_g (lw_at lw_m1 18 rfl) rfl
theorem q38 : (Jvm.Cond.laysFinal "RowLegaliser" "RowLegaliser" "length" "I") ∈ lw_all := lw_g (lw_at lw_m1 19 rfl) rfl
theorem q39 : (Jvm.Cond.soleField "RowLegaliser" "length") ∈ lw_all := lw_g (lw_at lw_m1 20 rfl) rfl
theorem q40 : (Jvm.Cond.lays "RowLegaliser" "RowLegaliser" "cells" "I") ∈ lw_all := lw_g (lw_at lw_m1 21 rfl) rfl
theorem q41 : (Jvm.Cond.soleField "RowLegaliser" "cells") ∈ lw_all := lw_g (lw_at lw_m1 22 rfl) rfl
theorem q42 : (Jvm.Cond.laysFinal "RowLegaliser" "RowLegaliser" "width" "[I") ∈ lw_all := lw_g (lw_at lw_m1 23 rfl) rfl
theorem q43 : (Jvm.Cond.soleField "RowLegaliser" "width") ∈ lw_all := lw_g (lw_at lw_m1 24 rfl) rfl
theorem q44 : (Jvm.Cond.laysFinal "RowLegaliser" "RowLegaliser" "wish" "[I") ∈ lw_all := lw_g (lw_at lw_m1 25 rfl) rfl
theorem q45 : (Jvm.Cond.soleField "RowLegaliser" "wish") ∈ lw_all := lw_g (lw_at lw_m1 26 rfl) rfl
theorem q46 : (Jvm.Cond.laysFinal "RowLegaliser" "RowLegaliser" "weight" "[I") ∈ lw_all := lw_g (lw_at lw_m1 27 rfl) rfl
theorem q47 : (Jvm.Cond.soleField "RowLegaliser" "weight") ∈ lw_all := lw_g (lw_at lw_m1 28 rfl) rfl
theorem q48 : (Jvm.Cond.lays "RowLegaliser" "RowLegaliser" "points" "I") ∈ lw_all := lw_g (lw_at lw_m1 29 rfl) rfl
theorem q49 : (Jvm.Cond.soleField "RowLegaliser" "points") ∈ lw_all := lw_g (lw_at lw_m1 30 rfl) rfl
theorem q50 : (Jvm.Cond.laysFinal "RowLegaliser" "RowLegaliser" "point" "[I") ∈ lw_all := lw_g (lw_at lw_m1 31 rfl) rfl
theorem q51 : (Jvm.Cond.soleField "RowLegaliser" "point") ∈ lw_all := lw_g (lw_at lw_m1 32 rfl) rfl
theorem q52 : (Jvm.Cond.laysFinal "RowLegaliser" "RowLegaliser" "place" "[I") ∈ lw_all := lw_g (lw_at lw_m1 33 rfl) rfl
theorem q53 : (Jvm.Cond.soleField "RowLegaliser" "place") ∈ lw_all := lw_g (lw_at lw_m1 34 rfl) rfl
theorem q54 : (Jvm.Cond.superclass "RowLegaliser" "java/lang/Object") ∈ lw_all := lw_g (lw_at lw_m1 35 rfl) rfl
theorem q57 : (Jvm.Cond.instanceMethod ({ cls := "RowLegaliser", name := "append", desc := "(III)I" } : Jvm.MethodName)) ∈ lw_all := lw_g (lw_at lw_m1 38 rfl) rfl
theorem q58 : (Jvm.Cond.selects "RowLegaliser" ({ cls := "RowLegaliser", name := "append", desc := "(III)I" } : Jvm.MethodName) ({ cls := "RowLegaliser", name := "append", desc := "(III)I" } : Jvm.MethodName)) ∈ lw_all := lw_g (lw_at lw_m1 39 rfl) rfl
theorem q59 : (Jvm.Cond.code ({ cls := "RowLegaliser", name := "append", desc := "(III)I" } : Jvm.MethodName) prog_1_method_3_code (4 : Nat) (Option.some Jvm.ClassFile.FieldType.int)) ∈ lw_all := lw_g (lw_at lw_m1 40 rfl) rfl
theorem q61 : (Jvm.Cond.instanceMethod ({ cls := "RowLegaliser", name := "move", desc := "(II)I" } : Jvm.MethodName)) ∈ lw_all := lw_g (lw_at lw_m1 42 rfl) rfl
theorem q62 : (Jvm.Cond.selects "RowLegaliser" ({ cls := "RowLegaliser", name := "move", desc := "(II)I" } : Jvm.MethodName) ({ cls := "RowLegaliser", name := "move", desc := "(II)I" } : Jvm.MethodName)) ∈ lw_all := lw_g (lw_at lw_m1 43 rfl) rfl
theorem q63 : (Jvm.Cond.code ({ cls := "RowLegaliser", name := "move", desc := "(II)I" } : Jvm.MethodName) prog_1_method_4_code (4 : Nat) (Option.some Jvm.ClassFile.FieldType.int)) ∈ lw_all := lw_g (lw_at lw_m1 44 rfl) rfl
theorem q64 : (Jvm.Cond.methodLink "RowLegaliser" (32 : Nat) ({ cls := "RowLegaliser", name := "noCell", desc := "(I)Z" } : Jvm.MethodName)) ∈ lw_all := lw_g (lw_at lw_m1 45 rfl) rfl
theorem q65 : (Jvm.Cond.privateMethod ({ cls := "RowLegaliser", name := "noCell", desc := "(I)Z" } : Jvm.MethodName)) ∈ lw_tbl := lw_at lw_m1 46 rfl
theorem q66 : (Jvm.Cond.instanceMethod ({ cls := "RowLegaliser", name := "noCell", desc := "(I)Z" } : Jvm.MethodName)) ∈ lw_all := lw_g (lw_at lw_m1 47 rfl) rfl
theorem q67 : (Jvm.Cond.code ({ cls := "RowLegaliser", name := "noCell", desc := "(I)Z" } : Jvm.MethodName) prog_1_method_2_code (2 : Nat) (Option.some Jvm.ClassFile.FieldType.boolean)) ∈ lw_all := lw_g (lw_at lw_m1 48 rfl) rfl
theorem q69 : (Jvm.Cond.instanceMethod ({ cls := "RowLegaliser", name := "reweigh", desc := "(II)I" } : Jvm.MethodName)) ∈ lw_all := lw_g (lw_at lw_m1 50 rfl) rfl
theorem q70 : (Jvm.Cond.selects "RowLegaliser" ({ cls := "RowLegaliser", name := "reweigh", desc := "(II)I" } : Jvm.MethodName) ({ cls := "RowLegaliser", name := "reweigh", desc := "(II)I" } : Jvm.MethodName)) ∈ lw_all := lw_g (lw_at lw_m1 51 rfl) rfl
theorem q71 : (Jvm.Cond.code ({ cls := "RowLegaliser", name := "reweigh", desc := "(II)I" } : Jvm.MethodName) prog_1_method_5_code (4 : Nat) (Option.some Jvm.ClassFile.FieldType.int)) ∈ lw_all := lw_g (lw_at lw_m1 52 rfl) rfl
theorem q73 : (Jvm.Cond.instanceMethod ({ cls := "RowLegaliser", name := "exchange", desc := "(I)I" } : Jvm.MethodName)) ∈ lw_all := lw_g (lw_at lw_m1 54 rfl) rfl
theorem q74 : (Jvm.Cond.selects "RowLegaliser" ({ cls := "RowLegaliser", name := "exchange", desc := "(I)I" } : Jvm.MethodName) ({ cls := "RowLegaliser", name := "exchange", desc := "(I)I" } : Jvm.MethodName)) ∈ lw_all := lw_g (lw_at lw_m1 55 rfl) rfl
theorem q75 : (Jvm.Cond.code ({ cls := "RowLegaliser", name := "exchange", desc := "(I)I" } : Jvm.MethodName) prog_1_method_6_code (5 : Nat) (Option.some Jvm.ClassFile.FieldType.int)) ∈ lw_all := lw_g (lw_at lw_m1 56 rfl) rfl
theorem q77 : (Jvm.Cond.instanceMethod ({ cls := "RowLegaliser", name := "drop", desc := "()I" } : Jvm.MethodName)) ∈ lw_all := lw_g (lw_at lw_m1 58 rfl) rfl
theorem q78 : (Jvm.Cond.selects "RowLegaliser" ({ cls := "RowLegaliser", name := "drop", desc := "()I" } : Jvm.MethodName) ({ cls := "RowLegaliser", name := "drop", desc := "()I" } : Jvm.MethodName)) ∈ lw_all := lw_g (lw_at lw_m1 59 rfl) rfl
theorem q79 : (Jvm.Cond.code ({ cls := "RowLegaliser", name := "drop", desc := "()I" } : Jvm.MethodName) prog_1_method_7_code (1 : Nat) (Option.some Jvm.ClassFile.FieldType.int)) ∈ lw_all := lw_g (lw_at lw_m1 60 rfl) rfl
theorem q81 : (Jvm.Cond.instanceMethod ({ cls := "RowLegaliser", name := "cost", desc := "()I" } : Jvm.MethodName)) ∈ lw_all := lw_g (lw_at lw_m1 62 rfl) rfl
theorem q82 : (Jvm.Cond.selects "RowLegaliser" ({ cls := "RowLegaliser", name := "cost", desc := "()I" } : Jvm.MethodName) ({ cls := "RowLegaliser", name := "cost", desc := "()I" } : Jvm.MethodName)) ∈ lw_all := lw_g (lw_at lw_m1 63 rfl) rfl
theorem q83 : (Jvm.Cond.code ({ cls := "RowLegaliser", name := "cost", desc := "()I" } : Jvm.MethodName) prog_1_method_15_code (1 : Nat) (Option.some Jvm.ClassFile.FieldType.int)) ∈ lw_all := lw_g (lw_at lw_m1 64 rfl) rfl
theorem q84 : (Jvm.Cond.methodLink "RowLegaliser" (54 : Nat) ({ cls := "RowLegaliser", name := "partCost", desc := "(IIII)I" } : Jvm.MethodName)) ∈ lw_all := lw_g (lw_at lw_m1 65 rfl) rfl
theorem q85 : (Jvm.Cond.privateMethod ({ cls := "RowLegaliser", name := "partCost", desc := "(IIII)I" } : Jvm.MethodName)) ∈ lw_tbl := lw_at lw_m1 66 rfl
theorem q86 : (Jvm.Cond.instanceMethod ({ cls := "RowLegaliser", name := "partCost", desc := "(IIII)I" } : Jvm.MethodName)) ∈ lw_all := lw_g (lw_at lw_m1 67 rfl) rfl
theorem q87 : (Jvm.Cond.code ({ cls := "RowLegaliser", name := "partCost", desc := "(IIII)I" } : Jvm.MethodName) prog_1_method_12_code (12 : Nat) (Option.some Jvm.ClassFile.FieldType.int)) ∈ lw_all := lw_g (lw_at lw_m1 68 rfl) rfl
theorem q88 : (Jvm.Cond.methodLink "RowLegaliser" (43 : Nat) ({ cls := "RowLegaliser", name := "widthOf", desc := "(II)I" } : Jvm.MethodName)) ∈ lw_all := lw_g (lw_at lw_m1 69 rfl) rfl
theorem q89 : (Jvm.Cond.privateMethod ({ cls := "RowLegaliser", name := "widthOf", desc := "(II)I" } : Jvm.MethodName)) ∈ lw_tbl := lw_at lw_m1 70 rfl
theorem q90 : (Jvm.Cond.instanceMethod ({ cls := "RowLegaliser", name := "widthOf", desc := "(II)I" } : Jvm.MethodName)) ∈ lw_all := lw_g (lw_at lw_m1 71 rfl) rfl
theorem q91 : (Jvm.Cond.code ({ cls := "RowLegaliser", name := "widthOf", desc := "(II)I" } : Jvm.MethodName) prog_1_method_11_code (5 : Nat) (Option.some Jvm.ClassFile.FieldType.int)) ∈ lw_all := lw_g (lw_at lw_m1 72 rfl) rfl
theorem q92 : (Jvm.Cond.methodLink "RowLegaliser" (47 : Nat) ({ cls := "RowLegaliser", name := "distance", desc := "(II)I" } : Jvm.MethodName)) ∈ lw_all := lw_g (lw_at lw_m1 73 rfl) rfl
theorem q93 : (Jvm.Cond.static ({ cls := "RowLegaliser", name := "distance", desc := "(II)I" } : Jvm.MethodName)) ∈ lw_all := lw_g (lw_at lw_m1 74 rfl) rfl
theorem q94 : (Jvm.Cond.code ({ cls := "RowLegaliser", name := "distance", desc := "(II)I" } : Jvm.MethodName) prog_1_method_8_code (2 : Nat) (Option.some Jvm.ClassFile.FieldType.int)) ∈ lw_all := lw_g (lw_at lw_m1 75 rfl) rfl
theorem q95 : (Jvm.Cond.methodLink "RowLegaliser" (50 : Nat) ({ cls := "RowLegaliser", name := "addUnit", desc := "(I)I" } : Jvm.MethodName)) ∈ lw_all := lw_g (lw_at lw_m1 76 rfl) rfl
theorem q96 : (Jvm.Cond.privateMethod ({ cls := "RowLegaliser", name := "addUnit", desc := "(I)I" } : Jvm.MethodName)) ∈ lw_tbl := lw_at lw_m1 77 rfl
theorem q97 : (Jvm.Cond.instanceMethod ({ cls := "RowLegaliser", name := "addUnit", desc := "(I)I" } : Jvm.MethodName)) ∈ lw_all := lw_g (lw_at lw_m1 78 rfl) rfl
theorem q98 : (Jvm.Cond.code ({ cls := "RowLegaliser", name := "addUnit", desc := "(I)I" } : Jvm.MethodName) prog_1_method_10_code (3 : Nat) (Option.some Jvm.ClassFile.FieldType.int)) ∈ lw_all := lw_g (lw_at lw_m1 79 rfl) rfl
theorem q99 : (Jvm.Cond.methodLink "RowLegaliser" (39 : Nat) ({ cls := "RowLegaliser", name := "addPoint", desc := "(I)V" } : Jvm.MethodName)) ∈ lw_all := lw_g (lw_at lw_m1 80 rfl) rfl
theorem q100 : (Jvm.Cond.privateMethod ({ cls := "RowLegaliser", name := "addPoint", desc := "(I)V" } : Jvm.MethodName)) ∈ lw_tbl := lw_at lw_m1 81 rfl
theorem q101 : (Jvm.Cond.instanceMethod ({ cls := "RowLegaliser", name := "addPoint", desc := "(I)V" } : Jvm.MethodName)) ∈ lw_all := lw_g (lw_at lw_m1 82 rfl) rfl
theorem q102 : (Jvm.Cond.code ({ cls := "RowLegaliser", name := "addPoint", desc := "(I)V" } : Jvm.MethodName) prog_1_method_9_code (3 : Nat) (Option.none : Option Jvm.ClassFile.FieldType)) ∈ lw_all := lw_g (lw_at lw_m1 83 rfl) rfl
theorem q104 : (Jvm.Cond.instanceMethod ({ cls := "RowLegaliser", name := "costOf", desc := "(I)I" } : Jvm.MethodName)) ∈ lw_all := lw_g (lw_at lw_m1 85 rfl) rfl
theorem q105 : (Jvm.Cond.selects "RowLegaliser" ({ cls := "RowLegaliser", name := "costOf", desc := "(I)I" } : Jvm.MethodName) ({ cls := "RowLegaliser", name := "costOf", desc := "(I)I" } : Jvm.MethodName)) ∈ lw_all := lw_g (lw_at lw_m1 86 rfl) rfl
theorem q106 : (Jvm.Cond.code ({ cls := "RowLegaliser", name := "costOf", desc := "(I)I" } : Jvm.MethodName) prog_1_method_16_code (2 : Nat) (Option.some Jvm.ClassFile.FieldType.int)) ∈ lw_all := lw_g (lw_at lw_m1 87 rfl) rfl
theorem q108 : (Jvm.Cond.instanceMethod ({ cls := "RowLegaliser", name := "leftmost", desc := "(I)I" } : Jvm.MethodName)) ∈ lw_all := lw_g (lw_at lw_m1 89 rfl) rfl
theorem q109 : (Jvm.Cond.selects "RowLegaliser" ({ cls := "RowLegaliser", name := "leftmost", desc := "(I)I" } : Jvm.MethodName) ({ cls := "RowLegaliser", name := "leftmost", desc := "(I)I" } : Jvm.MethodName)) ∈ lw_all := lw_g (lw_at lw_m1 90 rfl) rfl
theorem q110 : (Jvm.Cond.code ({ cls := "RowLegaliser", name := "leftmost", desc := "(I)I" } : Jvm.MethodName) prog_1_method_18_code (3 : Nat) (Option.some Jvm.ClassFile.FieldType.int)) ∈ lw_all := lw_g (lw_at lw_m1 91 rfl) rfl
theorem q111 : (Jvm.Cond.methodLink "RowLegaliser" (65 : Nat) ({ cls := "RowLegaliser", name := "cost", desc := "()I" } : Jvm.MethodName)) ∈ lw_all := lw_g (lw_at lw_m1 92 rfl) rfl
theorem q112 : (Jvm.Cond.methodLink "RowLegaliser" (69 : Nat) ({ cls := "RowLegaliser", name := "findPlaces", desc := "()V" } : Jvm.MethodName)) ∈ lw_all := lw_g (lw_at lw_m1 93 rfl) rfl
theorem q113 : (Jvm.Cond.privateMethod ({ cls := "RowLegaliser", name := "findPlaces", desc := "()V" } : Jvm.MethodName)) ∈ lw_tbl := lw_at lw_m1 94 rfl
theorem q114 : (Jvm.Cond.instanceMethod ({ cls := "RowLegaliser", name := "findPlaces", desc := "()V" } : Jvm.MethodName)) ∈ lw_all := lw_g (lw_at lw_m1 95 rfl) rfl
theorem q115 : (Jvm.Cond.code ({ cls := "RowLegaliser", name := "findPlaces", desc := "()V" } : Jvm.MethodName) prog_1_method_17_code (5 : Nat) (Option.none : Option Jvm.ClassFile.FieldType)) ∈ lw_all := lw_g (lw_at lw_m1 96 rfl) rfl
theorem q116 : (Jvm.Cond.methodLink "RowLegaliser" (58 : Nat) ({ cls := "RowLegaliser", name := "bestUpTo", desc := "(II)I" } : Jvm.MethodName)) ∈ lw_all := lw_g (lw_at lw_m1 97 rfl) rfl
theorem q117 : (Jvm.Cond.privateMethod ({ cls := "RowLegaliser", name := "bestUpTo", desc := "(II)I" } : Jvm.MethodName)) ∈ lw_tbl := lw_at lw_m1 98 rfl
theorem q118 : (Jvm.Cond.instanceMethod ({ cls := "RowLegaliser", name := "bestUpTo", desc := "(II)I" } : Jvm.MethodName)) ∈ lw_all := lw_g (lw_at lw_m1 99 rfl) rfl
theorem q119 : (Jvm.Cond.code ({ cls := "RowLegaliser", name := "bestUpTo", desc := "(II)I" } : Jvm.MethodName) prog_1_method_14_code (3 : Nat) (Option.some Jvm.ClassFile.FieldType.int)) ∈ lw_all := lw_g (lw_at lw_m1 100 rfl) rfl
theorem q120 : (Jvm.Cond.methodLink "RowLegaliser" (61 : Nat) ({ cls := "RowLegaliser", name := "upTo", desc := "(III)I" } : Jvm.MethodName)) ∈ lw_all := lw_g (lw_at lw_m1 101 rfl) rfl
theorem q121 : (Jvm.Cond.privateMethod ({ cls := "RowLegaliser", name := "upTo", desc := "(III)I" } : Jvm.MethodName)) ∈ lw_tbl := lw_at lw_m1 102 rfl
theorem q122 : (Jvm.Cond.instanceMethod ({ cls := "RowLegaliser", name := "upTo", desc := "(III)I" } : Jvm.MethodName)) ∈ lw_all := lw_g (lw_at lw_m1 103 rfl) rfl
theorem q123 : (Jvm.Cond.code ({ cls := "RowLegaliser", name := "upTo", desc := "(III)I" } : Jvm.MethodName) prog_1_method_13_code (5 : Nat) (Option.some Jvm.ClassFile.FieldType.int)) ∈ lw_all := lw_g (lw_at lw_m1 104 rfl) rfl
theorem q125 : (Jvm.Cond.instanceMethod ({ cls := "RowLegaliser", name := "costAt", desc := "(II)I" } : Jvm.MethodName)) ∈ lw_all := lw_g (lw_at lw_m1 106 rfl) rfl
theorem q126 : (Jvm.Cond.selects "RowLegaliser" ({ cls := "RowLegaliser", name := "costAt", desc := "(II)I" } : Jvm.MethodName) ({ cls := "RowLegaliser", name := "costAt", desc := "(II)I" } : Jvm.MethodName)) ∈ lw_all := lw_g (lw_at lw_m1 107 rfl) rfl
theorem q127 : (Jvm.Cond.code ({ cls := "RowLegaliser", name := "costAt", desc := "(II)I" } : Jvm.MethodName) prog_1_method_19_code (5 : Nat) (Option.some Jvm.ClassFile.FieldType.int)) ∈ lw_all := lw_g (lw_at lw_m1 108 rfl) rfl
theorem q129 : (Jvm.Cond.instanceMethod ({ cls := "RowLegaliser", name := "room", desc := "()I" } : Jvm.MethodName)) ∈ lw_all := lw_g (lw_at lw_m1 110 rfl) rfl
theorem q130 : (Jvm.Cond.selects "RowLegaliser" ({ cls := "RowLegaliser", name := "room", desc := "()I" } : Jvm.MethodName) ({ cls := "RowLegaliser", name := "room", desc := "()I" } : Jvm.MethodName)) ∈ lw_all := lw_g (lw_at lw_m1 111 rfl) rfl
theorem q131 : (Jvm.Cond.code ({ cls := "RowLegaliser", name := "room", desc := "()I" } : Jvm.MethodName) prog_1_method_20_code (1 : Nat) (Option.some Jvm.ClassFile.FieldType.int)) ∈ lw_all := lw_g (lw_at lw_m1 112 rfl) rfl
theorem q133 : (Jvm.Cond.instanceMethod ({ cls := "RowLegaliser", name := "content", desc := "()I" } : Jvm.MethodName)) ∈ lw_all := lw_g (lw_at lw_m1 114 rfl) rfl
theorem q134 : (Jvm.Cond.selects "RowLegaliser" ({ cls := "RowLegaliser", name := "content", desc := "()I" } : Jvm.MethodName) ({ cls := "RowLegaliser", name := "content", desc := "()I" } : Jvm.MethodName)) ∈ lw_all := lw_g (lw_at lw_m1 115 rfl) rfl
theorem q135 : (Jvm.Cond.code ({ cls := "RowLegaliser", name := "content", desc := "()I" } : Jvm.MethodName) prog_1_method_22_code (6 : Nat) (Option.some Jvm.ClassFile.FieldType.int)) ∈ lw_all := lw_g (lw_at lw_m1 116 rfl) rfl
theorem q136 : (Jvm.Cond.methodLink "RowLegaliser" (72 : Nat) ({ cls := "RowLegaliser", name := "fitsAtWish", desc := "(I)Z" } : Jvm.MethodName)) ∈ lw_all := lw_g (lw_at lw_m1 117 rfl) rfl
theorem q137 : (Jvm.Cond.privateMethod ({ cls := "RowLegaliser", name := "fitsAtWish", desc := "(I)Z" } : Jvm.MethodName)) ∈ lw_tbl := lw_at lw_m1 118 rfl
theorem q138 : (Jvm.Cond.instanceMethod ({ cls := "RowLegaliser", name := "fitsAtWish", desc := "(I)Z" } : Jvm.MethodName)) ∈ lw_all := lw_g (lw_at lw_m1 119 rfl) rfl
theorem q139 : (Jvm.Cond.code ({ cls := "RowLegaliser", name := "fitsAtWish", desc := "(I)Z" } : Jvm.MethodName) prog_1_method_21_code (2 : Nat) (Option.some Jvm.ClassFile.FieldType.boolean)) ∈ lw_all := lw_g (lw_at lw_m1 120 rfl) rfl
theorem in_X1 : ∀ w ∈ wsX10, w ∈ lw_all := lw_in wsX10 [38, 40, 42, 44, 46, 48, 50, 52] (by decide +kernel) (by decide +kernel)
end
section
/-! RowLegaliserModel -/
set_option maxRecDepth 100000
def RX2 : String := "RowLegaliserModel"
def TX2 : u_T := fun k => match k with
  | 0 => ("RowLegaliserModel", "length", "I", true)
  | 1 => ("RowLegaliserModel", "count", "I", false)
  | 2 => ("RowLegaliserModel", "widths", "[I", true)
  | 3 => ("RowLegaliserModel", "wishes", "[I", true)
  | 4 => ("RowLegaliserModel", "weights", "[I", true)
  | 5 => ("RowLegaliserModel", "up", "[I", true)
  | 6 => ("RowLegaliserModel", "down", "[I", true)
  | _ => ("RowLegaliserModel", "chosen", "[I", true)
def tyX2 : Nat → FieldType := fun k => match k with
  | 0 => .int
  | 1 => .int
  | 2 => .array .int
  | 3 => .array .int
  | 4 => .array .int
  | 5 => .array .int
  | 6 => .array .int
  | _ => .array .int
abbrev wsX20 : List Cond := u_ws RX2 TX2 8
theorem nmX2 : ∀ a, a < 8 → ∀ b, b < 8 → a ≠ b → (TX2 a).2.1 ≠ (TX2 b).2.1 := by decide +kernel
theorem tyX2_ok : ∀ k, k < 8 → parseFieldDescriptor (TX2 k).2.2.1 = some (tyX2 k) := by decide +kernel
abbrev cX2_init : ByteArray := prog_3_method_1_code
def yX2_init : MethodName := ⟨RX2, "<init>", "(I)V"⟩
theorem dX2_init_0 : decode cX2_init 0 = .ok (.aload_n 0, 1) := by decide +kernel
theorem dX2_init_1 : decode cX2_init 1 = .ok (.invokespecial 1, 3) := by decide +kernel
theorem dX2_init_4 : decode cX2_init 4 = .ok (.aload_n 0, 1) := by decide +kernel
theorem dX2_init_5 : decode cX2_init 5 = .ok (.bipush 10, 2) := by decide +kernel
theorem dX2_init_7 : decode cX2_init 7 = .ok (.newarray .int, 2) := by decide +kernel
theorem dX2_init_9 : decode cX2_init 9 = .ok (.putfield 7, 3) := by decide +kernel
theorem dX2_init_12 : decode cX2_init 12 = .ok (.aload_n 0, 1) := by decide +kernel
theorem dX2_init_13 : decode cX2_init 13 = .ok (.bipush 10, 2) := by decide +kernel
theorem dX2_init_15 : decode cX2_init 15 = .ok (.newarray .int, 2) := by decide +kernel
theorem dX2_init_17 : decode cX2_init 17 = .ok (.putfield 13, 3) := by decide +kernel
theorem dX2_init_20 : decode cX2_init 20 = .ok (.aload_n 0, 1) := by decide +kernel
theorem dX2_init_21 : decode cX2_init 21 = .ok (.bipush 10, 2) := by decide +kernel
theorem dX2_init_23 : decode cX2_init 23 = .ok (.newarray .int, 2) := by decide +kernel
theorem dX2_init_25 : decode cX2_init 25 = .ok (.putfield 16, 3) := by decide +kernel
theorem dX2_init_28 : decode cX2_init 28 = .ok (.aload_n 0, 1) := by decide +kernel
theorem dX2_init_29 : decode cX2_init 29 = .ok (.sipush 610, 3) := by decide +kernel
theorem dX2_init_32 : decode cX2_init 32 = .ok (.newarray .int, 2) := by decide +kernel
theorem dX2_init_34 : decode cX2_init 34 = .ok (.putfield 19, 3) := by decide +kernel
theorem dX2_init_37 : decode cX2_init 37 = .ok (.aload_n 0, 1) := by decide +kernel
theorem dX2_init_38 : decode cX2_init 38 = .ok (.sipush 610, 3) := by decide +kernel
theorem dX2_init_41 : decode cX2_init 41 = .ok (.newarray .int, 2) := by decide +kernel
theorem dX2_init_43 : decode cX2_init 43 = .ok (.putfield 22, 3) := by decide +kernel
theorem dX2_init_46 : decode cX2_init 46 = .ok (.aload_n 0, 1) := by decide +kernel
theorem dX2_init_47 : decode cX2_init 47 = .ok (.bipush 10, 2) := by decide +kernel
theorem dX2_init_49 : decode cX2_init 49 = .ok (.newarray .int, 2) := by decide +kernel
theorem dX2_init_51 : decode cX2_init 51 = .ok (.putfield 25, 3) := by decide +kernel
theorem dX2_init_54 : decode cX2_init 54 = .ok (.iload_n 1, 1) := by decide +kernel
theorem dX2_init_55 : decode cX2_init 55 = .ok (.istore_n 2, 1) := by decide +kernel
theorem dX2_init_56 : decode cX2_init 56 = .ok (.iload_n 2, 1) := by decide +kernel
theorem dX2_init_57 : decode cX2_init 57 = .ok (.bipush 10, 2) := by decide +kernel
theorem dX2_init_59 : decode cX2_init 59 = .ok (.if_icmp .ge 6, 3) := by decide +kernel
theorem dX2_init_62 : decode cX2_init 62 = .ok (.bipush 10, 2) := by decide +kernel
theorem dX2_init_64 : decode cX2_init 64 = .ok (.istore_n 2, 1) := by decide +kernel
theorem dX2_init_65 : decode cX2_init 65 = .ok (.iload_n 2, 1) := by decide +kernel
theorem dX2_init_66 : decode cX2_init 66 = .ok (.bipush 60, 2) := by decide +kernel
theorem dX2_init_68 : decode cX2_init 68 = .ok (.if_icmp .le 6, 3) := by decide +kernel
theorem dX2_init_71 : decode cX2_init 71 = .ok (.bipush 60, 2) := by decide +kernel
theorem dX2_init_73 : decode cX2_init 73 = .ok (.istore_n 2, 1) := by decide +kernel
theorem dX2_init_74 : decode cX2_init 74 = .ok (.aload_n 0, 1) := by decide +kernel
theorem dX2_init_75 : decode cX2_init 75 = .ok (.iload_n 2, 1) := by decide +kernel
theorem dX2_init_76 : decode cX2_init 76 = .ok (.putfield 28, 3) := by decide +kernel
theorem dX2_init_79 : decode cX2_init 79 = .ok (.return_, 1) := by decide +kernel
abbrev cX2_append : ByteArray := prog_3_method_5_code
def yX2_append : MethodName := ⟨RX2, "append", "(III)I"⟩
theorem dX2_append_0 : decode cX2_append 0 = .ok (.iload_n 1, 1) := by decide +kernel
theorem dX2_append_1 : decode cX2_append 1 = .ok (.iconst 1, 1) := by decide +kernel
theorem dX2_append_2 : decode cX2_append 2 = .ok (.if_icmp .lt 8, 3) := by decide +kernel
theorem dX2_append_5 : decode cX2_append 5 = .ok (.iload_n 1, 1) := by decide +kernel
theorem dX2_append_6 : decode cX2_append 6 = .ok (.iconst 5, 1) := by decide +kernel
theorem dX2_append_7 : decode cX2_append 7 = .ok (.if_icmp .le 5, 3) := by decide +kernel
theorem dX2_append_10 : decode cX2_append 10 = .ok (.iconst (-1), 1) := by decide +kernel
theorem dX2_append_11 : decode cX2_append 11 = .ok (.ireturn, 1) := by decide +kernel
theorem dX2_append_12 : decode cX2_append 12 = .ok (.aload_n 0, 1) := by decide +kernel
theorem dX2_append_13 : decode cX2_append 13 = .ok (.iload_n 2, 1) := by decide +kernel
theorem dX2_append_14 : decode cX2_append 14 = .ok (.invokevirtual 35, 3) := by decide +kernel
theorem dX2_append_17 : decode cX2_append 17 = .ok (.ifCond .eq 6, 3) := by decide +kernel
theorem dX2_append_20 : decode cX2_append 20 = .ok (.bipush (-2), 2) := by decide +kernel
theorem dX2_append_22 : decode cX2_append 22 = .ok (.ireturn, 1) := by decide +kernel
theorem dX2_append_23 : decode cX2_append 23 = .ok (.aload_n 0, 1) := by decide +kernel
theorem dX2_append_24 : decode cX2_append 24 = .ok (.iload_n 3, 1) := by decide +kernel
theorem dX2_append_25 : decode cX2_append 25 = .ok (.invokevirtual 39, 3) := by decide +kernel
theorem dX2_append_28 : decode cX2_append 28 = .ok (.ifCond .eq 6, 3) := by decide +kernel
theorem dX2_append_31 : decode cX2_append 31 = .ok (.bipush (-3), 2) := by decide +kernel
theorem dX2_append_33 : decode cX2_append 33 = .ok (.ireturn, 1) := by decide +kernel
theorem dX2_append_34 : decode cX2_append 34 = .ok (.aload_n 0, 1) := by decide +kernel
theorem dX2_append_35 : decode cX2_append 35 = .ok (.getfield 32, 3) := by decide +kernel
theorem dX2_append_38 : decode cX2_append 38 = .ok (.bipush 10, 2) := by decide +kernel
theorem dX2_append_40 : decode cX2_append 40 = .ok (.if_icmp .ne 6, 3) := by decide +kernel
theorem dX2_append_43 : decode cX2_append 43 = .ok (.bipush (-5), 2) := by decide +kernel
theorem dX2_append_45 : decode cX2_append 45 = .ok (.ireturn, 1) := by decide +kernel
theorem dX2_append_46 : decode cX2_append 46 = .ok (.aload_n 0, 1) := by decide +kernel
theorem dX2_append_47 : decode cX2_append 47 = .ok (.getfield 7, 3) := by decide +kernel
theorem dX2_append_50 : decode cX2_append 50 = .ok (.aload_n 0, 1) := by decide +kernel
theorem dX2_append_51 : decode cX2_append 51 = .ok (.getfield 32, 3) := by decide +kernel
theorem dX2_append_54 : decode cX2_append 54 = .ok (.iload_n 1, 1) := by decide +kernel
theorem dX2_append_55 : decode cX2_append 55 = .ok (.iastore, 1) := by decide +kernel
theorem dX2_append_56 : decode cX2_append 56 = .ok (.aload_n 0, 1) := by decide +kernel
theorem dX2_append_57 : decode cX2_append 57 = .ok (.getfield 13, 3) := by decide +kernel
theorem dX2_append_60 : decode cX2_append 60 = .ok (.aload_n 0, 1) := by decide +kernel
theorem dX2_append_61 : decode cX2_append 61 = .ok (.getfield 32, 3) := by decide +kernel
theorem dX2_append_64 : decode cX2_append 64 = .ok (.iload_n 2, 1) := by decide +kernel
theorem dX2_append_65 : decode cX2_append 65 = .ok (.iastore, 1) := by decide +kernel
theorem dX2_append_66 : decode cX2_append 66 = .ok (.aload_n 0, 1) := by decide +kernel
theorem dX2_append_67 : decode cX2_append 67 = .ok (.getfield 16, 3) := by decide +kernel
theorem dX2_append_70 : decode cX2_append 70 = .ok (.aload_n 0, 1) := by decide +kernel
theorem dX2_append_71 : decode cX2_append 71 = .ok (.getfield 32, 3) := by decide +kernel
theorem dX2_append_74 : decode cX2_append 74 = .ok (.iload_n 3, 1) := by decide +kernel
theorem dX2_append_75 : decode cX2_append 75 = .ok (.iastore, 1) := by decide +kernel
theorem dX2_append_76 : decode cX2_append 76 = .ok (.aload_n 0, 1) := by decide +kernel
theorem dX2_append_77 : decode cX2_append 77 = .ok (.aload_n 0, 1) := by decide +kernel
theorem dX2_append_78 : decode cX2_append 78 = .ok (.getfield 32, 3) := by decide +kernel
theorem dX2_append_81 : decode cX2_append 81 = .ok (.iconst 1, 1) := by decide +kernel
theorem dX2_append_82 : decode cX2_append 82 = .ok (.iadd, 1) := by decide +kernel
theorem dX2_append_83 : decode cX2_append 83 = .ok (.putfield 32, 3) := by decide +kernel
theorem dX2_append_86 : decode cX2_append 86 = .ok (.aload_n 0, 1) := by decide +kernel
theorem dX2_append_87 : decode cX2_append 87 = .ok (.getfield 32, 3) := by decide +kernel
theorem dX2_append_90 : decode cX2_append 90 = .ok (.iconst 1, 1) := by decide +kernel
theorem dX2_append_91 : decode cX2_append 91 = .ok (.isub, 1) := by decide +kernel
theorem dX2_append_92 : decode cX2_append 92 = .ok (.ireturn, 1) := by decide +kernel
abbrev cX2_badWish : ByteArray := prog_3_method_2_code
def yX2_badWish : MethodName := ⟨RX2, "badWish", "(I)Z"⟩
theorem dX2_badWish_0 : decode cX2_badWish 0 = .ok (.iload_n 1, 1) := by decide +kernel
theorem dX2_badWish_1 : decode cX2_badWish 1 = .ok (.ifCond .lt 9, 3) := by decide +kernel
theorem dX2_badWish_4 : decode cX2_badWish 4 = .ok (.iload_n 1, 1) := by decide +kernel
theorem dX2_badWish_5 : decode cX2_badWish 5 = .ok (.bipush 60, 2) := by decide +kernel
theorem dX2_badWish_7 : decode cX2_badWish 7 = .ok (.if_icmp .le 7, 3) := by decide +kernel
theorem dX2_badWish_10 : decode cX2_badWish 10 = .ok (.iconst 1, 1) := by decide +kernel
theorem dX2_badWish_11 : decode cX2_badWish 11 = .ok (.goto 4, 3) := by decide +kernel
theorem dX2_badWish_14 : decode cX2_badWish 14 = .ok (.iconst 0, 1) := by decide +kernel
theorem dX2_badWish_15 : decode cX2_badWish 15 = .ok (.ireturn, 1) := by decide +kernel
abbrev cX2_badWeight : ByteArray := prog_3_method_3_code
def yX2_badWeight : MethodName := ⟨RX2, "badWeight", "(I)Z"⟩
theorem dX2_badWeight_0 : decode cX2_badWeight 0 = .ok (.iload_n 1, 1) := by decide +kernel
theorem dX2_badWeight_1 : decode cX2_badWeight 1 = .ok (.iconst 1, 1) := by decide +kernel
theorem dX2_badWeight_2 : decode cX2_badWeight 2 = .ok (.if_icmp .lt 8, 3) := by decide +kernel
theorem dX2_badWeight_5 : decode cX2_badWeight 5 = .ok (.iload_n 1, 1) := by decide +kernel
theorem dX2_badWeight_6 : decode cX2_badWeight 6 = .ok (.iconst 5, 1) := by decide +kernel
theorem dX2_badWeight_7 : decode cX2_badWeight 7 = .ok (.if_icmp .le 7, 3) := by decide +kernel
theorem dX2_badWeight_10 : decode cX2_badWeight 10 = .ok (.iconst 1, 1) := by decide +kernel
theorem dX2_badWeight_11 : decode cX2_badWeight 11 = .ok (.goto 4, 3) := by decide +kernel
theorem dX2_badWeight_14 : decode cX2_badWeight 14 = .ok (.iconst 0, 1) := by decide +kernel
theorem dX2_badWeight_15 : decode cX2_badWeight 15 = .ok (.ireturn, 1) := by decide +kernel
abbrev cX2_move : ByteArray := prog_3_method_6_code
def yX2_move : MethodName := ⟨RX2, "move", "(II)I"⟩
theorem dX2_move_0 : decode cX2_move 0 = .ok (.aload_n 0, 1) := by decide +kernel
theorem dX2_move_1 : decode cX2_move 1 = .ok (.iload_n 1, 1) := by decide +kernel
theorem dX2_move_2 : decode cX2_move 2 = .ok (.invokevirtual 42, 3) := by decide +kernel
theorem dX2_move_5 : decode cX2_move 5 = .ok (.ifCond .eq 6, 3) := by decide +kernel
theorem dX2_move_8 : decode cX2_move 8 = .ok (.bipush (-4), 2) := by decide +kernel
theorem dX2_move_10 : decode cX2_move 10 = .ok (.ireturn, 1) := by decide +kernel
theorem dX2_move_11 : decode cX2_move 11 = .ok (.aload_n 0, 1) := by decide +kernel
theorem dX2_move_12 : decode cX2_move 12 = .ok (.iload_n 2, 1) := by decide +kernel
theorem dX2_move_13 : decode cX2_move 13 = .ok (.invokevirtual 35, 3) := by decide +kernel
theorem dX2_move_16 : decode cX2_move 16 = .ok (.ifCond .eq 6, 3) := by decide +kernel
theorem dX2_move_19 : decode cX2_move 19 = .ok (.bipush (-2), 2) := by decide +kernel
theorem dX2_move_21 : decode cX2_move 21 = .ok (.ireturn, 1) := by decide +kernel
theorem dX2_move_22 : decode cX2_move 22 = .ok (.aload_n 0, 1) := by decide +kernel
theorem dX2_move_23 : decode cX2_move 23 = .ok (.getfield 13, 3) := by decide +kernel
theorem dX2_move_26 : decode cX2_move 26 = .ok (.iload_n 1, 1) := by decide +kernel
theorem dX2_move_27 : decode cX2_move 27 = .ok (.iaload, 1) := by decide +kernel
theorem dX2_move_28 : decode cX2_move 28 = .ok (.istore_n 3, 1) := by decide +kernel
theorem dX2_move_29 : decode cX2_move 29 = .ok (.aload_n 0, 1) := by decide +kernel
theorem dX2_move_30 : decode cX2_move 30 = .ok (.getfield 13, 3) := by decide +kernel
theorem dX2_move_33 : decode cX2_move 33 = .ok (.iload_n 1, 1) := by decide +kernel
theorem dX2_move_34 : decode cX2_move 34 = .ok (.iload_n 2, 1) := by decide +kernel
theorem dX2_move_35 : decode cX2_move 35 = .ok (.iastore, 1) := by decide +kernel
theorem dX2_move_36 : decode cX2_move 36 = .ok (.iload_n 3, 1) := by decide +kernel
theorem dX2_move_37 : decode cX2_move 37 = .ok (.ireturn, 1) := by decide +kernel
abbrev cX2_badCell : ByteArray := prog_3_method_4_code
def yX2_badCell : MethodName := ⟨RX2, "badCell", "(I)Z"⟩
theorem dX2_badCell_0 : decode cX2_badCell 0 = .ok (.iload_n 1, 1) := by decide +kernel
theorem dX2_badCell_1 : decode cX2_badCell 1 = .ok (.ifCond .lt 11, 3) := by decide +kernel
theorem dX2_badCell_4 : decode cX2_badCell 4 = .ok (.iload_n 1, 1) := by decide +kernel
theorem dX2_badCell_5 : decode cX2_badCell 5 = .ok (.aload_n 0, 1) := by decide +kernel
theorem dX2_badCell_6 : decode cX2_badCell 6 = .ok (.getfield 32, 3) := by decide +kernel
theorem dX2_badCell_9 : decode cX2_badCell 9 = .ok (.if_icmp .lt 7, 3) := by decide +kernel
theorem dX2_badCell_12 : decode cX2_badCell 12 = .ok (.iconst 1, 1) := by decide +kernel
theorem dX2_badCell_13 : decode cX2_badCell 13 = .ok (.goto 4, 3) := by decide +kernel
theorem dX2_badCell_16 : decode cX2_badCell 16 = .ok (.iconst 0, 1) := by decide +kernel
theorem dX2_badCell_17 : decode cX2_badCell 17 = .ok (.ireturn, 1) := by decide +kernel
abbrev cX2_reweigh : ByteArray := prog_3_method_7_code
def yX2_reweigh : MethodName := ⟨RX2, "reweigh", "(II)I"⟩
theorem dX2_reweigh_0 : decode cX2_reweigh 0 = .ok (.aload_n 0, 1) := by decide +kernel
theorem dX2_reweigh_1 : decode cX2_reweigh 1 = .ok (.iload_n 1, 1) := by decide +kernel
theorem dX2_reweigh_2 : decode cX2_reweigh 2 = .ok (.invokevirtual 42, 3) := by decide +kernel
theorem dX2_reweigh_5 : decode cX2_reweigh 5 = .ok (.ifCond .eq 6, 3) := by decide +kernel
theorem dX2_reweigh_8 : decode cX2_reweigh 8 = .ok (.bipush (-4), 2) := by decide +kernel
theorem dX2_reweigh_10 : decode cX2_reweigh 10 = .ok (.ireturn, 1) := by decide +kernel
theorem dX2_reweigh_11 : decode cX2_reweigh 11 = .ok (.aload_n 0, 1) := by decide +kernel
theorem dX2_reweigh_12 : decode cX2_reweigh 12 = .ok (.iload_n 2, 1) := by decide +kernel
theorem dX2_reweigh_13 : decode cX2_reweigh 13 = .ok (.invokevirtual 39, 3) := by decide +kernel
theorem dX2_reweigh_16 : decode cX2_reweigh 16 = .ok (.ifCond .eq 6, 3) := by decide +kernel
theorem dX2_reweigh_19 : decode cX2_reweigh 19 = .ok (.bipush (-3), 2) := by decide +kernel
theorem dX2_reweigh_21 : decode cX2_reweigh 21 = .ok (.ireturn, 1) := by decide +kernel
theorem dX2_reweigh_22 : decode cX2_reweigh 22 = .ok (.aload_n 0, 1) := by decide +kernel
theorem dX2_reweigh_23 : decode cX2_reweigh 23 = .ok (.getfield 16, 3) := by decide +kernel
theorem dX2_reweigh_26 : decode cX2_reweigh 26 = .ok (.iload_n 1, 1) := by decide +kernel
theorem dX2_reweigh_27 : decode cX2_reweigh 27 = .ok (.iaload, 1) := by decide +kernel
theorem dX2_reweigh_28 : decode cX2_reweigh 28 = .ok (.istore_n 3, 1) := by decide +kernel
theorem dX2_reweigh_29 : decode cX2_reweigh 29 = .ok (.aload_n 0, 1) := by decide +kernel
theorem dX2_reweigh_30 : decode cX2_reweigh 30 = .ok (.getfield 16, 3) := by decide +kernel
theorem dX2_reweigh_33 : decode cX2_reweigh 33 = .ok (.iload_n 1, 1) := by decide +kernel
theorem dX2_reweigh_34 : decode cX2_reweigh 34 = .ok (.iload_n 2, 1) := by decide +kernel
theorem dX2_reweigh_35 : decode cX2_reweigh 35 = .ok (.iastore, 1) := by decide +kernel
theorem dX2_reweigh_36 : decode cX2_reweigh 36 = .ok (.iload_n 3, 1) := by decide +kernel
theorem dX2_reweigh_37 : decode cX2_reweigh 37 = .ok (.ireturn, 1) := by decide +kernel
abbrev cX2_exchange : ByteArray := prog_3_method_8_code
def yX2_exchange : MethodName := ⟨RX2, "exchange", "(I)I"⟩
theorem dX2_exchange_0 : decode cX2_exchange 0 = .ok (.iload_n 1, 1) := by decide +kernel
theorem dX2_exchange_1 : decode cX2_exchange 1 = .ok (.ifCond .lt 13, 3) := by decide +kernel
theorem dX2_exchange_4 : decode cX2_exchange 4 = .ok (.iload_n 1, 1) := by decide +kernel
theorem dX2_exchange_5 : decode cX2_exchange 5 = .ok (.aload_n 0, 1) := by decide +kernel
theorem dX2_exchange_6 : decode cX2_exchange 6 = .ok (.getfield 32, 3) := by decide +kernel
theorem dX2_exchange_9 : decode cX2_exchange 9 = .ok (.iconst 1, 1) := by decide +kernel
theorem dX2_exchange_10 : decode cX2_exchange 10 = .ok (.isub, 1) := by decide +kernel
theorem dX2_exchange_11 : decode cX2_exchange 11 = .ok (.if_icmp .lt 6, 3) := by decide +kernel
theorem dX2_exchange_14 : decode cX2_exchange 14 = .ok (.bipush (-4), 2) := by decide +kernel
theorem dX2_exchange_16 : decode cX2_exchange 16 = .ok (.ireturn, 1) := by decide +kernel
theorem dX2_exchange_17 : decode cX2_exchange 17 = .ok (.aload_n 0, 1) := by decide +kernel
theorem dX2_exchange_18 : decode cX2_exchange 18 = .ok (.getfield 7, 3) := by decide +kernel
theorem dX2_exchange_21 : decode cX2_exchange 21 = .ok (.iload_n 1, 1) := by decide +kernel
theorem dX2_exchange_22 : decode cX2_exchange 22 = .ok (.iaload, 1) := by decide +kernel
theorem dX2_exchange_23 : decode cX2_exchange 23 = .ok (.istore_n 2, 1) := by decide +kernel
theorem dX2_exchange_24 : decode cX2_exchange 24 = .ok (.aload_n 0, 1) := by decide +kernel
theorem dX2_exchange_25 : decode cX2_exchange 25 = .ok (.getfield 13, 3) := by decide +kernel
theorem dX2_exchange_28 : decode cX2_exchange 28 = .ok (.iload_n 1, 1) := by decide +kernel
theorem dX2_exchange_29 : decode cX2_exchange 29 = .ok (.iaload, 1) := by decide +kernel
theorem dX2_exchange_30 : decode cX2_exchange 30 = .ok (.istore_n 3, 1) := by decide +kernel
theorem dX2_exchange_31 : decode cX2_exchange 31 = .ok (.aload_n 0, 1) := by decide +kernel
theorem dX2_exchange_32 : decode cX2_exchange 32 = .ok (.getfield 16, 3) := by decide +kernel
theorem dX2_exchange_35 : decode cX2_exchange 35 = .ok (.iload_n 1, 1) := by decide +kernel
theorem dX2_exchange_36 : decode cX2_exchange 36 = .ok (.iaload, 1) := by decide +kernel
theorem dX2_exchange_37 : decode cX2_exchange 37 = .ok (.istore 4, 2) := by decide +kernel
theorem dX2_exchange_39 : decode cX2_exchange 39 = .ok (.aload_n 0, 1) := by decide +kernel
theorem dX2_exchange_40 : decode cX2_exchange 40 = .ok (.getfield 7, 3) := by decide +kernel
theorem dX2_exchange_43 : decode cX2_exchange 43 = .ok (.iload_n 1, 1) := by decide +kernel
theorem dX2_exchange_44 : decode cX2_exchange 44 = .ok (.aload_n 0, 1) := by decide +kernel
theorem dX2_exchange_45 : decode cX2_exchange 45 = .ok (.getfield 7, 3) := by decide +kernel
theorem dX2_exchange_48 : decode cX2_exchange 48 = .ok (.iload_n 1, 1) := by decide +kernel
theorem dX2_exchange_49 : decode cX2_exchange 49 = .ok (.iconst 1, 1) := by decide +kernel
theorem dX2_exchange_50 : decode cX2_exchange 50 = .ok (.iadd, 1) := by decide +kernel
theorem dX2_exchange_51 : decode cX2_exchange 51 = .ok (.iaload, 1) := by decide +kernel
theorem dX2_exchange_52 : decode cX2_exchange 52 = .ok (.iastore, 1) := by decide +kernel
theorem dX2_exchange_53 : decode cX2_exchange 53 = .ok (.aload_n 0, 1) := by decide +kernel
theorem dX2_exchange_54 : decode cX2_exchange 54 = .ok (.getfield 13, 3) := by decide +kernel
theorem dX2_exchange_57 : decode cX2_exchange 57 = .ok (.iload_n 1, 1) := by decide +kernel
theorem dX2_exchange_58 : decode cX2_exchange 58 = .ok (.aload_n 0, 1) := by decide +kernel
theorem dX2_exchange_59 : decode cX2_exchange 59 = .ok (.getfield 13, 3) := by decide +kernel
theorem dX2_exchange_62 : decode cX2_exchange 62 = .ok (.iload_n 1, 1) := by decide +kernel
theorem dX2_exchange_63 : decode cX2_exchange 63 = .ok (.iconst 1, 1) := by decide +kernel
theorem dX2_exchange_64 : decode cX2_exchange 64 = .ok (.iadd, 1) := by decide +kernel
theorem dX2_exchange_65 : decode cX2_exchange 65 = .ok (.iaload, 1) := by decide +kernel
theorem dX2_exchange_66 : decode cX2_exchange 66 = .ok (.iastore, 1) := by decide +kernel
theorem dX2_exchange_67 : decode cX2_exchange 67 = .ok (.aload_n 0, 1) := by decide +kernel
theorem dX2_exchange_68 : decode cX2_exchange 68 = .ok (.getfield 16, 3) := by decide +kernel
theorem dX2_exchange_71 : decode cX2_exchange 71 = .ok (.iload_n 1, 1) := by decide +kernel
theorem dX2_exchange_72 : decode cX2_exchange 72 = .ok (.aload_n 0, 1) := by decide +kernel
theorem dX2_exchange_73 : decode cX2_exchange 73 = .ok (.getfield 16, 3) := by decide +kernel
theorem dX2_exchange_76 : decode cX2_exchange 76 = .ok (.iload_n 1, 1) := by decide +kernel
theorem dX2_exchange_77 : decode cX2_exchange 77 = .ok (.iconst 1, 1) := by decide +kernel
theorem dX2_exchange_78 : decode cX2_exchange 78 = .ok (.iadd, 1) := by decide +kernel
theorem dX2_exchange_79 : decode cX2_exchange 79 = .ok (.iaload, 1) := by decide +kernel
theorem dX2_exchange_80 : decode cX2_exchange 80 = .ok (.iastore, 1) := by decide +kernel
theorem dX2_exchange_81 : decode cX2_exchange 81 = .ok (.aload_n 0, 1) := by decide +kernel
theorem dX2_exchange_82 : decode cX2_exchange 82 = .ok (.getfield 7, 3) := by decide +kernel
theorem dX2_exchange_85 : decode cX2_exchange 85 = .ok (.iload_n 1, 1) := by decide +kernel
theorem dX2_exchange_86 : decode cX2_exchange 86 = .ok (.iconst 1, 1) := by decide +kernel
theorem dX2_exchange_87 : decode cX2_exchange 87 = .ok (.iadd, 1) := by decide +kernel
theorem dX2_exchange_88 : decode cX2_exchange 88 = .ok (.iload_n 2, 1) := by decide +kernel
theorem dX2_exchange_89 : decode cX2_exchange 89 = .ok (.iastore, 1) := by decide +kernel
theorem dX2_exchange_90 : decode cX2_exchange 90 = .ok (.aload_n 0, 1) := by decide +kernel
theorem dX2_exchange_91 : decode cX2_exchange 91 = .ok (.getfield 13, 3) := by decide +kernel
theorem dX2_exchange_94 : decode cX2_exchange 94 = .ok (.iload_n 1, 1) := by decide +kernel
theorem dX2_exchange_95 : decode cX2_exchange 95 = .ok (.iconst 1, 1) := by decide +kernel
theorem dX2_exchange_96 : decode cX2_exchange 96 = .ok (.iadd, 1) := by decide +kernel
theorem dX2_exchange_97 : decode cX2_exchange 97 = .ok (.iload_n 3, 1) := by decide +kernel
theorem dX2_exchange_98 : decode cX2_exchange 98 = .ok (.iastore, 1) := by decide +kernel
theorem dX2_exchange_99 : decode cX2_exchange 99 = .ok (.aload_n 0, 1) := by decide +kernel
theorem dX2_exchange_100 : decode cX2_exchange 100 = .ok (.getfield 16, 3) := by decide +kernel
theorem dX2_exchange_103 : decode cX2_exchange 103 = .ok (.iload_n 1, 1) := by decide +kernel
theorem dX2_exchange_104 : decode cX2_exchange 104 = .ok (.iconst 1, 1) := by decide +kernel
theorem dX2_exchange_105 : decode cX2_exchange 105 = .ok (.iadd, 1) := by decide +kernel
theorem dX2_exchange_106 : decode cX2_exchange 106 = .ok (.iload 4, 2) := by decide +kernel
theorem dX2_exchange_108 : decode cX2_exchange 108 = .ok (.iastore, 1) := by decide +kernel
theorem dX2_exchange_109 : decode cX2_exchange 109 = .ok (.iconst 0, 1) := by decide +kernel
theorem dX2_exchange_110 : decode cX2_exchange 110 = .ok (.ireturn, 1) := by decide +kernel
abbrev cX2_drop : ByteArray := prog_3_method_9_code
def yX2_drop : MethodName := ⟨RX2, "drop", "()I"⟩
theorem dX2_drop_0 : decode cX2_drop 0 = .ok (.aload_n 0, 1) := by decide +kernel
theorem dX2_drop_1 : decode cX2_drop 1 = .ok (.getfield 32, 3) := by decide +kernel
theorem dX2_drop_4 : decode cX2_drop 4 = .ok (.ifCond .ne 6, 3) := by decide +kernel
theorem dX2_drop_7 : decode cX2_drop 7 = .ok (.bipush (-6), 2) := by decide +kernel
theorem dX2_drop_9 : decode cX2_drop 9 = .ok (.ireturn, 1) := by decide +kernel
theorem dX2_drop_10 : decode cX2_drop 10 = .ok (.aload_n 0, 1) := by decide +kernel
theorem dX2_drop_11 : decode cX2_drop 11 = .ok (.aload_n 0, 1) := by decide +kernel
theorem dX2_drop_12 : decode cX2_drop 12 = .ok (.getfield 32, 3) := by decide +kernel
theorem dX2_drop_15 : decode cX2_drop 15 = .ok (.iconst 1, 1) := by decide +kernel
theorem dX2_drop_16 : decode cX2_drop 16 = .ok (.isub, 1) := by decide +kernel
theorem dX2_drop_17 : decode cX2_drop 17 = .ok (.putfield 32, 3) := by decide +kernel
theorem dX2_drop_20 : decode cX2_drop 20 = .ok (.aload_n 0, 1) := by decide +kernel
theorem dX2_drop_21 : decode cX2_drop 21 = .ok (.getfield 32, 3) := by decide +kernel
theorem dX2_drop_24 : decode cX2_drop 24 = .ok (.ireturn, 1) := by decide +kernel
abbrev cX2_cost : ByteArray := prog_3_method_16_code
def yX2_cost : MethodName := ⟨RX2, "cost", "()I"⟩
theorem dX2_cost_0 : decode cX2_cost 0 = .ok (.aload_n 0, 1) := by decide +kernel
theorem dX2_cost_1 : decode cX2_cost 1 = .ok (.aload_n 0, 1) := by decide +kernel
theorem dX2_cost_2 : decode cX2_cost 2 = .ok (.getfield 32, 3) := by decide +kernel
theorem dX2_cost_5 : decode cX2_cost 5 = .ok (.invokevirtual 56, 3) := by decide +kernel
theorem dX2_cost_8 : decode cX2_cost 8 = .ok (.ireturn, 1) := by decide +kernel
abbrev cX2_costOf : ByteArray := prog_3_method_17_code
def yX2_costOf : MethodName := ⟨RX2, "costOf", "(I)I"⟩
theorem dX2_costOf_0 : decode cX2_costOf 0 = .ok (.iload_n 1, 1) := by decide +kernel
theorem dX2_costOf_1 : decode cX2_costOf 1 = .ok (.ifCond .lt 11, 3) := by decide +kernel
theorem dX2_costOf_4 : decode cX2_costOf 4 = .ok (.iload_n 1, 1) := by decide +kernel
theorem dX2_costOf_5 : decode cX2_costOf 5 = .ok (.aload_n 0, 1) := by decide +kernel
theorem dX2_costOf_6 : decode cX2_costOf 6 = .ok (.getfield 32, 3) := by decide +kernel
theorem dX2_costOf_9 : decode cX2_costOf 9 = .ok (.if_icmp .le 6, 3) := by decide +kernel
theorem dX2_costOf_12 : decode cX2_costOf 12 = .ok (.bipush (-4), 2) := by decide +kernel
theorem dX2_costOf_14 : decode cX2_costOf 14 = .ok (.ireturn, 1) := by decide +kernel
theorem dX2_costOf_15 : decode cX2_costOf 15 = .ok (.iload_n 1, 1) := by decide +kernel
theorem dX2_costOf_16 : decode cX2_costOf 16 = .ok (.ifCond .ne 5, 3) := by decide +kernel
theorem dX2_costOf_19 : decode cX2_costOf 19 = .ok (.iconst 0, 1) := by decide +kernel
theorem dX2_costOf_20 : decode cX2_costOf 20 = .ok (.ireturn, 1) := by decide +kernel
theorem dX2_costOf_21 : decode cX2_costOf 21 = .ok (.aload_n 0, 1) := by decide +kernel
theorem dX2_costOf_22 : decode cX2_costOf 22 = .ok (.iload_n 1, 1) := by decide +kernel
theorem dX2_costOf_23 : decode cX2_costOf 23 = .ok (.invokevirtual 60, 3) := by decide +kernel
theorem dX2_costOf_26 : decode cX2_costOf 26 = .ok (.aload_n 0, 1) := by decide +kernel
theorem dX2_costOf_27 : decode cX2_costOf 27 = .ok (.iload_n 1, 1) := by decide +kernel
theorem dX2_costOf_28 : decode cX2_costOf 28 = .ok (.iconst 1, 1) := by decide +kernel
theorem dX2_costOf_29 : decode cX2_costOf 29 = .ok (.isub, 1) := by decide +kernel
theorem dX2_costOf_30 : decode cX2_costOf 30 = .ok (.invokevirtual 64, 3) := by decide +kernel
theorem dX2_costOf_33 : decode cX2_costOf 33 = .ok (.istore_n 2, 1) := by decide +kernel
theorem dX2_costOf_34 : decode cX2_costOf 34 = .ok (.iload_n 2, 1) := by decide +kernel
theorem dX2_costOf_35 : decode cX2_costOf 35 = .ok (.ldc 45, 2) := by decide +kernel
theorem dX2_costOf_37 : decode cX2_costOf 37 = .ok (.if_icmp .ne 8, 3) := by decide +kernel
theorem dX2_costOf_40 : decode cX2_costOf 40 = .ok (.bipush (-6), 2) := by decide +kernel
theorem dX2_costOf_42 : decode cX2_costOf 42 = .ok (.goto 4, 3) := by decide +kernel
theorem dX2_costOf_45 : decode cX2_costOf 45 = .ok (.iload_n 2, 1) := by decide +kernel
theorem dX2_costOf_46 : decode cX2_costOf 46 = .ok (.ireturn, 1) := by decide +kernel
abbrev cX2_fillUp : ByteArray := prog_3_method_13_code
def yX2_fillUp : MethodName := ⟨RX2, "fillUp", "(I)V"⟩
theorem dX2_fillUp_0 : decode cX2_fillUp 0 = .ok (.iconst 0, 1) := by decide +kernel
theorem dX2_fillUp_1 : decode cX2_fillUp 1 = .ok (.istore_n 2, 1) := by decide +kernel
theorem dX2_fillUp_2 : decode cX2_fillUp 2 = .ok (.iload_n 2, 1) := by decide +kernel
theorem dX2_fillUp_3 : decode cX2_fillUp 3 = .ok (.iload_n 1, 1) := by decide +kernel
theorem dX2_fillUp_4 : decode cX2_fillUp 4 = .ok (.if_icmp .ge 110, 3) := by decide +kernel
theorem dX2_fillUp_7 : decode cX2_fillUp 7 = .ok (.iload_n 2, 1) := by decide +kernel
theorem dX2_fillUp_8 : decode cX2_fillUp 8 = .ok (.ifCond .ne 7, 3) := by decide +kernel
theorem dX2_fillUp_11 : decode cX2_fillUp 11 = .ok (.iconst 0, 1) := by decide +kernel
theorem dX2_fillUp_12 : decode cX2_fillUp 12 = .ok (.goto 5, 3) := by decide +kernel
theorem dX2_fillUp_15 : decode cX2_fillUp 15 = .ok (.ldc 45, 2) := by decide +kernel
theorem dX2_fillUp_17 : decode cX2_fillUp 17 = .ok (.istore_n 3, 1) := by decide +kernel
theorem dX2_fillUp_18 : decode cX2_fillUp 18 = .ok (.iconst 0, 1) := by decide +kernel
theorem dX2_fillUp_19 : decode cX2_fillUp 19 = .ok (.istore 4, 2) := by decide +kernel
theorem dX2_fillUp_21 : decode cX2_fillUp 21 = .ok (.iload 4, 2) := by decide +kernel
theorem dX2_fillUp_23 : decode cX2_fillUp 23 = .ok (.bipush 61, 2) := by decide +kernel
theorem dX2_fillUp_25 : decode cX2_fillUp 25 = .ok (.if_icmp .ge 83, 3) := by decide +kernel
theorem dX2_fillUp_28 : decode cX2_fillUp 28 = .ok (.iload_n 2, 1) := by decide +kernel
theorem dX2_fillUp_29 : decode cX2_fillUp 29 = .ok (.ifCond .ne 7, 3) := by decide +kernel
theorem dX2_fillUp_32 : decode cX2_fillUp 32 = .ok (.iconst (-1), 1) := by decide +kernel
theorem dX2_fillUp_33 : decode cX2_fillUp 33 = .ok (.goto 14, 3) := by decide +kernel
theorem dX2_fillUp_36 : decode cX2_fillUp 36 = .ok (.iload 4, 2) := by decide +kernel
theorem dX2_fillUp_38 : decode cX2_fillUp 38 = .ok (.aload_n 0, 1) := by decide +kernel
theorem dX2_fillUp_39 : decode cX2_fillUp 39 = .ok (.getfield 7, 3) := by decide +kernel
theorem dX2_fillUp_42 : decode cX2_fillUp 42 = .ok (.iload_n 2, 1) := by decide +kernel
theorem dX2_fillUp_43 : decode cX2_fillUp 43 = .ok (.iconst 1, 1) := by decide +kernel
theorem dX2_fillUp_44 : decode cX2_fillUp 44 = .ok (.isub, 1) := by decide +kernel
theorem dX2_fillUp_45 : decode cX2_fillUp 45 = .ok (.iaload, 1) := by decide +kernel
theorem dX2_fillUp_46 : decode cX2_fillUp 46 = .ok (.isub, 1) := by decide +kernel
theorem dX2_fillUp_47 : decode cX2_fillUp 47 = .ok (.istore 5, 2) := by decide +kernel
theorem dX2_fillUp_49 : decode cX2_fillUp 49 = .ok (.iload 5, 2) := by decide +kernel
theorem dX2_fillUp_51 : decode cX2_fillUp 51 = .ok (.ifCond .lt 23, 3) := by decide +kernel
theorem dX2_fillUp_54 : decode cX2_fillUp 54 = .ok (.aload_n 0, 1) := by decide +kernel
theorem dX2_fillUp_55 : decode cX2_fillUp 55 = .ok (.iload_n 3, 1) := by decide +kernel
theorem dX2_fillUp_56 : decode cX2_fillUp 56 = .ok (.aload_n 0, 1) := by decide +kernel
theorem dX2_fillUp_57 : decode cX2_fillUp 57 = .ok (.getfield 19, 3) := by decide +kernel
theorem dX2_fillUp_60 : decode cX2_fillUp 60 = .ok (.iload_n 2, 1) := by decide +kernel
theorem dX2_fillUp_61 : decode cX2_fillUp 61 = .ok (.iconst 1, 1) := by decide +kernel
theorem dX2_fillUp_62 : decode cX2_fillUp 62 = .ok (.isub, 1) := by decide +kernel
theorem dX2_fillUp_63 : decode cX2_fillUp 63 = .ok (.bipush 61, 2) := by decide +kernel
theorem dX2_fillUp_65 : decode cX2_fillUp 65 = .ok (.imul, 1) := by decide +kernel
theorem dX2_fillUp_66 : decode cX2_fillUp 66 = .ok (.iload 5, 2) := by decide +kernel
theorem dX2_fillUp_68 : decode cX2_fillUp 68 = .ok (.iadd, 1) := by decide +kernel
theorem dX2_fillUp_69 : decode cX2_fillUp 69 = .ok (.iaload, 1) := by decide +kernel
theorem dX2_fillUp_70 : decode cX2_fillUp 70 = .ok (.invokevirtual 46, 3) := by decide +kernel
theorem dX2_fillUp_73 : decode cX2_fillUp 73 = .ok (.istore_n 3, 1) := by decide +kernel
theorem dX2_fillUp_74 : decode cX2_fillUp 74 = .ok (.aload_n 0, 1) := by decide +kernel
theorem dX2_fillUp_75 : decode cX2_fillUp 75 = .ok (.iload_n 2, 1) := by decide +kernel
theorem dX2_fillUp_76 : decode cX2_fillUp 76 = .ok (.iload 4, 2) := by decide +kernel
theorem dX2_fillUp_78 : decode cX2_fillUp 78 = .ok (.invokevirtual 50, 3) := by decide +kernel
theorem dX2_fillUp_81 : decode cX2_fillUp 81 = .ok (.istore 6, 2) := by decide +kernel
theorem dX2_fillUp_83 : decode cX2_fillUp 83 = .ok (.aload_n 0, 1) := by decide +kernel
theorem dX2_fillUp_84 : decode cX2_fillUp 84 = .ok (.getfield 19, 3) := by decide +kernel
theorem dX2_fillUp_87 : decode cX2_fillUp 87 = .ok (.iload_n 2, 1) := by decide +kernel
theorem dX2_fillUp_88 : decode cX2_fillUp 88 = .ok (.bipush 61, 2) := by decide +kernel
theorem dX2_fillUp_90 : decode cX2_fillUp 90 = .ok (.imul, 1) := by decide +kernel
theorem dX2_fillUp_91 : decode cX2_fillUp 91 = .ok (.iload 4, 2) := by decide +kernel
theorem dX2_fillUp_93 : decode cX2_fillUp 93 = .ok (.iadd, 1) := by decide +kernel
theorem dX2_fillUp_94 : decode cX2_fillUp 94 = .ok (.aload_n 0, 1) := by decide +kernel
theorem dX2_fillUp_95 : decode cX2_fillUp 95 = .ok (.iload_n 3, 1) := by decide +kernel
theorem dX2_fillUp_96 : decode cX2_fillUp 96 = .ok (.iload 6, 2) := by decide +kernel
theorem dX2_fillUp_98 : decode cX2_fillUp 98 = .ok (.invokevirtual 53, 3) := by decide +kernel
theorem dX2_fillUp_101 : decode cX2_fillUp 101 = .ok (.iastore, 1) := by decide +kernel
theorem dX2_fillUp_102 : decode cX2_fillUp 102 = .ok (.iinc 4 1, 3) := by decide +kernel
theorem dX2_fillUp_105 : decode cX2_fillUp 105 = .ok (.goto (-84), 3) := by decide +kernel
theorem dX2_fillUp_108 : decode cX2_fillUp 108 = .ok (.iinc 2 1, 3) := by decide +kernel
theorem dX2_fillUp_111 : decode cX2_fillUp 111 = .ok (.goto (-109), 3) := by decide +kernel
theorem dX2_fillUp_114 : decode cX2_fillUp 114 = .ok (.return_, 1) := by decide +kernel
abbrev cX2_least : ByteArray := prog_3_method_11_code
def yX2_least : MethodName := ⟨RX2, "least", "(II)I"⟩
theorem dX2_least_0 : decode cX2_least 0 = .ok (.iload_n 1, 1) := by decide +kernel
theorem dX2_least_1 : decode cX2_least 1 = .ok (.iload_n 2, 1) := by decide +kernel
theorem dX2_least_2 : decode cX2_least 2 = .ok (.if_icmp .ge 7, 3) := by decide +kernel
theorem dX2_least_5 : decode cX2_least 5 = .ok (.iload_n 1, 1) := by decide +kernel
theorem dX2_least_6 : decode cX2_least 6 = .ok (.goto 4, 3) := by decide +kernel
theorem dX2_least_9 : decode cX2_least 9 = .ok (.iload_n 2, 1) := by decide +kernel
theorem dX2_least_10 : decode cX2_least 10 = .ok (.ireturn, 1) := by decide +kernel
abbrev cX2_own : ByteArray := prog_3_method_10_code
def yX2_own : MethodName := ⟨RX2, "own", "(II)I"⟩
theorem dX2_own_0 : decode cX2_own 0 = .ok (.iload_n 2, 1) := by decide +kernel
theorem dX2_own_1 : decode cX2_own 1 = .ok (.ifCond .lt 18, 3) := by decide +kernel
theorem dX2_own_4 : decode cX2_own 4 = .ok (.iload_n 2, 1) := by decide +kernel
theorem dX2_own_5 : decode cX2_own 5 = .ok (.aload_n 0, 1) := by decide +kernel
theorem dX2_own_6 : decode cX2_own 6 = .ok (.getfield 7, 3) := by decide +kernel
theorem dX2_own_9 : decode cX2_own 9 = .ok (.iload_n 1, 1) := by decide +kernel
theorem dX2_own_10 : decode cX2_own 10 = .ok (.iaload, 1) := by decide +kernel
theorem dX2_own_11 : decode cX2_own 11 = .ok (.iadd, 1) := by decide +kernel
theorem dX2_own_12 : decode cX2_own 12 = .ok (.aload_n 0, 1) := by decide +kernel
theorem dX2_own_13 : decode cX2_own 13 = .ok (.getfield 28, 3) := by decide +kernel
theorem dX2_own_16 : decode cX2_own 16 = .ok (.if_icmp .le 6, 3) := by decide +kernel
theorem dX2_own_19 : decode cX2_own 19 = .ok (.ldc 45, 2) := by decide +kernel
theorem dX2_own_21 : decode cX2_own 21 = .ok (.ireturn, 1) := by decide +kernel
theorem dX2_own_22 : decode cX2_own 22 = .ok (.iload_n 2, 1) := by decide +kernel
theorem dX2_own_23 : decode cX2_own 23 = .ok (.aload_n 0, 1) := by decide +kernel
theorem dX2_own_24 : decode cX2_own 24 = .ok (.getfield 13, 3) := by decide +kernel
theorem dX2_own_27 : decode cX2_own 27 = .ok (.iload_n 1, 1) := by decide +kernel
theorem dX2_own_28 : decode cX2_own 28 = .ok (.iaload, 1) := by decide +kernel
theorem dX2_own_29 : decode cX2_own 29 = .ok (.if_icmp .ge 14, 3) := by decide +kernel
theorem dX2_own_32 : decode cX2_own 32 = .ok (.aload_n 0, 1) := by decide +kernel
theorem dX2_own_33 : decode cX2_own 33 = .ok (.getfield 13, 3) := by decide +kernel
theorem dX2_own_36 : decode cX2_own 36 = .ok (.iload_n 1, 1) := by decide +kernel
theorem dX2_own_37 : decode cX2_own 37 = .ok (.iaload, 1) := by decide +kernel
theorem dX2_own_38 : decode cX2_own 38 = .ok (.iload_n 2, 1) := by decide +kernel
theorem dX2_own_39 : decode cX2_own 39 = .ok (.isub, 1) := by decide +kernel
theorem dX2_own_40 : decode cX2_own 40 = .ok (.goto 11, 3) := by decide +kernel
theorem dX2_own_43 : decode cX2_own 43 = .ok (.iload_n 2, 1) := by decide +kernel
theorem dX2_own_44 : decode cX2_own 44 = .ok (.aload_n 0, 1) := by decide +kernel
theorem dX2_own_45 : decode cX2_own 45 = .ok (.getfield 13, 3) := by decide +kernel
theorem dX2_own_48 : decode cX2_own 48 = .ok (.iload_n 1, 1) := by decide +kernel
theorem dX2_own_49 : decode cX2_own 49 = .ok (.iaload, 1) := by decide +kernel
theorem dX2_own_50 : decode cX2_own 50 = .ok (.isub, 1) := by decide +kernel
theorem dX2_own_51 : decode cX2_own 51 = .ok (.istore_n 3, 1) := by decide +kernel
theorem dX2_own_52 : decode cX2_own 52 = .ok (.aload_n 0, 1) := by decide +kernel
theorem dX2_own_53 : decode cX2_own 53 = .ok (.getfield 16, 3) := by decide +kernel
theorem dX2_own_56 : decode cX2_own 56 = .ok (.iload_n 1, 1) := by decide +kernel
theorem dX2_own_57 : decode cX2_own 57 = .ok (.iaload, 1) := by decide +kernel
theorem dX2_own_58 : decode cX2_own 58 = .ok (.iload_n 3, 1) := by decide +kernel
theorem dX2_own_59 : decode cX2_own 59 = .ok (.imul, 1) := by decide +kernel
theorem dX2_own_60 : decode cX2_own 60 = .ok (.ireturn, 1) := by decide +kernel
abbrev cX2_sum : ByteArray := prog_3_method_12_code
def yX2_sum : MethodName := ⟨RX2, "sum", "(II)I"⟩
theorem dX2_sum_0 : decode cX2_sum 0 = .ok (.aload_n 0, 1) := by decide +kernel
theorem dX2_sum_1 : decode cX2_sum 1 = .ok (.iload_n 1, 1) := by decide +kernel
theorem dX2_sum_2 : decode cX2_sum 2 = .ok (.iload_n 2, 1) := by decide +kernel
theorem dX2_sum_3 : decode cX2_sum 3 = .ok (.iadd, 1) := by decide +kernel
theorem dX2_sum_4 : decode cX2_sum 4 = .ok (.ldc 45, 2) := by decide +kernel
theorem dX2_sum_6 : decode cX2_sum 6 = .ok (.invokevirtual 46, 3) := by decide +kernel
theorem dX2_sum_9 : decode cX2_sum 9 = .ok (.ireturn, 1) := by decide +kernel
abbrev cX2_leastUp : ByteArray := prog_3_method_15_code
def yX2_leastUp : MethodName := ⟨RX2, "leastUp", "(I)I"⟩
theorem dX2_leastUp_0 : decode cX2_leastUp 0 = .ok (.ldc 45, 2) := by decide +kernel
theorem dX2_leastUp_2 : decode cX2_leastUp 2 = .ok (.istore_n 2, 1) := by decide +kernel
theorem dX2_leastUp_3 : decode cX2_leastUp 3 = .ok (.iconst 0, 1) := by decide +kernel
theorem dX2_leastUp_4 : decode cX2_leastUp 4 = .ok (.istore_n 3, 1) := by decide +kernel
theorem dX2_leastUp_5 : decode cX2_leastUp 5 = .ok (.iload_n 3, 1) := by decide +kernel
theorem dX2_leastUp_6 : decode cX2_leastUp 6 = .ok (.bipush 61, 2) := by decide +kernel
theorem dX2_leastUp_8 : decode cX2_leastUp 8 = .ok (.if_icmp .ge 26, 3) := by decide +kernel
theorem dX2_leastUp_11 : decode cX2_leastUp 11 = .ok (.aload_n 0, 1) := by decide +kernel
theorem dX2_leastUp_12 : decode cX2_leastUp 12 = .ok (.iload_n 2, 1) := by decide +kernel
theorem dX2_leastUp_13 : decode cX2_leastUp 13 = .ok (.aload_n 0, 1) := by decide +kernel
theorem dX2_leastUp_14 : decode cX2_leastUp 14 = .ok (.getfield 19, 3) := by decide +kernel
theorem dX2_leastUp_17 : decode cX2_leastUp 17 = .ok (.iload_n 1, 1) := by decide +kernel
theorem dX2_leastUp_18 : decode cX2_leastUp 18 = .ok (.bipush 61, 2) := by decide +kernel
theorem dX2_leastUp_20 : decode cX2_leastUp 20 = .ok (.imul, 1) := by decide +kernel
theorem dX2_leastUp_21 : decode cX2_leastUp 21 = .ok (.iload_n 3, 1) := by decide +kernel
theorem dX2_leastUp_22 : decode cX2_leastUp 22 = .ok (.iadd, 1) := by decide +kernel
theorem dX2_leastUp_23 : decode cX2_leastUp 23 = .ok (.iaload, 1) := by decide +kernel
theorem dX2_leastUp_24 : decode cX2_leastUp 24 = .ok (.invokevirtual 46, 3) := by decide +kernel
theorem dX2_leastUp_27 : decode cX2_leastUp 27 = .ok (.istore_n 2, 1) := by decide +kernel
theorem dX2_leastUp_28 : decode cX2_leastUp 28 = .ok (.iinc 3 1, 3) := by decide +kernel
theorem dX2_leastUp_31 : decode cX2_leastUp 31 = .ok (.goto (-26), 3) := by decide +kernel
theorem dX2_leastUp_34 : decode cX2_leastUp 34 = .ok (.iload_n 2, 1) := by decide +kernel
theorem dX2_leastUp_35 : decode cX2_leastUp 35 = .ok (.ireturn, 1) := by decide +kernel
abbrev cX2_leftmost : ByteArray := prog_3_method_18_code
def yX2_leftmost : MethodName := ⟨RX2, "leftmost", "(I)I"⟩
theorem dX2_leftmost_0 : decode cX2_leftmost 0 = .ok (.aload_n 0, 1) := by decide +kernel
theorem dX2_leftmost_1 : decode cX2_leftmost 1 = .ok (.iload_n 1, 1) := by decide +kernel
theorem dX2_leftmost_2 : decode cX2_leftmost 2 = .ok (.invokevirtual 42, 3) := by decide +kernel
theorem dX2_leftmost_5 : decode cX2_leftmost 5 = .ok (.ifCond .eq 6, 3) := by decide +kernel
theorem dX2_leftmost_8 : decode cX2_leftmost 8 = .ok (.bipush (-4), 2) := by decide +kernel
theorem dX2_leftmost_10 : decode cX2_leftmost 10 = .ok (.ireturn, 1) := by decide +kernel
theorem dX2_leftmost_11 : decode cX2_leftmost 11 = .ok (.aload_n 0, 1) := by decide +kernel
theorem dX2_leftmost_12 : decode cX2_leftmost 12 = .ok (.aload_n 0, 1) := by decide +kernel
theorem dX2_leftmost_13 : decode cX2_leftmost 13 = .ok (.getfield 32, 3) := by decide +kernel
theorem dX2_leftmost_16 : decode cX2_leftmost 16 = .ok (.invokevirtual 60, 3) := by decide +kernel
theorem dX2_leftmost_19 : decode cX2_leftmost 19 = .ok (.aload_n 0, 1) := by decide +kernel
theorem dX2_leftmost_20 : decode cX2_leftmost 20 = .ok (.aload_n 0, 1) := by decide +kernel
theorem dX2_leftmost_21 : decode cX2_leftmost 21 = .ok (.getfield 32, 3) := by decide +kernel
theorem dX2_leftmost_24 : decode cX2_leftmost 24 = .ok (.iconst 1, 1) := by decide +kernel
theorem dX2_leftmost_25 : decode cX2_leftmost 25 = .ok (.isub, 1) := by decide +kernel
theorem dX2_leftmost_26 : decode cX2_leftmost 26 = .ok (.invokevirtual 64, 3) := by decide +kernel
theorem dX2_leftmost_29 : decode cX2_leftmost 29 = .ok (.istore_n 2, 1) := by decide +kernel
theorem dX2_leftmost_30 : decode cX2_leftmost 30 = .ok (.iload_n 2, 1) := by decide +kernel
theorem dX2_leftmost_31 : decode cX2_leftmost 31 = .ok (.ldc 45, 2) := by decide +kernel
theorem dX2_leftmost_33 : decode cX2_leftmost 33 = .ok (.if_icmp .ne 6, 3) := by decide +kernel
theorem dX2_leftmost_36 : decode cX2_leftmost 36 = .ok (.bipush (-6), 2) := by decide +kernel
theorem dX2_leftmost_38 : decode cX2_leftmost 38 = .ok (.ireturn, 1) := by decide +kernel
theorem dX2_leftmost_39 : decode cX2_leftmost 39 = .ok (.bipush 60, 2) := by decide +kernel
theorem dX2_leftmost_41 : decode cX2_leftmost 41 = .ok (.istore_n 3, 1) := by decide +kernel
theorem dX2_leftmost_42 : decode cX2_leftmost 42 = .ok (.aload_n 0, 1) := by decide +kernel
theorem dX2_leftmost_43 : decode cX2_leftmost 43 = .ok (.getfield 32, 3) := by decide +kernel
theorem dX2_leftmost_46 : decode cX2_leftmost 46 = .ok (.iconst 1, 1) := by decide +kernel
theorem dX2_leftmost_47 : decode cX2_leftmost 47 = .ok (.isub, 1) := by decide +kernel
theorem dX2_leftmost_48 : decode cX2_leftmost 48 = .ok (.istore 4, 2) := by decide +kernel
theorem dX2_leftmost_50 : decode cX2_leftmost 50 = .ok (.iload 4, 2) := by decide +kernel
theorem dX2_leftmost_52 : decode cX2_leftmost 52 = .ok (.iload_n 1, 1) := by decide +kernel
theorem dX2_leftmost_53 : decode cX2_leftmost 53 = .ok (.if_icmp .lt 95, 3) := by decide +kernel
theorem dX2_leftmost_56 : decode cX2_leftmost 56 = .ok (.iconst (-1), 1) := by decide +kernel
theorem dX2_leftmost_57 : decode cX2_leftmost 57 = .ok (.istore 5, 2) := by decide +kernel
theorem dX2_leftmost_59 : decode cX2_leftmost 59 = .ok (.iconst 0, 1) := by decide +kernel
theorem dX2_leftmost_60 : decode cX2_leftmost 60 = .ok (.istore 6, 2) := by decide +kernel
theorem dX2_leftmost_62 : decode cX2_leftmost 62 = .ok (.iload 6, 2) := by decide +kernel
theorem dX2_leftmost_64 : decode cX2_leftmost 64 = .ok (.iload_n 3, 1) := by decide +kernel
theorem dX2_leftmost_65 : decode cX2_leftmost 65 = .ok (.if_icmp .gt 35, 3) := by decide +kernel
theorem dX2_leftmost_68 : decode cX2_leftmost 68 = .ok (.iload 5, 2) := by decide +kernel
theorem dX2_leftmost_70 : decode cX2_leftmost 70 = .ok (.ifCond .ge 30, 3) := by decide +kernel
theorem dX2_leftmost_73 : decode cX2_leftmost 73 = .ok (.aload_n 0, 1) := by decide +kernel
theorem dX2_leftmost_74 : decode cX2_leftmost 74 = .ok (.getfield 19, 3) := by decide +kernel
theorem dX2_leftmost_77 : decode cX2_leftmost 77 = .ok (.iload 4, 2) := by decide +kernel
theorem dX2_leftmost_79 : decode cX2_leftmost 79 = .ok (.bipush 61, 2) := by decide +kernel
theorem dX2_leftmost_81 : decode cX2_leftmost 81 = .ok (.imul, 1) := by decide +kernel
theorem dX2_leftmost_82 : decode cX2_leftmost 82 = .ok (.iload 6, 2) := by decide +kernel
theorem dX2_leftmost_84 : decode cX2_leftmost 84 = .ok (.iadd, 1) := by decide +kernel
theorem dX2_leftmost_85 : decode cX2_leftmost 85 = .ok (.iaload, 1) := by decide +kernel
theorem dX2_leftmost_86 : decode cX2_leftmost 86 = .ok (.iload_n 2, 1) := by decide +kernel
theorem dX2_leftmost_87 : decode cX2_leftmost 87 = .ok (.if_icmp .ne 7, 3) := by decide +kernel
theorem dX2_leftmost_90 : decode cX2_leftmost 90 = .ok (.iload 6, 2) := by decide +kernel
theorem dX2_leftmost_92 : decode cX2_leftmost 92 = .ok (.istore 5, 2) := by decide +kernel
theorem dX2_leftmost_94 : decode cX2_leftmost 94 = .ok (.iinc 6 1, 3) := by decide +kernel
theorem dX2_leftmost_97 : decode cX2_leftmost 97 = .ok (.goto (-35), 3) := by decide +kernel
theorem dX2_leftmost_100 : decode cX2_leftmost 100 = .ok (.aload_n 0, 1) := by decide +kernel
theorem dX2_leftmost_101 : decode cX2_leftmost 101 = .ok (.getfield 25, 3) := by decide +kernel
theorem dX2_leftmost_104 : decode cX2_leftmost 104 = .ok (.iload 4, 2) := by decide +kernel
theorem dX2_leftmost_106 : decode cX2_leftmost 106 = .ok (.iload 5, 2) := by decide +kernel
theorem dX2_leftmost_108 : decode cX2_leftmost 108 = .ok (.iastore, 1) := by decide +kernel
theorem dX2_leftmost_109 : decode cX2_leftmost 109 = .ok (.iload_n 2, 1) := by decide +kernel
theorem dX2_leftmost_110 : decode cX2_leftmost 110 = .ok (.aload_n 0, 1) := by decide +kernel
theorem dX2_leftmost_111 : decode cX2_leftmost 111 = .ok (.iload 4, 2) := by decide +kernel
theorem dX2_leftmost_113 : decode cX2_leftmost 113 = .ok (.iload 5, 2) := by decide +kernel
theorem dX2_leftmost_115 : decode cX2_leftmost 115 = .ok (.invokevirtual 50, 3) := by decide +kernel
theorem dX2_leftmost_118 : decode cX2_leftmost 118 = .ok (.isub, 1) := by decide +kernel
theorem dX2_leftmost_119 : decode cX2_leftmost 119 = .ok (.istore_n 2, 1) := by decide +kernel
theorem dX2_leftmost_120 : decode cX2_leftmost 120 = .ok (.iload 4, 2) := by decide +kernel
theorem dX2_leftmost_122 : decode cX2_leftmost 122 = .ok (.ifCond .le 18, 3) := by decide +kernel
theorem dX2_leftmost_125 : decode cX2_leftmost 125 = .ok (.iload 5, 2) := by decide +kernel
theorem dX2_leftmost_127 : decode cX2_leftmost 127 = .ok (.aload_n 0, 1) := by decide +kernel
theorem dX2_leftmost_128 : decode cX2_leftmost 128 = .ok (.getfield 7, 3) := by decide +kernel
theorem dX2_leftmost_131 : decode cX2_leftmost 131 = .ok (.iload 4, 2) := by decide +kernel
theorem dX2_leftmost_133 : decode cX2_leftmost 133 = .ok (.iconst 1, 1) := by decide +kernel
theorem dX2_leftmost_134 : decode cX2_leftmost 134 = .ok (.isub, 1) := by decide +kernel
theorem dX2_leftmost_135 : decode cX2_leftmost 135 = .ok (.iaload, 1) := by decide +kernel
theorem dX2_leftmost_136 : decode cX2_leftmost 136 = .ok (.isub, 1) := by decide +kernel
theorem dX2_leftmost_137 : decode cX2_leftmost 137 = .ok (.goto 4, 3) := by decide +kernel
theorem dX2_leftmost_140 : decode cX2_leftmost 140 = .ok (.iconst 0, 1) := by decide +kernel
theorem dX2_leftmost_141 : decode cX2_leftmost 141 = .ok (.istore_n 3, 1) := by decide +kernel
theorem dX2_leftmost_142 : decode cX2_leftmost 142 = .ok (.iinc 4 (-1), 3) := by decide +kernel
theorem dX2_leftmost_145 : decode cX2_leftmost 145 = .ok (.goto (-95), 3) := by decide +kernel
theorem dX2_leftmost_148 : decode cX2_leftmost 148 = .ok (.aload_n 0, 1) := by decide +kernel
theorem dX2_leftmost_149 : decode cX2_leftmost 149 = .ok (.getfield 25, 3) := by decide +kernel
theorem dX2_leftmost_152 : decode cX2_leftmost 152 = .ok (.iload_n 1, 1) := by decide +kernel
theorem dX2_leftmost_153 : decode cX2_leftmost 153 = .ok (.iaload, 1) := by decide +kernel
theorem dX2_leftmost_154 : decode cX2_leftmost 154 = .ok (.ireturn, 1) := by decide +kernel
abbrev cX2_costAt : ByteArray := prog_3_method_19_code
def yX2_costAt : MethodName := ⟨RX2, "costAt", "(II)I"⟩
theorem dX2_costAt_0 : decode cX2_costAt 0 = .ok (.aload_n 0, 1) := by decide +kernel
theorem dX2_costAt_1 : decode cX2_costAt 1 = .ok (.iload_n 1, 1) := by decide +kernel
theorem dX2_costAt_2 : decode cX2_costAt 2 = .ok (.invokevirtual 42, 3) := by decide +kernel
theorem dX2_costAt_5 : decode cX2_costAt 5 = .ok (.ifCond .eq 6, 3) := by decide +kernel
theorem dX2_costAt_8 : decode cX2_costAt 8 = .ok (.bipush (-4), 2) := by decide +kernel
theorem dX2_costAt_10 : decode cX2_costAt 10 = .ok (.ireturn, 1) := by decide +kernel
theorem dX2_costAt_11 : decode cX2_costAt 11 = .ok (.iload_n 2, 1) := by decide +kernel
theorem dX2_costAt_12 : decode cX2_costAt 12 = .ok (.ifCond .lt 9, 3) := by decide +kernel
theorem dX2_costAt_15 : decode cX2_costAt 15 = .ok (.iload_n 2, 1) := by decide +kernel
theorem dX2_costAt_16 : decode cX2_costAt 16 = .ok (.bipush 60, 2) := by decide +kernel
theorem dX2_costAt_18 : decode cX2_costAt 18 = .ok (.if_icmp .le 6, 3) := by decide +kernel
theorem dX2_costAt_21 : decode cX2_costAt 21 = .ok (.bipush (-6), 2) := by decide +kernel
theorem dX2_costAt_23 : decode cX2_costAt 23 = .ok (.ireturn, 1) := by decide +kernel
theorem dX2_costAt_24 : decode cX2_costAt 24 = .ok (.aload_n 0, 1) := by decide +kernel
theorem dX2_costAt_25 : decode cX2_costAt 25 = .ok (.aload_n 0, 1) := by decide +kernel
theorem dX2_costAt_26 : decode cX2_costAt 26 = .ok (.getfield 32, 3) := by decide +kernel
theorem dX2_costAt_29 : decode cX2_costAt 29 = .ok (.invokevirtual 60, 3) := by decide +kernel
theorem dX2_costAt_32 : decode cX2_costAt 32 = .ok (.aload_n 0, 1) := by decide +kernel
theorem dX2_costAt_33 : decode cX2_costAt 33 = .ok (.invokevirtual 67, 3) := by decide +kernel
theorem dX2_costAt_36 : decode cX2_costAt 36 = .ok (.aload_n 0, 1) := by decide +kernel
theorem dX2_costAt_37 : decode cX2_costAt 37 = .ok (.aload_n 0, 1) := by decide +kernel
theorem dX2_costAt_38 : decode cX2_costAt 38 = .ok (.getfield 19, 3) := by decide +kernel
theorem dX2_costAt_41 : decode cX2_costAt 41 = .ok (.iload_n 1, 1) := by decide +kernel
theorem dX2_costAt_42 : decode cX2_costAt 42 = .ok (.bipush 61, 2) := by decide +kernel
theorem dX2_costAt_44 : decode cX2_costAt 44 = .ok (.imul, 1) := by decide +kernel
theorem dX2_costAt_45 : decode cX2_costAt 45 = .ok (.iload_n 2, 1) := by decide +kernel
theorem dX2_costAt_46 : decode cX2_costAt 46 = .ok (.iadd, 1) := by decide +kernel
theorem dX2_costAt_47 : decode cX2_costAt 47 = .ok (.iaload, 1) := by decide +kernel
theorem dX2_costAt_48 : decode cX2_costAt 48 = .ok (.aload_n 0, 1) := by decide +kernel
theorem dX2_costAt_49 : decode cX2_costAt 49 = .ok (.getfield 22, 3) := by decide +kernel
theorem dX2_costAt_52 : decode cX2_costAt 52 = .ok (.iload_n 1, 1) := by decide +kernel
theorem dX2_costAt_53 : decode cX2_costAt 53 = .ok (.bipush 61, 2) := by decide +kernel
theorem dX2_costAt_55 : decode cX2_costAt 55 = .ok (.imul, 1) := by decide +kernel
theorem dX2_costAt_56 : decode cX2_costAt 56 = .ok (.iload_n 2, 1) := by decide +kernel
theorem dX2_costAt_57 : decode cX2_costAt 57 = .ok (.iadd, 1) := by decide +kernel
theorem dX2_costAt_58 : decode cX2_costAt 58 = .ok (.iaload, 1) := by decide +kernel
theorem dX2_costAt_59 : decode cX2_costAt 59 = .ok (.invokevirtual 53, 3) := by decide +kernel
theorem dX2_costAt_62 : decode cX2_costAt 62 = .ok (.istore_n 3, 1) := by decide +kernel
theorem dX2_costAt_63 : decode cX2_costAt 63 = .ok (.iload_n 3, 1) := by decide +kernel
theorem dX2_costAt_64 : decode cX2_costAt 64 = .ok (.ldc 45, 2) := by decide +kernel
theorem dX2_costAt_66 : decode cX2_costAt 66 = .ok (.if_icmp .ne 8, 3) := by decide +kernel
theorem dX2_costAt_69 : decode cX2_costAt 69 = .ok (.bipush (-6), 2) := by decide +kernel
theorem dX2_costAt_71 : decode cX2_costAt 71 = .ok (.goto 11, 3) := by decide +kernel
theorem dX2_costAt_74 : decode cX2_costAt 74 = .ok (.iload_n 3, 1) := by decide +kernel
theorem dX2_costAt_75 : decode cX2_costAt 75 = .ok (.aload_n 0, 1) := by decide +kernel
theorem dX2_costAt_76 : decode cX2_costAt 76 = .ok (.iload_n 1, 1) := by decide +kernel
theorem dX2_costAt_77 : decode cX2_costAt 77 = .ok (.iload_n 2, 1) := by decide +kernel
theorem dX2_costAt_78 : decode cX2_costAt 78 = .ok (.invokevirtual 50, 3) := by decide +kernel
theorem dX2_costAt_81 : decode cX2_costAt 81 = .ok (.isub, 1) := by decide +kernel
theorem dX2_costAt_82 : decode cX2_costAt 82 = .ok (.ireturn, 1) := by decide +kernel
abbrev cX2_fillDown : ByteArray := prog_3_method_14_code
def yX2_fillDown : MethodName := ⟨RX2, "fillDown", "()V"⟩
theorem dX2_fillDown_0 : decode cX2_fillDown 0 = .ok (.aload_n 0, 1) := by decide +kernel
theorem dX2_fillDown_1 : decode cX2_fillDown 1 = .ok (.getfield 32, 3) := by decide +kernel
theorem dX2_fillDown_4 : decode cX2_fillDown 4 = .ok (.iconst 1, 1) := by decide +kernel
theorem dX2_fillDown_5 : decode cX2_fillDown 5 = .ok (.isub, 1) := by decide +kernel
theorem dX2_fillDown_6 : decode cX2_fillDown 6 = .ok (.istore_n 1, 1) := by decide +kernel
theorem dX2_fillDown_7 : decode cX2_fillDown 7 = .ok (.iload_n 1, 1) := by decide +kernel
theorem dX2_fillDown_8 : decode cX2_fillDown 8 = .ok (.ifCond .lt 112, 3) := by decide +kernel
theorem dX2_fillDown_11 : decode cX2_fillDown 11 = .ok (.iload_n 1, 1) := by decide +kernel
theorem dX2_fillDown_12 : decode cX2_fillDown 12 = .ok (.aload_n 0, 1) := by decide +kernel
theorem dX2_fillDown_13 : decode cX2_fillDown 13 = .ok (.getfield 32, 3) := by decide +kernel
theorem dX2_fillDown_16 : decode cX2_fillDown 16 = .ok (.iconst 1, 1) := by decide +kernel
theorem dX2_fillDown_17 : decode cX2_fillDown 17 = .ok (.isub, 1) := by decide +kernel
theorem dX2_fillDown_18 : decode cX2_fillDown 18 = .ok (.if_icmp .ne 7, 3) := by decide +kernel
theorem dX2_fillDown_21 : decode cX2_fillDown 21 = .ok (.iconst 0, 1) := by decide +kernel
theorem dX2_fillDown_22 : decode cX2_fillDown 22 = .ok (.goto 5, 3) := by decide +kernel
theorem dX2_fillDown_25 : decode cX2_fillDown 25 = .ok (.ldc 45, 2) := by decide +kernel
theorem dX2_fillDown_27 : decode cX2_fillDown 27 = .ok (.istore_n 2, 1) := by decide +kernel
theorem dX2_fillDown_28 : decode cX2_fillDown 28 = .ok (.bipush 60, 2) := by decide +kernel
theorem dX2_fillDown_30 : decode cX2_fillDown 30 = .ok (.istore_n 3, 1) := by decide +kernel
theorem dX2_fillDown_31 : decode cX2_fillDown 31 = .ok (.iload_n 3, 1) := by decide +kernel
theorem dX2_fillDown_32 : decode cX2_fillDown 32 = .ok (.ifCond .lt 82, 3) := by decide +kernel
theorem dX2_fillDown_35 : decode cX2_fillDown 35 = .ok (.iload_n 3, 1) := by decide +kernel
theorem dX2_fillDown_36 : decode cX2_fillDown 36 = .ok (.aload_n 0, 1) := by decide +kernel
theorem dX2_fillDown_37 : decode cX2_fillDown 37 = .ok (.getfield 7, 3) := by decide +kernel
theorem dX2_fillDown_40 : decode cX2_fillDown 40 = .ok (.iload_n 1, 1) := by decide +kernel
theorem dX2_fillDown_41 : decode cX2_fillDown 41 = .ok (.iaload, 1) := by decide +kernel
theorem dX2_fillDown_42 : decode cX2_fillDown 42 = .ok (.iadd, 1) := by decide +kernel
theorem dX2_fillDown_43 : decode cX2_fillDown 43 = .ok (.istore 4, 2) := by decide +kernel
theorem dX2_fillDown_45 : decode cX2_fillDown 45 = .ok (.iload_n 1, 1) := by decide +kernel
theorem dX2_fillDown_46 : decode cX2_fillDown 46 = .ok (.aload_n 0, 1) := by decide +kernel
theorem dX2_fillDown_47 : decode cX2_fillDown 47 = .ok (.getfield 32, 3) := by decide +kernel
theorem dX2_fillDown_50 : decode cX2_fillDown 50 = .ok (.iconst 1, 1) := by decide +kernel
theorem dX2_fillDown_51 : decode cX2_fillDown 51 = .ok (.isub, 1) := by decide +kernel
theorem dX2_fillDown_52 : decode cX2_fillDown 52 = .ok (.if_icmp .ge 30, 3) := by decide +kernel
theorem dX2_fillDown_55 : decode cX2_fillDown 55 = .ok (.iload 4, 2) := by decide +kernel
theorem dX2_fillDown_57 : decode cX2_fillDown 57 = .ok (.bipush 61, 2) := by decide +kernel
theorem dX2_fillDown_59 : decode cX2_fillDown 59 = .ok (.if_icmp .ge 23, 3) := by decide +kernel
theorem dX2_fillDown_62 : decode cX2_fillDown 62 = .ok (.aload_n 0, 1) := by decide +kernel
theorem dX2_fillDown_63 : decode cX2_fillDown 63 = .ok (.iload_n 2, 1) := by decide +kernel
theorem dX2_fillDown_64 : decode cX2_fillDown 64 = .ok (.aload_n 0, 1) := by decide +kernel
theorem dX2_fillDown_65 : decode cX2_fillDown 65 = .ok (.getfield 22, 3) := by decide +kernel
theorem dX2_fillDown_68 : decode cX2_fillDown 68 = .ok (.iload_n 1, 1) := by decide +kernel
theorem dX2_fillDown_69 : decode cX2_fillDown 69 = .ok (.iconst 1, 1) := by decide +kernel
theorem dX2_fillDown_70 : decode cX2_fillDown 70 = .ok (.iadd, 1) := by decide +kernel
theorem dX2_fillDown_71 : decode cX2_fillDown 71 = .ok (.bipush 61, 2) := by decide +kernel
theorem dX2_fillDown_73 : decode cX2_fillDown 73 = .ok (.imul, 1) := by decide +kernel
theorem dX2_fillDown_74 : decode cX2_fillDown 74 = .ok (.iload 4, 2) := by decide +kernel
theorem dX2_fillDown_76 : decode cX2_fillDown 76 = .ok (.iadd, 1) := by decide +kernel
theorem dX2_fillDown_77 : decode cX2_fillDown 77 = .ok (.iaload, 1) := by decide +kernel
theorem dX2_fillDown_78 : decode cX2_fillDown 78 = .ok (.invokevirtual 46, 3) := by decide +kernel
theorem dX2_fillDown_81 : decode cX2_fillDown 81 = .ok (.istore_n 2, 1) := by decide +kernel
theorem dX2_fillDown_82 : decode cX2_fillDown 82 = .ok (.aload_n 0, 1) := by decide +kernel
theorem dX2_fillDown_83 : decode cX2_fillDown 83 = .ok (.iload_n 1, 1) := by decide +kernel
theorem dX2_fillDown_84 : decode cX2_fillDown 84 = .ok (.iload_n 3, 1) := by decide +kernel
theorem dX2_fillDown_85 : decode cX2_fillDown 85 = .ok (.invokevirtual 50, 3) := by decide +kernel
theorem dX2_fillDown_88 : decode cX2_fillDown 88 = .ok (.istore 5, 2) := by decide +kernel
theorem dX2_fillDown_90 : decode cX2_fillDown 90 = .ok (.aload_n 0, 1) := by decide +kernel
theorem dX2_fillDown_91 : decode cX2_fillDown 91 = .ok (.getfield 22, 3) := by decide +kernel
theorem dX2_fillDown_94 : decode cX2_fillDown 94 = .ok (.iload_n 1, 1) := by decide +kernel
theorem dX2_fillDown_95 : decode cX2_fillDown 95 = .ok (.bipush 61, 2) := by decide +kernel
theorem dX2_fillDown_97 : decode cX2_fillDown 97 = .ok (.imul, 1) := by decide +kernel
theorem dX2_fillDown_98 : decode cX2_fillDown 98 = .ok (.iload_n 3, 1) := by decide +kernel
theorem dX2_fillDown_99 : decode cX2_fillDown 99 = .ok (.iadd, 1) := by decide +kernel
theorem dX2_fillDown_100 : decode cX2_fillDown 100 = .ok (.aload_n 0, 1) := by decide +kernel
theorem dX2_fillDown_101 : decode cX2_fillDown 101 = .ok (.iload_n 2, 1) := by decide +kernel
theorem dX2_fillDown_102 : decode cX2_fillDown 102 = .ok (.iload 5, 2) := by decide +kernel
theorem dX2_fillDown_104 : decode cX2_fillDown 104 = .ok (.invokevirtual 53, 3) := by decide +kernel
theorem dX2_fillDown_107 : decode cX2_fillDown 107 = .ok (.iastore, 1) := by decide +kernel
theorem dX2_fillDown_108 : decode cX2_fillDown 108 = .ok (.iinc 3 (-1), 3) := by decide +kernel
theorem dX2_fillDown_111 : decode cX2_fillDown 111 = .ok (.goto (-80), 3) := by decide +kernel
theorem dX2_fillDown_114 : decode cX2_fillDown 114 = .ok (.iinc 1 (-1), 3) := by decide +kernel
theorem dX2_fillDown_117 : decode cX2_fillDown 117 = .ok (.goto (-110), 3) := by decide +kernel
theorem dX2_fillDown_120 : decode cX2_fillDown 120 = .ok (.return_, 1) := by decide +kernel
abbrev cX2_room : ByteArray := prog_3_method_20_code
def yX2_room : MethodName := ⟨RX2, "room", "()I"⟩
theorem dX2_room_0 : decode cX2_room 0 = .ok (.aload_n 0, 1) := by decide +kernel
theorem dX2_room_1 : decode cX2_room 1 = .ok (.getfield 28, 3) := by decide +kernel
theorem dX2_room_4 : decode cX2_room 4 = .ok (.istore_n 1, 1) := by decide +kernel
theorem dX2_room_5 : decode cX2_room 5 = .ok (.iconst 0, 1) := by decide +kernel
theorem dX2_room_6 : decode cX2_room 6 = .ok (.istore_n 2, 1) := by decide +kernel
theorem dX2_room_7 : decode cX2_room 7 = .ok (.iload_n 2, 1) := by decide +kernel
theorem dX2_room_8 : decode cX2_room 8 = .ok (.aload_n 0, 1) := by decide +kernel
theorem dX2_room_9 : decode cX2_room 9 = .ok (.getfield 32, 3) := by decide +kernel
theorem dX2_room_12 : decode cX2_room 12 = .ok (.if_icmp .ge 18, 3) := by decide +kernel
theorem dX2_room_15 : decode cX2_room 15 = .ok (.iload_n 1, 1) := by decide +kernel
theorem dX2_room_16 : decode cX2_room 16 = .ok (.aload_n 0, 1) := by decide +kernel
theorem dX2_room_17 : decode cX2_room 17 = .ok (.getfield 7, 3) := by decide +kernel
theorem dX2_room_20 : decode cX2_room 20 = .ok (.iload_n 2, 1) := by decide +kernel
theorem dX2_room_21 : decode cX2_room 21 = .ok (.iaload, 1) := by decide +kernel
theorem dX2_room_22 : decode cX2_room 22 = .ok (.isub, 1) := by decide +kernel
theorem dX2_room_23 : decode cX2_room 23 = .ok (.istore_n 1, 1) := by decide +kernel
theorem dX2_room_24 : decode cX2_room 24 = .ok (.iinc 2 1, 3) := by decide +kernel
theorem dX2_room_27 : decode cX2_room 27 = .ok (.goto (-20), 3) := by decide +kernel
theorem dX2_room_30 : decode cX2_room 30 = .ok (.iload_n 1, 1) := by decide +kernel
theorem dX2_room_31 : decode cX2_room 31 = .ok (.ireturn, 1) := by decide +kernel
abbrev cX2_content : ByteArray := prog_3_method_22_code
def yX2_content : MethodName := ⟨RX2, "content", "()I"⟩
theorem dX2_content_0 : decode cX2_content 0 = .ok (.iconst 0, 1) := by decide +kernel
theorem dX2_content_1 : decode cX2_content 1 = .ok (.istore_n 1, 1) := by decide +kernel
theorem dX2_content_2 : decode cX2_content 2 = .ok (.iconst 0, 1) := by decide +kernel
theorem dX2_content_3 : decode cX2_content 3 = .ok (.istore_n 2, 1) := by decide +kernel
theorem dX2_content_4 : decode cX2_content 4 = .ok (.iload_n 2, 1) := by decide +kernel
theorem dX2_content_5 : decode cX2_content 5 = .ok (.iconst 1, 1) := by decide +kernel
theorem dX2_content_6 : decode cX2_content 6 = .ok (.aload_n 0, 1) := by decide +kernel
theorem dX2_content_7 : decode cX2_content 7 = .ok (.getfield 32, 3) := by decide +kernel
theorem dX2_content_10 : decode cX2_content 10 = .ok (.ishl, 1) := by decide +kernel
theorem dX2_content_11 : decode cX2_content 11 = .ok (.if_icmp .ge 53, 3) := by decide +kernel
theorem dX2_content_14 : decode cX2_content 14 = .ok (.iconst 0, 1) := by decide +kernel
theorem dX2_content_15 : decode cX2_content 15 = .ok (.istore_n 3, 1) := by decide +kernel
theorem dX2_content_16 : decode cX2_content 16 = .ok (.iconst 0, 1) := by decide +kernel
theorem dX2_content_17 : decode cX2_content 17 = .ok (.istore 4, 2) := by decide +kernel
theorem dX2_content_19 : decode cX2_content 19 = .ok (.iload 4, 2) := by decide +kernel
theorem dX2_content_21 : decode cX2_content 21 = .ok (.aload_n 0, 1) := by decide +kernel
theorem dX2_content_22 : decode cX2_content 22 = .ok (.getfield 32, 3) := by decide +kernel
theorem dX2_content_25 : decode cX2_content 25 = .ok (.if_icmp .ge 18, 3) := by decide +kernel
theorem dX2_content_28 : decode cX2_content 28 = .ok (.iload_n 3, 1) := by decide +kernel
theorem dX2_content_29 : decode cX2_content 29 = .ok (.iload_n 2, 1) := by decide +kernel
theorem dX2_content_30 : decode cX2_content 30 = .ok (.iload 4, 2) := by decide +kernel
theorem dX2_content_32 : decode cX2_content 32 = .ok (.ishr, 1) := by decide +kernel
theorem dX2_content_33 : decode cX2_content 33 = .ok (.iconst 1, 1) := by decide +kernel
theorem dX2_content_34 : decode cX2_content 34 = .ok (.iand, 1) := by decide +kernel
theorem dX2_content_35 : decode cX2_content 35 = .ok (.iadd, 1) := by decide +kernel
theorem dX2_content_36 : decode cX2_content 36 = .ok (.istore_n 3, 1) := by decide +kernel
theorem dX2_content_37 : decode cX2_content 37 = .ok (.iinc 4 1, 3) := by decide +kernel
theorem dX2_content_40 : decode cX2_content 40 = .ok (.goto (-21), 3) := by decide +kernel
theorem dX2_content_43 : decode cX2_content 43 = .ok (.iload_n 3, 1) := by decide +kernel
theorem dX2_content_44 : decode cX2_content 44 = .ok (.iload_n 1, 1) := by decide +kernel
theorem dX2_content_45 : decode cX2_content 45 = .ok (.if_icmp .le 13, 3) := by decide +kernel
theorem dX2_content_48 : decode cX2_content 48 = .ok (.aload_n 0, 1) := by decide +kernel
theorem dX2_content_49 : decode cX2_content 49 = .ok (.iload_n 2, 1) := by decide +kernel
theorem dX2_content_50 : decode cX2_content 50 = .ok (.invokevirtual 70, 3) := by decide +kernel
theorem dX2_content_53 : decode cX2_content 53 = .ok (.ifCond .eq 5, 3) := by decide +kernel
theorem dX2_content_56 : decode cX2_content 56 = .ok (.iload_n 3, 1) := by decide +kernel
theorem dX2_content_57 : decode cX2_content 57 = .ok (.istore_n 1, 1) := by decide +kernel
theorem dX2_content_58 : decode cX2_content 58 = .ok (.iinc 2 1, 3) := by decide +kernel
theorem dX2_content_61 : decode cX2_content 61 = .ok (.goto (-57), 3) := by decide +kernel
theorem dX2_content_64 : decode cX2_content 64 = .ok (.iload_n 1, 1) := by decide +kernel
theorem dX2_content_65 : decode cX2_content 65 = .ok (.ireturn, 1) := by decide +kernel
abbrev cX2_allContent : ByteArray := prog_3_method_21_code
def yX2_allContent : MethodName := ⟨RX2, "allContent", "(I)Z"⟩
theorem dX2_allContent_0 : decode cX2_allContent 0 = .ok (.iconst 0, 1) := by decide +kernel
theorem dX2_allContent_1 : decode cX2_allContent 1 = .ok (.istore_n 2, 1) := by decide +kernel
theorem dX2_allContent_2 : decode cX2_allContent 2 = .ok (.iconst 0, 1) := by decide +kernel
theorem dX2_allContent_3 : decode cX2_allContent 3 = .ok (.istore_n 3, 1) := by decide +kernel
theorem dX2_allContent_4 : decode cX2_allContent 4 = .ok (.iload_n 3, 1) := by decide +kernel
theorem dX2_allContent_5 : decode cX2_allContent 5 = .ok (.aload_n 0, 1) := by decide +kernel
theorem dX2_allContent_6 : decode cX2_allContent 6 = .ok (.getfield 32, 3) := by decide +kernel
theorem dX2_allContent_9 : decode cX2_allContent 9 = .ok (.if_icmp .ge 64, 3) := by decide +kernel
theorem dX2_allContent_12 : decode cX2_allContent 12 = .ok (.iload_n 1, 1) := by decide +kernel
theorem dX2_allContent_13 : decode cX2_allContent 13 = .ok (.iload_n 3, 1) := by decide +kernel
theorem dX2_allContent_14 : decode cX2_allContent 14 = .ok (.ishr, 1) := by decide +kernel
theorem dX2_allContent_15 : decode cX2_allContent 15 = .ok (.iconst 1, 1) := by decide +kernel
theorem dX2_allContent_16 : decode cX2_allContent 16 = .ok (.iand, 1) := by decide +kernel
theorem dX2_allContent_17 : decode cX2_allContent 17 = .ok (.iconst 1, 1) := by decide +kernel
theorem dX2_allContent_18 : decode cX2_allContent 18 = .ok (.if_icmp .ne 49, 3) := by decide +kernel
theorem dX2_allContent_21 : decode cX2_allContent 21 = .ok (.aload_n 0, 1) := by decide +kernel
theorem dX2_allContent_22 : decode cX2_allContent 22 = .ok (.getfield 13, 3) := by decide +kernel
theorem dX2_allContent_25 : decode cX2_allContent 25 = .ok (.iload_n 3, 1) := by decide +kernel
theorem dX2_allContent_26 : decode cX2_allContent 26 = .ok (.iaload, 1) := by decide +kernel
theorem dX2_allContent_27 : decode cX2_allContent 27 = .ok (.iload_n 2, 1) := by decide +kernel
theorem dX2_allContent_28 : decode cX2_allContent 28 = .ok (.if_icmp .lt 23, 3) := by decide +kernel
theorem dX2_allContent_31 : decode cX2_allContent 31 = .ok (.aload_n 0, 1) := by decide +kernel
theorem dX2_allContent_32 : decode cX2_allContent 32 = .ok (.getfield 13, 3) := by decide +kernel
theorem dX2_allContent_35 : decode cX2_allContent 35 = .ok (.iload_n 3, 1) := by decide +kernel
theorem dX2_allContent_36 : decode cX2_allContent 36 = .ok (.iaload, 1) := by decide +kernel
theorem dX2_allContent_37 : decode cX2_allContent 37 = .ok (.aload_n 0, 1) := by decide +kernel
theorem dX2_allContent_38 : decode cX2_allContent 38 = .ok (.getfield 7, 3) := by decide +kernel
theorem dX2_allContent_41 : decode cX2_allContent 41 = .ok (.iload_n 3, 1) := by decide +kernel
theorem dX2_allContent_42 : decode cX2_allContent 42 = .ok (.iaload, 1) := by decide +kernel
theorem dX2_allContent_43 : decode cX2_allContent 43 = .ok (.iadd, 1) := by decide +kernel
theorem dX2_allContent_44 : decode cX2_allContent 44 = .ok (.aload_n 0, 1) := by decide +kernel
theorem dX2_allContent_45 : decode cX2_allContent 45 = .ok (.getfield 28, 3) := by decide +kernel
theorem dX2_allContent_48 : decode cX2_allContent 48 = .ok (.if_icmp .le 5, 3) := by decide +kernel
theorem dX2_allContent_51 : decode cX2_allContent 51 = .ok (.iconst 0, 1) := by decide +kernel
theorem dX2_allContent_52 : decode cX2_allContent 52 = .ok (.ireturn, 1) := by decide +kernel
theorem dX2_allContent_53 : decode cX2_allContent 53 = .ok (.aload_n 0, 1) := by decide +kernel
theorem dX2_allContent_54 : decode cX2_allContent 54 = .ok (.getfield 13, 3) := by decide +kernel
theorem dX2_allContent_57 : decode cX2_allContent 57 = .ok (.iload_n 3, 1) := by decide +kernel
theorem dX2_allContent_58 : decode cX2_allContent 58 = .ok (.iaload, 1) := by decide +kernel
theorem dX2_allContent_59 : decode cX2_allContent 59 = .ok (.aload_n 0, 1) := by decide +kernel
theorem dX2_allContent_60 : decode cX2_allContent 60 = .ok (.getfield 7, 3) := by decide +kernel
theorem dX2_allContent_63 : decode cX2_allContent 63 = .ok (.iload_n 3, 1) := by decide +kernel
theorem dX2_allContent_64 : decode cX2_allContent 64 = .ok (.iaload, 1) := by decide +kernel
theorem dX2_allContent_65 : decode cX2_allContent 65 = .ok (.iadd, 1) := by decide +kernel
theorem dX2_allContent_66 : decode cX2_allContent 66 = .ok (.istore_n 2, 1) := by decide +kernel
theorem dX2_allContent_67 : decode cX2_allContent 67 = .ok (.iinc 3 1, 3) := by decide +kernel
theorem dX2_allContent_70 : decode cX2_allContent 70 = .ok (.goto (-66), 3) := by decide +kernel
theorem dX2_allContent_73 : decode cX2_allContent 73 = .ok (.iconst 1, 1) := by decide +kernel
theorem dX2_allContent_74 : decode cX2_allContent 74 = .ok (.ireturn, 1) := by decide +kernel
theorem q21 : (Jvm.Cond.initialized "RowLegaliserModel") ∈ lw_all := lw_g (lw_at lw_m1 2 rfl) rfl
theorem q144 : (Jvm.Cond.instantiable "RowLegaliserModel" (8 : Nat)) ∈ lw_all := lw_g (lw_at lw_m1 125 rfl) rfl
theorem q146 : (Jvm.Cond.instanceMethod ({ cls := "RowLegaliserModel", name := "<init>", desc := "(I)V" } : Jvm.MethodName)) ∈ lw_all := lw_g (lw_at lw_m1 127 rfl) rfl
theorem q147 : (Jvm.Cond.code ({ cls := "RowLegaliserModel", name := "<init>", desc := "(I)V" } : Jvm.MethodName) prog_3_method_1_code (3 : Nat) (Option.none : Option Jvm.ClassFile.FieldType)) ∈ lw_all := lw_g (lw_at lw_m1 128 rfl) rfl
theorem q148 : (Jvm.Cond.methodLink "RowLegaliserModel" (1 : Nat) ({ cls := "java/lang/Object", name := "<init>", desc := "()V" } : Jvm.MethodName)) ∈ lw_all := lw_g (lw_at lw_m1 129 rfl) rfl
theorem q149 : (Jvm.Cond.fieldLink "RowLegaliserModel" (28 : Nat) "RowLegaliserModel" "length" "I") ∈ lw_all := lw_g (lw_at lw_m1 130 rfl) rfl
theorem q150 : (Jvm.Cond.fieldLink "RowLegaliserModel" (32 : Nat) "RowLegaliserModel" "count" "I") ∈ lw_all := lw_g (lw_at lw_m1 131 rfl) rfl
theorem q151 : (Jvm.Cond.fieldLink "RowLegaliserModel" (7 : Nat) "RowLegaliserModel" "widths" "[I") ∈ lw_all := lw_g (lw_at lw_m1 132 rfl) rfl
theorem q152 : (Jvm.Cond.fieldLink "RowLegaliserModel" (13 : Nat) "RowLegaliserModel" "wishes" "[I") ∈ lw_all := lw_g (lw_at lw_m1 133 rfl) rfl
theorem q153 : (Jvm.Cond.fieldLink "RowLegaliserModel" (16 : Nat) "RowLegaliserModel" "weights" "[I") ∈ lw_all := lw_g (lw_at lw_m1 134 rfl) rfl
theorem q154 : (Jvm.Cond.fieldLink "RowLegaliserModel" (19 : Nat) "RowLegaliserModel" "up" "[I") ∈ lw_all := lw_g (lw_at lw_m1 135 rfl) rfl
theorem q155 : (Jvm.Cond.fieldLink "RowLegaliserModel" (22 : Nat) "RowLegaliserModel" "down" "[I") ∈ lw_all := lw_g (lw_at lw_m1 136 rfl) rfl
theorem q156 : (Jvm.Cond.fieldLink "RowLegaliserModel" (25 : Nat) "RowLegaliserModel" "chosen" "[I") ∈ lw_all := lw_g (lw_at lw_m1 137 rfl) rfl
theorem q157 : (Jvm.Cond.laysFinal "RowLegaliserModel" "RowLegaliserModel" "length" "I") ∈ lw_all := lw_g (lw_at lw_m1 138 rfl) rfl
theorem q158 : (Jvm.Cond.soleField "RowLegaliserModel" "length") ∈ lw_all := lw_g (lw_at lw_m1 139 rfl) rfl
theorem q159 : (Jvm.Cond.lays "RowLegaliserModel" "RowLegaliserModel" "count" "I") ∈ lw_all := lw_g (lw_at lw_m1 140 rfl) rfl
theorem q160 : (Jvm.Cond.soleField "RowLegaliserModel" "count") ∈ lw_all := lw_g (lw_at lw_m1 141 rfl) rfl
theorem q161 : (Jvm.Cond.laysFinal "RowLegaliserModel" "RowLegaliserModel" "widths" "[I") ∈ lw_all := lw_g (lw_at lw_m1 142 rfl) rfl
theorem q162 : (Jvm.Cond.soleField "RowLegaliserModel" "widths") ∈ lw_all := lw_g (lw_at lw_m1 143 rfl) rfl
theorem q163 : (Jvm.Cond.laysFinal "RowLegaliserModel" "RowLegaliserModel" "wishes" "[I") ∈ lw_all := lw_g (lw_at lw_m1 144 rfl) rfl
theorem q164 : (Jvm.Cond.soleField "RowLegaliserModel" "wishes") ∈ lw_all := lw_g (lw_at lw_m1 145 rfl) rfl
theorem q165 : (Jvm.Cond.laysFinal "RowLegaliserModel" "RowLegaliserModel" "weights" "[I") ∈ lw_all := lw_g (lw_at lw_m1 146 rfl) rfl
theorem q166 : (Jvm.Cond.soleField "RowLegaliserModel" "weights") ∈ lw_all := lw_g (lw_at lw_m1 147 rfl) rfl
theorem q167 : (Jvm.Cond.laysFinal "RowLegaliserModel" "RowLegaliserModel" "up" "[I") ∈ lw_all := lw_g (lw_at lw_m1 148 rfl) rfl
theorem q168 : (Jvm.Cond.soleField "RowLegaliserModel" "up") ∈ lw_all := lw_g (lw_at lw_m1 149 rfl) rfl
theorem q169 : (Jvm.Cond.laysFinal "RowLegaliserModel" "RowLegaliserModel" "down" "[I") ∈ lw_all := lw_g (lw_at lw_m1 150 rfl) rfl
theorem q170 : (Jvm.Cond.soleField "RowLegaliserModel" "down") ∈ lw_all := lw_g (lw_at lw_m1 151 rfl) rfl
theorem q171 : (Jvm.Cond.laysFinal "RowLegaliserModel" "RowLegaliserModel" "chosen" "[I") ∈ lw_all := lw_g (lw_at lw_m1 152 rfl) rfl
theorem q172 : (Jvm.Cond.soleField "RowLegaliserModel" "chosen") ∈ lw_all := lw_g (lw_at lw_m1 153 rfl) rfl
theorem q173 : (Jvm.Cond.superclass "RowLegaliserModel" "java/lang/Object") ∈ lw_all := lw_g (lw_at lw_m1 154 rfl) rfl
theorem q175 : (Jvm.Cond.instanceMethod ({ cls := "RowLegaliserModel", name := "append", desc := "(III)I" } : Jvm.MethodName)) ∈ lw_all := lw_g (lw_at lw_m1 156 rfl) rfl
theorem q176 : (Jvm.Cond.selects "RowLegaliserModel" ({ cls := "RowLegaliserModel", name := "append", desc := "(III)I" } : Jvm.MethodName) ({ cls := "RowLegaliserModel", name := "append", desc := "(III)I" } : Jvm.MethodName)) ∈ lw_all := lw_g (lw_at lw_m1 157 rfl) rfl
theorem q177 : (Jvm.Cond.code ({ cls := "RowLegaliserModel", name := "append", desc := "(III)I" } : Jvm.MethodName) prog_3_method_5_code (4 : Nat) (Option.some Jvm.ClassFile.FieldType.int)) ∈ lw_all := lw_g (lw_at lw_m1 158 rfl) rfl
theorem q178 : (Jvm.Cond.methodLink "RowLegaliserModel" (35 : Nat) ({ cls := "RowLegaliserModel", name := "badWish", desc := "(I)Z" } : Jvm.MethodName)) ∈ lw_all := lw_g (lw_at lw_m1 159 rfl) rfl
theorem q179 : (Jvm.Cond.privateMethod ({ cls := "RowLegaliserModel", name := "badWish", desc := "(I)Z" } : Jvm.MethodName)) ∈ lw_tbl := lw_at lw_m1 160 rfl
theorem q180 : (Jvm.Cond.instanceMethod ({ cls := "RowLegaliserModel", name := "badWish", desc := "(I)Z" } : Jvm.MethodName)) ∈ lw_all := lw_g (lw_at lw_m1 161 rfl) rfl
theorem q181 : (Jvm.Cond.code ({ cls := "RowLegaliserModel", name := "badWish", desc := "(I)Z" } : Jvm.MethodName) prog_3_method_2_code (2 : Nat) (Option.some Jvm.ClassFile.FieldType.boolean)) ∈ lw_all := lw_g (lw_at lw_m1 162 rfl) rfl
theorem q182 : (Jvm.Cond.methodLink "RowLegaliserModel" (39 : Nat) ({ cls := "RowLegaliserModel", name := "badWeight", desc := "(I)Z" } : Jvm.MethodName)) ∈ lw_all := lw_g (lw_at lw_m1 163 rfl) rfl
theorem q183 : (Jvm.Cond.privateMethod ({ cls := "RowLegaliserModel", name := "badWeight", desc := "(I)Z" } : Jvm.MethodName)) ∈ lw_tbl := lw_at lw_m1 164 rfl
theorem q184 : (Jvm.Cond.instanceMethod ({ cls := "RowLegaliserModel", name := "badWeight", desc := "(I)Z" } : Jvm.MethodName)) ∈ lw_all := lw_g (lw_at lw_m1 165 rfl) rfl
theorem q185 : (Jvm.Cond.code ({ cls := "RowLegaliserModel", name := "badWeight", desc := "(I)Z" } : Jvm.MethodName) prog_3_method_3_code (2 : Nat) (Option.some Jvm.ClassFile.FieldType.boolean)) ∈ lw_all := lw_g (lw_at lw_m1 166 rfl) rfl
theorem q187 : (Jvm.Cond.instanceMethod ({ cls := "RowLegaliserModel", name := "move", desc := "(II)I" } : Jvm.MethodName)) ∈ lw_all := lw_g (lw_at lw_m1 168 rfl) rfl
theorem q188 : (Jvm.Cond.selects "RowLegaliserModel" ({ cls := "RowLegaliserModel", name := "move", desc := "(II)I" } : Jvm.MethodName) ({ cls := "RowLegaliserModel", name := "move", desc := "(II)I" } : Jvm.MethodName)) ∈ lw_all := lw_g (lw_at lw_m1 169 rfl) rfl
theorem q189 : (Jvm.Cond.code ({ cls := "RowLegaliserModel", name := "move", desc := "(II)I" } : Jvm.MethodName) prog_3_method_6_code (4 : Nat) (Option.some Jvm.ClassFile.FieldType.int)) ∈ lw_all := lw_g (lw_at lw_m1 170 rfl) rfl
theorem q190 : (Jvm.Cond.methodLink "RowLegaliserModel" (42 : Nat) ({ cls := "RowLegaliserModel", name := "badCell", desc := "(I)Z" } : Jvm.MethodName)) ∈ lw_all := lw_g (lw_at lw_m1 171 rfl) rfl
theorem q191 : (Jvm.Cond.privateMethod ({ cls := "RowLegaliserModel", name := "badCell", desc := "(I)Z" } : Jvm.MethodName)) ∈ lw_tbl := lw_at lw_m1 172 rfl
theorem q192 : (Jvm.Cond.instanceMethod ({ cls := "RowLegaliserModel", name := "badCell", desc := "(I)Z" } : Jvm.MethodName)) ∈ lw_all := lw_g (lw_at lw_m1 173 rfl) rfl
theorem q193 : (Jvm.Cond.code ({ cls := "RowLegaliserModel", name := "badCell", desc := "(I)Z" } : Jvm.MethodName) prog_3_method_4_code (2 : Nat) (Option.some Jvm.ClassFile.FieldType.boolean)) ∈ lw_all := lw_g (lw_at lw_m1 174 rfl) rfl
theorem q195 : (Jvm.Cond.instanceMethod ({ cls := "RowLegaliserModel", name := "reweigh", desc := "(II)I" } : Jvm.MethodName)) ∈ lw_all := lw_g (lw_at lw_m1 176 rfl) rfl
theorem q196 : (Jvm.Cond.selects "RowLegaliserModel" ({ cls := "RowLegaliserModel", name := "reweigh", desc := "(II)I" } : Jvm.MethodName) ({ cls := "RowLegaliserModel", name := "reweigh", desc := "(II)I" } : Jvm.MethodName)) ∈ lw_all := lw_g (lw_at lw_m1 177 rfl) rfl
theorem q197 : (Jvm.Cond.code ({ cls := "RowLegaliserModel", name := "reweigh", desc := "(II)I" } : Jvm.MethodName) prog_3_method_7_code (4 : Nat) (Option.some Jvm.ClassFile.FieldType.int)) ∈ lw_all := lw_g (lw_at lw_m1 178 rfl) rfl
theorem q199 : (Jvm.Cond.instanceMethod ({ cls := "RowLegaliserModel", name := "exchange", desc := "(I)I" } : Jvm.MethodName)) ∈ lw_all := lw_g (lw_at lw_m1 180 rfl) rfl
theorem q200 : (Jvm.Cond.selects "RowLegaliserModel" ({ cls := "RowLegaliserModel", name := "exchange", desc := "(I)I" } : Jvm.MethodName) ({ cls := "RowLegaliserModel", name := "exchange", desc := "(I)I" } : Jvm.MethodName)) ∈ lw_all := lw_g (lw_at lw_m1 181 rfl) rfl
theorem q201 : (Jvm.Cond.code ({ cls := "RowLegaliserModel", name := "exchange", desc := "(I)I" } : Jvm.MethodName) prog_3_method_8_code (5 : Nat) (Option.some Jvm.ClassFile.FieldType.int)) ∈ lw_all := lw_g (lw_at lw_m1 182 rfl) rfl
theorem q203 : (Jvm.Cond.instanceMethod ({ cls := "RowLegaliserModel", name := "drop", desc := "()I" } : Jvm.MethodName)) ∈ lw_all := lw_g (lw_at lw_m1 184 rfl) rfl
theorem q204 : (Jvm.Cond.selects "RowLegaliserModel" ({ cls := "RowLegaliserModel", name := "drop", desc := "()I" } : Jvm.MethodName) ({ cls := "RowLegaliserModel", name := "drop", desc := "()I" } : Jvm.MethodName)) ∈ lw_all := lw_g (lw_at lw_m1 185 rfl) rfl
theorem q205 : (Jvm.Cond.code ({ cls := "RowLegaliserModel", name := "drop", desc := "()I" } : Jvm.MethodName) prog_3_method_9_code (1 : Nat) (Option.some Jvm.ClassFile.FieldType.int)) ∈ lw_all := lw_g (lw_at lw_m1 186 rfl) rfl
theorem q207 : (Jvm.Cond.instanceMethod ({ cls := "RowLegaliserModel", name := "cost", desc := "()I" } : Jvm.MethodName)) ∈ lw_all := lw_g (lw_at lw_m1 188 rfl) rfl
theorem q208 : (Jvm.Cond.selects "RowLegaliserModel" ({ cls := "RowLegaliserModel", name := "cost", desc := "()I" } : Jvm.MethodName) ({ cls := "RowLegaliserModel", name := "cost", desc := "()I" } : Jvm.MethodName)) ∈ lw_all := lw_g (lw_at lw_m1 189 rfl) rfl
theorem q209 : (Jvm.Cond.code ({ cls := "RowLegaliserModel", name := "cost", desc := "()I" } : Jvm.MethodName) prog_3_method_16_code (1 : Nat) (Option.some Jvm.ClassFile.FieldType.int)) ∈ lw_all := lw_g (lw_at lw_m1 190 rfl) rfl
theorem q210 : (Jvm.Cond.methodLink "RowLegaliserModel" (56 : Nat) ({ cls := "RowLegaliserModel", name := "costOf", desc := "(I)I" } : Jvm.MethodName)) ∈ lw_all := lw_g (lw_at lw_m1 191 rfl) rfl
theorem q211 : (Jvm.Cond.instanceMethod ({ cls := "RowLegaliserModel", name := "costOf", desc := "(I)I" } : Jvm.MethodName)) ∈ lw_all := lw_g (lw_at lw_m1 192 rfl) rfl
theorem q212 : (Jvm.Cond.selects "RowLegaliserModel" ({ cls := "RowLegaliserModel", name := "costOf", desc := "(I)I" } : Jvm.MethodName) ({ cls := "RowLegaliserModel", name := "costOf", desc := "(I)I" } : Jvm.MethodName)) ∈ lw_all := lw_g (lw_at lw_m1 193 rfl) rfl
theorem q213 : (Jvm.Cond.code ({ cls := "RowLegaliserModel", name := "costOf", desc := "(I)I" } : Jvm.MethodName) prog_3_method_17_code (3 : Nat) (Option.some Jvm.ClassFile.FieldType.int)) ∈ lw_all := lw_g (lw_at lw_m1 194 rfl) rfl
theorem q214 : (Jvm.Cond.methodLink "RowLegaliserModel" (60 : Nat) ({ cls := "RowLegaliserModel", name := "fillUp", desc := "(I)V" } : Jvm.MethodName)) ∈ lw_all := lw_g (lw_at lw_m1 195 rfl) rfl
theorem q215 : (Jvm.Cond.privateMethod ({ cls := "RowLegaliserModel", name := "fillUp", desc := "(I)V" } : Jvm.MethodName)) ∈ lw_tbl := lw_at lw_m1 196 rfl
theorem q216 : (Jvm.Cond.instanceMethod ({ cls := "RowLegaliserModel", name := "fillUp", desc := "(I)V" } : Jvm.MethodName)) ∈ lw_all := lw_g (lw_at lw_m1 197 rfl) rfl
theorem q217 : (Jvm.Cond.code ({ cls := "RowLegaliserModel", name := "fillUp", desc := "(I)V" } : Jvm.MethodName) prog_3_method_13_code (7 : Nat) (Option.none : Option Jvm.ClassFile.FieldType)) ∈ lw_all := lw_g (lw_at lw_m1 198 rfl) rfl
theorem q218 : (Jvm.Cond.constant "RowLegaliserModel" (45 : Nat) (1000000 : Int32)) ∈ lw_all := lw_g (lw_at lw_m1 199 rfl) rfl
theorem q219 : (Jvm.Cond.methodLink "RowLegaliserModel" (46 : Nat) ({ cls := "RowLegaliserModel", name := "least", desc := "(II)I" } : Jvm.MethodName)) ∈ lw_all := lw_g (lw_at lw_m1 200 rfl) rfl
theorem q220 : (Jvm.Cond.privateMethod ({ cls := "RowLegaliserModel", name := "least", desc := "(II)I" } : Jvm.MethodName)) ∈ lw_tbl := lw_at lw_m1 201 rfl
theorem q221 : (Jvm.Cond.instanceMethod ({ cls := "RowLegaliserModel", name := "least", desc := "(II)I" } : Jvm.MethodName)) ∈ lw_all := lw_g (lw_at lw_m1 202 rfl) rfl
theorem q222 : (Jvm.Cond.code ({ cls := "RowLegaliserModel", name := "least", desc := "(II)I" } : Jvm.MethodName) prog_3_method_11_code (3 : Nat) (Option.some Jvm.ClassFile.FieldType.int)) ∈ lw_all := lw_g (lw_at lw_m1 203 rfl) rfl
theorem q223 : (Jvm.Cond.methodLink "RowLegaliserModel" (50 : Nat) ({ cls := "RowLegaliserModel", name := "own", desc := "(II)I" } : Jvm.MethodName)) ∈ lw_all := lw_g (lw_at lw_m1 204 rfl) rfl
theorem q224 : (Jvm.Cond.privateMethod ({ cls := "RowLegaliserModel", name := "own", desc := "(II)I" } : Jvm.MethodName)) ∈ lw_tbl := lw_at lw_m1 205 rfl
theorem q225 : (Jvm.Cond.instanceMethod ({ cls := "RowLegaliserModel", name := "own", desc := "(II)I" } : Jvm.MethodName)) ∈ lw_all := lw_g (lw_at lw_m1 206 rfl) rfl
theorem q226 : (Jvm.Cond.code ({ cls := "RowLegaliserModel", name := "own", desc := "(II)I" } : Jvm.MethodName) prog_3_method_10_code (4 : Nat) (Option.some Jvm.ClassFile.FieldType.int)) ∈ lw_all := lw_g (lw_at lw_m1 207 rfl) rfl
theorem q227 : (Jvm.Cond.methodLink "RowLegaliserModel" (53 : Nat) ({ cls := "RowLegaliserModel", name := "sum", desc := "(II)I" } : Jvm.MethodName)) ∈ lw_all := lw_g (lw_at lw_m1 208 rfl) rfl
theorem q228 : (Jvm.Cond.privateMethod ({ cls := "RowLegaliserModel", name := "sum", desc := "(II)I" } : Jvm.MethodName)) ∈ lw_tbl := lw_at lw_m1 209 rfl
theorem q229 : (Jvm.Cond.instanceMethod ({ cls := "RowLegaliserModel", name := "sum", desc := "(II)I" } : Jvm.MethodName)) ∈ lw_all := lw_g (lw_at lw_m1 210 rfl) rfl
theorem q230 : (Jvm.Cond.code ({ cls := "RowLegaliserModel", name := "sum", desc := "(II)I" } : Jvm.MethodName) prog_3_method_12_code (3 : Nat) (Option.some Jvm.ClassFile.FieldType.int)) ∈ lw_all := lw_g (lw_at lw_m1 211 rfl) rfl
theorem q231 : (Jvm.Cond.methodLink "RowLegaliserModel" (64 : Nat) ({ cls := "RowLegaliserModel", name := "leastUp", desc := "(I)I" } : Jvm.MethodName)) ∈ lw_all := lw_g (lw_at lw_m1 212 rfl) rfl
theorem q232 : (Jvm.Cond.privateMethod ({ cls := "RowLegaliserModel", name := "leastUp", desc := "(I)I" } : Jvm.MethodName)) ∈ lw_tbl := lw_at lw_m1 213 rfl
theorem q233 : (Jvm.Cond.instanceMethod ({ cls := "RowLegaliserModel", name := "leastUp", desc := "(I)I" } : Jvm.MethodName)) ∈ lw_all := lw_g (lw_at lw_m1 214 rfl) rfl
theorem q234 : (Jvm.Cond.code ({ cls := "RowLegaliserModel", name := "leastUp", desc := "(I)I" } : Jvm.MethodName) prog_3_method_15_code (4 : Nat) (Option.some Jvm.ClassFile.FieldType.int)) ∈ lw_all := lw_g (lw_at lw_m1 215 rfl) rfl
theorem q237 : (Jvm.Cond.instanceMethod ({ cls := "RowLegaliserModel", name := "leftmost", desc := "(I)I" } : Jvm.MethodName)) ∈ lw_all := lw_g (lw_at lw_m1 218 rfl) rfl
theorem q238 : (Jvm.Cond.selects "RowLegaliserModel" ({ cls := "RowLegaliserModel", name := "leftmost", desc := "(I)I" } : Jvm.MethodName) ({ cls := "RowLegaliserModel", name := "leftmost", desc := "(I)I" } : Jvm.MethodName)) ∈ lw_all := lw_g (lw_at lw_m1 219 rfl) rfl
theorem q239 : (Jvm.Cond.code ({ cls := "RowLegaliserModel", name := "leftmost", desc := "(I)I" } : Jvm.MethodName) prog_3_method_18_code (7 : Nat) (Option.some Jvm.ClassFile.FieldType.int)) ∈ lw_all := lw_g (lw_at lw_m1 220 rfl) rfl
theorem q241 : (Jvm.Cond.instanceMethod ({ cls := "RowLegaliserModel", name := "costAt", desc := "(II)I" } : Jvm.MethodName)) ∈ lw_all := lw_g (lw_at lw_m1 222 rfl) rfl
theorem q242 : (Jvm.Cond.selects "RowLegaliserModel" ({ cls := "RowLegaliserModel", name := "costAt", desc := "(II)I" } : Jvm.MethodName) ({ cls := "RowLegaliserModel", name := "costAt", desc := "(II)I" } : Jvm.MethodName)) ∈ lw_all := lw_g (lw_at lw_m1 223 rfl) rfl
theorem q243 : (Jvm.Cond.code ({ cls := "RowLegaliserModel", name := "costAt", desc := "(II)I" } : Jvm.MethodName) prog_3_method_19_code (4 : Nat) (Option.some Jvm.ClassFile.FieldType.int)) ∈ lw_all := lw_g (lw_at lw_m1 224 rfl) rfl
theorem q244 : (Jvm.Cond.methodLink "RowLegaliserModel" (67 : Nat) ({ cls := "RowLegaliserModel", name := "fillDown", desc := "()V" } : Jvm.MethodName)) ∈ lw_all := lw_g (lw_at lw_m1 225 rfl) rfl
theorem q245 : (Jvm.Cond.privateMethod ({ cls := "RowLegaliserModel", name := "fillDown", desc := "()V" } : Jvm.MethodName)) ∈ lw_tbl := lw_at lw_m1 226 rfl
theorem q246 : (Jvm.Cond.instanceMethod ({ cls := "RowLegaliserModel", name := "fillDown", desc := "()V" } : Jvm.MethodName)) ∈ lw_all := lw_g (lw_at lw_m1 227 rfl) rfl
theorem q247 : (Jvm.Cond.code ({ cls := "RowLegaliserModel", name := "fillDown", desc := "()V" } : Jvm.MethodName) prog_3_method_14_code (6 : Nat) (Option.none : Option Jvm.ClassFile.FieldType)) ∈ lw_all := lw_g (lw_at lw_m1 228 rfl) rfl
theorem q249 : (Jvm.Cond.instanceMethod ({ cls := "RowLegaliserModel", name := "room", desc := "()I" } : Jvm.MethodName)) ∈ lw_all := lw_g (lw_at lw_m1 230 rfl) rfl
theorem q250 : (Jvm.Cond.selects "RowLegaliserModel" ({ cls := "RowLegaliserModel", name := "room", desc := "()I" } : Jvm.MethodName) ({ cls := "RowLegaliserModel", name := "room", desc := "()I" } : Jvm.MethodName)) ∈ lw_all := lw_g (lw_at lw_m1 231 rfl) rfl
theorem q251 : (Jvm.Cond.code ({ cls := "RowLegaliserModel", name := "room", desc := "()I" } : Jvm.MethodName) prog_3_method_20_code (3 : Nat) (Option.some Jvm.ClassFile.FieldType.int)) ∈ lw_all := lw_g (lw_at lw_m1 232 rfl) rfl
theorem q253 : (Jvm.Cond.instanceMethod ({ cls := "RowLegaliserModel", name := "content", desc := "()I" } : Jvm.MethodName)) ∈ lw_all := lw_g (lw_at lw_m1 234 rfl) rfl
theorem q254 : (Jvm.Cond.selects "RowLegaliserModel" ({ cls := "RowLegaliserModel", name := "content", desc := "()I" } : Jvm.MethodName) ({ cls := "RowLegaliserModel", name := "content", desc := "()I" } : Jvm.MethodName)) ∈ lw_all := lw_g (lw_at lw_m1 235 rfl) rfl
theorem q255 : (Jvm.Cond.code ({ cls := "RowLegaliserModel", name := "content", desc := "()I" } : Jvm.MethodName) prog_3_method_22_code (5 : Nat) (Option.some Jvm.ClassFile.FieldType.int)) ∈ lw_all := lw_g (lw_at lw_m1 236 rfl) rfl
theorem q256 : (Jvm.Cond.methodLink "RowLegaliserModel" (70 : Nat) ({ cls := "RowLegaliserModel", name := "allContent", desc := "(I)Z" } : Jvm.MethodName)) ∈ lw_all := lw_g (lw_at lw_m1 237 rfl) rfl
theorem q257 : (Jvm.Cond.privateMethod ({ cls := "RowLegaliserModel", name := "allContent", desc := "(I)Z" } : Jvm.MethodName)) ∈ lw_tbl := lw_at lw_m1 238 rfl
theorem q258 : (Jvm.Cond.instanceMethod ({ cls := "RowLegaliserModel", name := "allContent", desc := "(I)Z" } : Jvm.MethodName)) ∈ lw_all := lw_g (lw_at lw_m1 239 rfl) rfl
theorem q259 : (Jvm.Cond.code ({ cls := "RowLegaliserModel", name := "allContent", desc := "(I)Z" } : Jvm.MethodName) prog_3_method_21_code (4 : Nat) (Option.some Jvm.ClassFile.FieldType.boolean)) ∈ lw_all := lw_g (lw_at lw_m2 0 rfl) rfl
theorem in_X2 : ∀ w ∈ wsX20, w ∈ lw_all := lw_in wsX20 [157, 159, 161, 163, 165, 167, 169, 171] (by decide +kernel) (by decide +kernel)
end
section
/-! THE WALK'S NUMBERS: an Int32 as the image of an Int; an array of ints as the image of a function on Int -/
def jI (z : Int) : Int32 := Int32.ofInt z
theorem jI_toInt {z : Int} (h : -2147483648 ≤ z ∧ z < 2147483648) : (jI z).toInt = z := Int32.toInt_ofInt_of_le (by omega) (by omega)
theorem jI_of (x : Int32) : jI x.toInt = x := Int32.ofInt_toInt x
theorem jI_rng (x : Int32) : -2147483648 ≤ x.toInt ∧ x.toInt < 2147483648 := by
  have h1 := Int32.le_toInt x
  have h2 := Int32.toInt_lt x
  omega
theorem jI_add (a b : Int) : jI a + jI b = jI (a + b) := (Int32.ofInt_add a b).symm
theorem jI_sub (a b : Int) : jI a - jI b = jI (a - b) := (Int32.ofInt_sub a b).symm
theorem jI_mul (a b : Int) : jI a * jI b = jI (a * b) := (Int32.ofInt_mul a b).symm
theorem jI_lt {a b : Int} (ha : -2147483648 ≤ a ∧ a < 2147483648) (hb : -2147483648 ≤ b ∧ b < 2147483648) : jI a < jI b ↔ a < b := by rw [Int32.lt_iff_toInt_lt, jI_toInt ha, jI_toInt hb]
theorem jI_le {a b : Int} (ha : -2147483648 ≤ a ∧ a < 2147483648) (hb : -2147483648 ≤ b ∧ b < 2147483648) : jI a ≤ jI b ↔ a ≤ b := by rw [Int32.le_iff_toInt_le, jI_toInt ha, jI_toInt hb]
theorem jI_eq {a b : Int} (ha : -2147483648 ≤ a ∧ a < 2147483648) (hb : -2147483648 ≤ b ∧ b < 2147483648) : jI a = jI b ↔ a = b := ⟨fun h => by have h1 := congrArg Int32.toInt h; rwa [jI_toInt ha, jI_toInt hb] at h1, fun h => by rw [h]⟩
theorem jI_0 : jI 0 = 0 := rfl
theorem jI_lt0 {a : Int} (ha : -2147483648 ≤ a ∧ a < 2147483648) : jI a < 0 ↔ a < 0 := by rw [← jI_0]; exact jI_lt ha (by omega)
theorem jI_gt0 {a : Int} (ha : -2147483648 ≤ a ∧ a < 2147483648) : 0 < jI a ↔ 0 < a := by rw [← jI_0]; exact jI_lt (by omega) ha
theorem jI_le0 {a : Int} (ha : -2147483648 ≤ a ∧ a < 2147483648) : jI a ≤ 0 ↔ a ≤ 0 := by rw [← jI_0]; exact jI_le ha (by omega)
theorem jI_ge0 {a : Int} (ha : -2147483648 ≤ a ∧ a < 2147483648) : 0 ≤ jI a ↔ 0 ≤ a := by rw [← jI_0]; exact jI_le (by omega) ha
theorem jI_eq0 {a : Int} (ha : -2147483648 ≤ a ∧ a < 2147483648) : jI a = 0 ↔ a = 0 := by rw [← jI_0]; exact jI_eq ha (by omega)
theorem jI_clamp {i : Int} (h : 0 ≤ i ∧ i < 2147483648) : (jI i).toNatClampNeg = i.toNat := Int32.toNatClampNeg_ofInt_of_le (by omega) (by omega)
theorem jI_in {i : Int} {n : Nat} (h : 0 ≤ i ∧ i < (n : Int)) (hn : n < 2147483648) : vp_in (jI i) n := vp_in_iff.mpr (by rw [jI_toInt (by omega)]; omega)
def aI (f : Int → Int) : Nat → Int32 := fun j => jI (f (j : Int))
def uI (f : Int → Int) (i x : Int) : Int → Int := fun j => if j = i then x else f j
theorem uI_s {f : Int → Int} {i x : Int} : uI f i x i = x := if_pos rfl
theorem uI_n {f : Int → Int} {i x j : Int} (h : j ≠ i) : uI f i x j = f j := if_neg h
theorem aI_at {f : Int → Int} {i : Int} (h : 0 ≤ i ∧ i < 2147483648) : aI f (jI i).toNatClampNeg = jI (f i) := by
  unfold aI
  rw [jI_clamp h, Int.toNat_of_nonneg h.1]
theorem aI_up {f : Int → Int} {i x : Int} (h : 0 ≤ i ∧ i < 2147483648) : upd (aI f) (jI i).toNatClampNeg (jI x) = aI (uI f i x) := by
  funext j
  rw [jI_clamp h]
  unfold upd aI uI
  by_cases hj : j = i.toNat
  · rw [if_pos hj, if_pos (by omega)]
  · rw [if_neg hj, if_neg (by omega)]
theorem aI_z : (fun _ : Nat => (0 : Int32)) = aI (fun _ => 0) := rfl
section JI
variable {p : Program} {l : Launch} {e : Env} {R : Room} {s : State} {m : MethodId} {args : Array Value} {below : List Frame} {meth : Method} {c : Code} {H : Heap} {locs : List Loc} {cells slots : Nat} {Q : State → Prop}
variable {cc : ByteArray} {pc : Nat} {ls : Array Slot} {rest : List Value} {D : va_G} {cl : List vw_C} {A : Nat → Prop} {ad : Nat} {tys : List (ClassId × FieldType)} {ws : va_W} {H0 : Heap}
theorem ji_add (hexec : p.tables.exec = Jvm.exec) (hb : c.code = cc) {a b : Int} (hdg : decode cc pc = .ok (.iadd, 1)) (k : W p l e R s m args below meth c H locs cells slots Q (F0 m (pc + 1) ls (.int (jI (a + b)) :: rest))) : W p l e R s m args below meth c H locs cells slots Q (F0 m pc ls (.int (jI b) :: .int (jI a) :: rest)) :=
  lv_iadd hexec hb hdg (by rw [jI_add]; exact k)
theorem ji_sub (hexec : p.tables.exec = Jvm.exec) (hb : c.code = cc) {a b : Int} (hdg : decode cc pc = .ok (.isub, 1)) (k : W p l e R s m args below meth c H locs cells slots Q (F0 m (pc + 1) ls (.int (jI (a - b)) :: rest))) : W p l e R s m args below meth c H locs cells slots Q (F0 m pc ls (.int (jI b) :: .int (jI a) :: rest)) :=
  lv_isub hexec hb hdg (by rw [jI_sub]; exact k)
theorem ji_mul (hexec : p.tables.exec = Jvm.exec) (hb : c.code = cc) {a b : Int} (hdg : decode cc pc = .ok (.imul, 1)) (k : W p l e R s m args below meth c H locs cells slots Q (F0 m (pc + 1) ls (.int (jI (a * b)) :: rest))) : W p l e R s m args below meth c H locs cells slots Q (F0 m pc ls (.int (jI b) :: .int (jI a) :: rest)) :=
  lv_imul hexec hb hdg (by rw [jI_mul]; exact k)
theorem ji_iinc (hexec : p.tables.exec = Jvm.exec) (hb : c.code = cc) {i nL k : Nat} {n : Int} {a v : Int} {lv lv' : List (Nat × Value)} (hdg : decode cc pc = .ok (.iinc i n, 3)) (h : lv_has ls nL lv) (hk : lv[k]? = some (i, .int (jI a))) (hv : a + n = v) (hn : i < nL) (hl : (i, Value.int (jI v)) :: lv.filter (fun q => !(q.1 == i) && !(q.1 + 1 == i && q.2.category == 2)) = lv')
    (kk : ∀ ls' : Array Slot, lv_has ls' nL lv' → W p l e R s m args below meth c H locs cells slots Q (F0 m (pc + 3) ls' rest)) : W p l e R s m args below meth c H locs cells slots Q (F0 m pc ls rest) :=
  lv_iinc hexec hb hdg h hk (by rw [← hv]; exact jI_add a n) hn hl kk
theorem ji_icmp_eq (hexec : p.tables.exec = Jvm.exec) (hb : c.code = cc) {a b : Int} {off : Int} {tgt : Nat} (hdg : decode cc pc = .ok (.if_icmp .eq off, 3)) (ht : (pc : Int) + off = (tgt : Int)) (ha : -2147483648 ≤ a ∧ a < 2147483648) (hb2 : -2147483648 ≤ b ∧ b < 2147483648)
    (kt : a = b → W p l e R s m args below meth c H locs cells slots Q (F0 m tgt ls rest)) (kf : ¬ a = b → W p l e R s m args below meth c H locs cells slots Q (F0 m (pc + 3) ls rest)) : W p l e R s m args below meth c H locs cells slots Q (F0 m pc ls (.int (jI b) :: .int (jI a) :: rest)) :=
  lv_icmp_eq hexec hb hdg ht (fun h => kt ((jI_eq ha hb2).mp h)) (fun h => kf (fun q => h ((jI_eq ha hb2).mpr q)))
theorem ji_icmp_ne (hexec : p.tables.exec = Jvm.exec) (hb : c.code = cc) {a b : Int} {off : Int} {tgt : Nat} (hdg : decode cc pc = .ok (.if_icmp .ne off, 3)) (ht : (pc : Int) + off = (tgt : Int)) (ha : -2147483648 ≤ a ∧ a < 2147483648) (hb2 : -2147483648 ≤ b ∧ b < 2147483648)
    (kt : ¬ a = b → W p l e R s m args below meth c H locs cells slots Q (F0 m tgt ls rest)) (kf : a = b → W p l e R s m args below meth c H locs cells slots Q (F0 m (pc + 3) ls rest)) : W p l e R s m args below meth c H locs cells slots Q (F0 m pc ls (.int (jI b) :: .int (jI a) :: rest)) :=
  lv_icmp_ne hexec hb hdg ht (fun h => kt (fun q => h ((jI_eq ha hb2).mpr q))) (fun h => kf ((jI_eq ha hb2).mp h))
theorem ji_icmp_lt (hexec : p.tables.exec = Jvm.exec) (hb : c.code = cc) {a b : Int} {off : Int} {tgt : Nat} (hdg : decode cc pc = .ok (.if_icmp .lt off, 3)) (ht : (pc : Int) + off = (tgt : Int)) (ha : -2147483648 ≤ a ∧ a < 2147483648) (hb2 : -2147483648 ≤ b ∧ b < 2147483648)
    (kt : a < b → W p l e R s m args below meth c H locs cells slots Q (F0 m tgt ls rest)) (kf : b ≤ a → W p l e R s m args below meth c H locs cells slots Q (F0 m (pc + 3) ls rest)) : W p l e R s m args below meth c H locs cells slots Q (F0 m pc ls (.int (jI b) :: .int (jI a) :: rest)) :=
  lv_icmp_lt hexec hb hdg ht (fun h => kt ((jI_lt ha hb2).mp h)) (fun h => kf (by have h2 := mt (jI_lt ha hb2).mpr h; omega))
theorem ji_icmp_ge (hexec : p.tables.exec = Jvm.exec) (hb : c.code = cc) {a b : Int} {off : Int} {tgt : Nat} (hdg : decode cc pc = .ok (.if_icmp .ge off, 3)) (ht : (pc : Int) + off = (tgt : Int)) (ha : -2147483648 ≤ a ∧ a < 2147483648) (hb2 : -2147483648 ≤ b ∧ b < 2147483648)
    (kt : b ≤ a → W p l e R s m args below meth c H locs cells slots Q (F0 m tgt ls rest)) (kf : a < b → W p l e R s m args below meth c H locs cells slots Q (F0 m (pc + 3) ls rest)) : W p l e R s m args below meth c H locs cells slots Q (F0 m pc ls (.int (jI b) :: .int (jI a) :: rest)) :=
  lv_icmp_ge hexec hb hdg ht (fun h => kt ((jI_le hb2 ha).mp h)) (fun h => kf (by have h2 := mt (jI_le hb2 ha).mpr h; omega))
theorem ji_icmp_gt (hexec : p.tables.exec = Jvm.exec) (hb : c.code = cc) {a b : Int} {off : Int} {tgt : Nat} (hdg : decode cc pc = .ok (.if_icmp .gt off, 3)) (ht : (pc : Int) + off = (tgt : Int)) (ha : -2147483648 ≤ a ∧ a < 2147483648) (hb2 : -2147483648 ≤ b ∧ b < 2147483648)
    (kt : b < a → W p l e R s m args below meth c H locs cells slots Q (F0 m tgt ls rest)) (kf : a ≤ b → W p l e R s m args below meth c H locs cells slots Q (F0 m (pc + 3) ls rest)) : W p l e R s m args below meth c H locs cells slots Q (F0 m pc ls (.int (jI b) :: .int (jI a) :: rest)) :=
  lv_icmp_gt hexec hb hdg ht (fun h => kt ((jI_lt hb2 ha).mp h)) (fun h => kf (by have h2 := mt (jI_lt hb2 ha).mpr h; omega))
theorem ji_icmp_le (hexec : p.tables.exec = Jvm.exec) (hb : c.code = cc) {a b : Int} {off : Int} {tgt : Nat} (hdg : decode cc pc = .ok (.if_icmp .le off, 3)) (ht : (pc : Int) + off = (tgt : Int)) (ha : -2147483648 ≤ a ∧ a < 2147483648) (hb2 : -2147483648 ≤ b ∧ b < 2147483648)
    (kt : a ≤ b → W p l e R s m args below meth c H locs cells slots Q (F0 m tgt ls rest)) (kf : b < a → W p l e R s m args below meth c H locs cells slots Q (F0 m (pc + 3) ls rest)) : W p l e R s m args below meth c H locs cells slots Q (F0 m pc ls (.int (jI b) :: .int (jI a) :: rest)) :=
  lv_icmp_le hexec hb hdg ht (fun h => kt ((jI_le ha hb2).mp h)) (fun h => kf (by have h2 := mt (jI_le ha hb2).mpr h; omega))
theorem ji_if_eq (hexec : p.tables.exec = Jvm.exec) (hb : c.code = cc) {a : Int} {off : Int} {tgt : Nat} (hdg : decode cc pc = .ok (.ifCond .eq off, 3)) (ht : (pc : Int) + off = (tgt : Int)) (ha : -2147483648 ≤ a ∧ a < 2147483648)
    (kt : a = 0 → W p l e R s m args below meth c H locs cells slots Q (F0 m tgt ls rest)) (kf : ¬ a = 0 → W p l e R s m args below meth c H locs cells slots Q (F0 m (pc + 3) ls rest)) : W p l e R s m args below meth c H locs cells slots Q (F0 m pc ls (.int (jI a) :: rest)) :=
  lv_if_eq hexec hb hdg ht (fun h => kt ((jI_eq0 ha).mp h)) (fun h => kf (fun q => h ((jI_eq0 ha).mpr q)))
theorem ji_if_ne (hexec : p.tables.exec = Jvm.exec) (hb : c.code = cc) {a : Int} {off : Int} {tgt : Nat} (hdg : decode cc pc = .ok (.ifCond .ne off, 3)) (ht : (pc : Int) + off = (tgt : Int)) (ha : -2147483648 ≤ a ∧ a < 2147483648)
    (kt : ¬ a = 0 → W p l e R s m args below meth c H locs cells slots Q (F0 m tgt ls rest)) (kf : a = 0 → W p l e R s m args below meth c H locs cells slots Q (F0 m (pc + 3) ls rest)) : W p l e R s m args below meth c H locs cells slots Q (F0 m pc ls (.int (jI a) :: rest)) :=
  lv_if_ne hexec hb hdg ht (fun h => kt (fun q => h ((jI_eq0 ha).mpr q))) (fun h => kf ((jI_eq0 ha).mp h))
theorem ji_if_lt (hexec : p.tables.exec = Jvm.exec) (hb : c.code = cc) {a : Int} {off : Int} {tgt : Nat} (hdg : decode cc pc = .ok (.ifCond .lt off, 3)) (ht : (pc : Int) + off = (tgt : Int)) (ha : -2147483648 ≤ a ∧ a < 2147483648)
    (kt : a < 0 → W p l e R s m args below meth c H locs cells slots Q (F0 m tgt ls rest)) (kf : 0 ≤ a → W p l e R s m args below meth c H locs cells slots Q (F0 m (pc + 3) ls rest)) : W p l e R s m args below meth c H locs cells slots Q (F0 m pc ls (.int (jI a) :: rest)) :=
  lv_if_lt hexec hb hdg ht (fun h => kt ((jI_lt0 ha).mp h)) (fun h => kf (by have h2 := mt (jI_lt0 ha).mpr h; omega))
theorem ji_if_ge (hexec : p.tables.exec = Jvm.exec) (hb : c.code = cc) {a : Int} {off : Int} {tgt : Nat} (hdg : decode cc pc = .ok (.ifCond .ge off, 3)) (ht : (pc : Int) + off = (tgt : Int)) (ha : -2147483648 ≤ a ∧ a < 2147483648)
    (kt : 0 ≤ a → W p l e R s m args below meth c H locs cells slots Q (F0 m tgt ls rest)) (kf : a < 0 → W p l e R s m args below meth c H locs cells slots Q (F0 m (pc + 3) ls rest)) : W p l e R s m args below meth c H locs cells slots Q (F0 m pc ls (.int (jI a) :: rest)) :=
  lv_if_ge hexec hb hdg ht (fun h => kt ((jI_ge0 ha).mp h)) (fun h => kf (by have h2 := mt (jI_ge0 ha).mpr h; omega))
theorem ji_if_gt (hexec : p.tables.exec = Jvm.exec) (hb : c.code = cc) {a : Int} {off : Int} {tgt : Nat} (hdg : decode cc pc = .ok (.ifCond .gt off, 3)) (ht : (pc : Int) + off = (tgt : Int)) (ha : -2147483648 ≤ a ∧ a < 2147483648)
    (kt : 0 < a → W p l e R s m args below meth c H locs cells slots Q (F0 m tgt ls rest)) (kf : a ≤ 0 → W p l e R s m args below meth c H locs cells slots Q (F0 m (pc + 3) ls rest)) : W p l e R s m args below meth c H locs cells slots Q (F0 m pc ls (.int (jI a) :: rest)) :=
  lv_if_gt hexec hb hdg ht (fun h => kt ((jI_gt0 ha).mp h)) (fun h => kf (by have h2 := mt (jI_gt0 ha).mpr h; omega))
theorem ji_if_le (hexec : p.tables.exec = Jvm.exec) (hb : c.code = cc) {a : Int} {off : Int} {tgt : Nat} (hdg : decode cc pc = .ok (.ifCond .le off, 3)) (ht : (pc : Int) + off = (tgt : Int)) (ha : -2147483648 ≤ a ∧ a < 2147483648)
    (kt : a ≤ 0 → W p l e R s m args below meth c H locs cells slots Q (F0 m tgt ls rest)) (kf : 0 < a → W p l e R s m args below meth c H locs cells slots Q (F0 m (pc + 3) ls rest)) : W p l e R s m args below meth c H locs cells slots Q (F0 m pc ls (.int (jI a) :: rest)) :=
  lv_if_le hexec hb hdg ht (fun h => kt ((jI_le0 ha).mp h)) (fun h => kf (by have h2 := mt (jI_le0 ha).mpr h; omega))
theorem ji_ld (hexec : p.tables.exec = Jvm.exec) (hb : c.code = cc) (hK : va_K D cl tys s) (hP : va_P D cl ws H) (q0 t0 : Nat) {cA : ClassId} {n : Nat} {f : Int → Int} (ha : ws[q0]? = some (ad, .inl (cA, n, .inl (aI f)))) (ht : tys[t0]? = some (cA, .int)) {i : Int} (hin : 0 ≤ i ∧ i < (n : Int)) (hn : n < 2147483648) (hdg : decode cc pc = .ok (.iaload, 1))
    (kk : W p l e R s m args below meth c H locs cells slots Q (F0 m (pc + 1) ls (.int (jI (f i)) :: rest))) : W p l e R s m args below meth c H locs cells slots Q (F0 m pc ls (.int (jI i) :: .ref ad :: rest)) :=
  va_iald hexec hb hK hP q0 t0 ha ht (jI_in hin hn) hdg (by rw [aI_at (by omega)]; exact kk)
theorem ji_st (hexec : p.tables.exec = Jvm.exec) (hb : c.code = cc) (hK : va_K D cl tys s) (hP : va_P D cl ws H) (hD : va_D A ws) (hS : va_S A H0 H locs) (q0 t0 : Nat) {cA : ClassId} {n : Nat} {f : Int → Int} (ha : ws[q0]? = some (ad, .inl (cA, n, .inl (aI f)))) (ht : tys[t0]? = some (cA, .int)) {i x : Int} (hin : 0 ≤ i ∧ i < (n : Int)) (hn : n < 2147483648) (hdg : decode cc pc = .ok (.iastore, 1))
    (kk : ∀ (H1 : Heap) (locs1 : List Loc), va_P D cl (ws.set q0 (ad, .inl (cA, n, .inl (aI (uI f i x))))) H1 → va_D A (ws.set q0 (ad, .inl (cA, n, .inl (aI (uI f i x))))) → va_S A H0 H1 locs1 → W p l e R s m args below meth c H1 locs1 cells slots Q (F0 m (pc + 1) ls rest)) : W p l e R s m args below meth c H locs cells slots Q (F0 m pc ls (.int (jI x) :: .int (jI i) :: .ref ad :: rest)) :=
  va_iast hexec hb hK hP hD hS q0 t0 ha ht (jI_in hin hn) hdg (by rw [aI_up (by omega)]; exact kk)
theorem ji_const (hexec : p.tables.exec = Jvm.exec) (hb : c.code = cc) {n : Int} (hdg : decode cc pc = .ok (.iconst n, 1)) (k : W p l e R s m args below meth c H locs cells slots Q (F0 m (pc + 1) ls (.int (jI n) :: rest))) : W p l e R s m args below meth c H locs cells slots Q (F0 m pc ls rest) :=
  lv_iconst hexec hb hdg rfl k
end JI
theorem va_one {D : va_G} {cl : List vw_C} {t1 t2 : List (ClassId × FieldType)} {U : State} {d1 d2 : ClassId} {i j : Nat} (h1 : va_K D cl t1 U) (h2 : va_K D cl t2 U) (e1 : t1[i]? = some (d1, .int)) (e2 : t2[j]? = some (d2, .int)) : d1 = d2 :=
  Option.some.inj ((h1.2 i _ e1).2.symm.trans (h2.2 j _ e2).2)
end
section
/-! THE WORLDS of the two classes, and the forms of their contracts -/
abbrev vwCl : List vw_C := [(RX1, TX1, 8), (RX2, TX2, 8)]
abbrev XS : Type := Int × (Int → Int) × (Int → Int) × (Int → Int) × Int × (Int → Int) × (Int → Int)
abbrev MS : Type := Int × (Int → Int) × (Int → Int) × (Int → Int) × (Int → Int) × (Int → Int) × (Int → Int)
abbrev wX (d : ClassId) (h a1 a2 a3 a4 a5 : Nat) (L n : Int) (wd wi wt : Int → Int) (pts : Int) (pt pl : Int → Int) : va_W := [(h, .inr (0, [.int (jI L), .int (jI n), .ref a1, .ref a2, .ref a3, .int (jI pts), .ref a4, .ref a5])), (a1, .inl (d, 10, .inl (aI wd))), (a2, .inl (d, 10, .inl (aI wi))), (a3, .inl (d, 10, .inl (aI wt))), (a4, .inl (d, 64, .inl (aI pt))), (a5, .inl (d, 10, .inl (aI pl)))]
abbrev wM (d : ClassId) (h b1 b2 b3 b4 b5 b6 : Nat) (L n : Int) (wd wi wt up dn ch : Int → Int) : va_W := [(h, .inr (1, [.int (jI L), .int (jI n), .ref b1, .ref b2, .ref b3, .ref b4, .ref b5, .ref b6])), (b1, .inl (d, 10, .inl (aI wd))), (b2, .inl (d, 10, .inl (aI wi))), (b3, .inl (d, 10, .inl (aI wt))), (b4, .inl (d, 610, .inl (aI up))), (b5, .inl (d, 610, .inl (aI dn))), (b6, .inl (d, 10, .inl (aI ch)))]
abbrev wXu (d : ClassId) (h a1 a2 a3 a4 a5 : Nat) (L : Int) (u : XS) : va_W := wX d h a1 a2 a3 a4 a5 L u.1 u.2.1 u.2.2.1 u.2.2.2.1 u.2.2.2.2.1 u.2.2.2.2.2.1 u.2.2.2.2.2.2
abbrev wMu (d : ClassId) (h b1 b2 b3 b4 b5 b6 : Nat) (L : Int) (u : MS) : va_W := wM d h b1 b2 b3 b4 b5 b6 L u.1 u.2.1 u.2.2.1 u.2.2.2.1 u.2.2.2.2.1 u.2.2.2.2.2.1 u.2.2.2.2.2.2
abbrev zPp (dC : Nat → ClassId) (dI : Nat → Nat → Nat) (w : va_W) (d : ClassId) (av : List Value) : Array Value → State → Prop := va_Pc av (fun U => va_P (dC, dI) vwCl w U.heap ∧ va_K (dC, dI) vwCl [(d, .int)] U)
abbrev zPw (dC : Nat → ClassId) (dI : Nat → Nat → Nat) (w : va_W) (d : ClassId) (sz : Nat) (av : List Value) : Array Value → State → Prop := va_Pc av (fun U => U.heap.size = sz ∧ va_P (dC, dI) vwCl w U.heap ∧ va_K (dC, dI) vwCl [(d, .int)] U ∧ va_D (fun _ => True) w)
theorem zPp_bl {dC : Nat → ClassId} {dI : Nat → Nat → Nat} {w : va_W} {d : ClassId} {av : List Value} : FrameBlind (zPp dC dI w d av) := fun a U g mk q => by
  obtain ⟨q0, qP, qK⟩ := q
  exact ⟨q0, qP, va_K.moved (u := U) (U := U.calling g mk a) (Vm.Alike.refl U.vm) qK⟩
theorem zPw_bl {dC : Nat → ClassId} {dI : Nat → Nat → Nat} {w : va_W} {d : ClassId} {sz : Nat} {av : List Value} : FrameBlind (zPw dC dI w d sz av) := fun a U g mk q => by
  obtain ⟨q0, q1, qP, qK, qD⟩ := q
  exact ⟨q0, q1, qP, va_K.moved (u := U) (U := U.calling g mk a) (Vm.Alike.refl U.vm) qK, qD⟩
abbrev wXQi (dC : Nat → ClassId) (dI : Nat → Nat → Nat) (d : ClassId) (h a1 a2 a3 a4 a5 : Nat) (L : Int) (A : Nat → Prop) (post : Int → XS → Prop) : Array Value → State → Outcome → State → Prop := va_Qi (fun (r : Int32) (u : XS) => ∃ z : Int, r = jI z ∧ post z u) (fun (u : XS) t => va_P (dC, dI) vwCl (wXu d h a1 a2 a3 a4 a5 L u) t.heap ∧ va_K (dC, dI) vwCl [(d, .int)] t ∧ va_D A (wXu d h a1 a2 a3 a4 a5 L u)) A
abbrev wXQv (dC : Nat → ClassId) (dI : Nat → Nat → Nat) (d : ClassId) (h a1 a2 a3 a4 a5 : Nat) (L : Int) (A : Nat → Prop) (post : XS → Prop) : Array Value → State → Outcome → State → Prop := va_Qv (fun (u : XS) => post u) (fun (u : XS) t => va_P (dC, dI) vwCl (wXu d h a1 a2 a3 a4 a5 L u) t.heap ∧ va_K (dC, dI) vwCl [(d, .int)] t ∧ va_D A (wXu d h a1 a2 a3 a4 a5 L u)) A
abbrev wMQi (dC : Nat → ClassId) (dI : Nat → Nat → Nat) (d : ClassId) (h b1 b2 b3 b4 b5 b6 : Nat) (L : Int) (A : Nat → Prop) (post : Int → MS → Prop) : Array Value → State → Outcome → State → Prop := va_Qi (fun (r : Int32) (u : MS) => ∃ z : Int, r = jI z ∧ post z u) (fun (u : MS) t => va_P (dC, dI) vwCl (wMu d h b1 b2 b3 b4 b5 b6 L u) t.heap ∧ va_K (dC, dI) vwCl [(d, .int)] t ∧ va_D A (wMu d h b1 b2 b3 b4 b5 b6 L u)) A
abbrev wMQv (dC : Nat → ClassId) (dI : Nat → Nat → Nat) (d : ClassId) (h b1 b2 b3 b4 b5 b6 : Nat) (L : Int) (A : Nat → Prop) (post : MS → Prop) : Array Value → State → Outcome → State → Prop := va_Qv (fun (u : MS) => post u) (fun (u : MS) t => va_P (dC, dI) vwCl (wMu d h b1 b2 b3 b4 b5 b6 L u) t.heap ∧ va_K (dC, dI) vwCl [(d, .int)] t ∧ va_D A (wMu d h b1 b2 b3 b4 b5 b6 L u)) A
section JI2
variable {p : Program} {l : Launch} {e : Env} {R : Room} {s : State} {m : MethodId} {args : Array Value} {below : List Frame} {meth : Method} {c : Code} {H : Heap} {locs : List Loc} {cells slots : Nat} {Q : State → Prop}
variable {cc : ByteArray} {pc : Nat} {ls : Array Slot} {rest : List Value}
theorem ji_ldc (hexec : p.tables.exec = Jvm.exec) (hb : c.code = cc) {own : String} {index : Nat} {v : Int32} {z : Int} (hown : s.vm.findClass own = some m.cls) (hconst : (Jvm.Cond.constant own index v).before args s = true) (hv : v = jI z) (hdg : decode cc pc = .ok (.ldc index, 2)) (k : W p l e R s m args below meth c H locs cells slots Q (F0 m (pc + 2) ls (.int (jI z) :: rest))) : W p l e R s m args below meth c H locs cells slots Q (F0 m pc ls rest) := lv_ldc hexec hb hown hconst hdg (by rw [hv]; exact k)
theorem ji_top {a b : Int} (h : a = b) (k : W p l e R s m args below meth c H locs cells slots Q (F0 m pc ls (.int (jI b) :: rest))) : W p l e R s m args below meth c H locs cells slots Q (F0 m pc ls (.int (jI a) :: rest)) := by rw [h]; exact k
end JI2
/-- what the law's state is, on both sides: the row's length, the cells, their widths, wishes, weights -/
def Ok (L n : Int) (wd wi wt : Int → Int) : Prop := (10 ≤ L ∧ L ≤ 60 ∧ 0 ≤ n ∧ n ≤ 10) ∧ (∀ j, 0 ≤ j → j < n → 1 ≤ wd j ∧ wd j ≤ 5) ∧ (∀ j, 0 ≤ j → j < n → 0 ≤ wi j ∧ wi j ≤ 60) ∧ (∀ j, 0 ≤ j → j < n → 1 ≤ wt j ∧ wt j ≤ 5)
end
section
/-! THE LAW'S WORDS, in plain numbers -/
/-- f a + .. + f (b - 1) -/
def sW (f : Int → Int) (a : Int) : Nat → Int
  | 0 => 0
  | k + 1 => sW f a k + f (a + k)
def sWi (f : Int → Int) (a b : Int) : Int := sW f a (b - a).toNat
def dst (a b : Int) : Int := if a < b then b - a else a - b
/-- v is what some placing of the k cells from a on, between two edges, costs -/
def Fw (wd wi wt : Int → Int) (a : Int) : Nat → Int → Int → Int → Prop
  | 0, lf, rt, v => lf ≤ rt ∧ v = 0
  | k + 1, lf, rt, v => ∃ x v', Fw wd wi wt a k lf x v' ∧ x + wd (a + k) ≤ rt ∧ v = v' + wt (a + k) * dst x (wi (a + k))
def Fi (wd wi wt : Int → Int) (a b lf rt v : Int) : Prop := Fw wd wi wt a (b - a).toNat lf rt v
/-- v is what some placing of the cells before c, and of c at x, its right edge not beyond rt, costs -/
def Upx (wd wi wt : Int → Int) (c x rt v : Int) : Prop := 0 ≤ x ∧ ∃ v', Fi wd wi wt 0 c 0 x v' ∧ x + wd c ≤ rt ∧ v = v' + wt c * dst x (wi c)
def Lst (P : Int → Prop) (z : Int) : Prop := P z ∧ ∀ v, P v → z ≤ v
def Res (P : Int → Prop) (z : Int) : Prop := (z = -6 ∧ ∀ v, ¬ P v) ∨ Lst P z
def ResN (P : Int → Prop) (z : Int) : Prop := (z = 1000000 ∧ ∀ v, ¬ P v) ∨ (z < 1000000 ∧ Lst P z)
theorem dst_spec (a b : Int) : (a < b ∧ dst a b = b - a) ∨ (b ≤ a ∧ dst a b = a - b) := by
  unfold dst
  split
  · exact Or.inl ⟨by assumption, rfl⟩
  · exact Or.inr ⟨by omega, rfl⟩
theorem sWi_0 (f : Int → Int) (a : Int) : sWi f a a = 0 := by
  unfold sWi
  rw [show (a - a).toNat = 0 by omega]
  rfl
theorem sWi_s (f : Int → Int) {a b : Int} (h : a ≤ b) : sWi f a (b + 1) = sWi f a b + f b := by
  unfold sWi
  rw [show (b + 1 - a).toNat = (b - a).toNat + 1 by omega]
  show sW f a (b - a).toNat + f (a + ((b - a).toNat : Int)) = _
  rw [show a + ((b - a).toNat : Int) = b by omega]
theorem sWi_bd (f : Int → Int) {a : Int} (lo hi : Int) : ∀ (k : Nat), (∀ j, a ≤ j → j < a + k → lo ≤ f j ∧ f j ≤ hi) → lo * k ≤ sWi f a (a + k) ∧ sWi f a (a + k) ≤ hi * k
  | 0, _ => by
    rw [show a + ((0 : Nat) : Int) = a by omega, sWi_0]
    omega
  | k + 1, h => by
    have ih := sWi_bd f (a := a) lo hi k (fun j h1 h2 => h j h1 (by omega))
    have h1 := h (a + k) (by omega) (by omega)
    rw [show a + ((k + 1 : Nat) : Int) = a + k + 1 by omega, sWi_s f (by omega)]
    have e1 : lo * ((k + 1 : Nat) : Int) = lo * k + lo := by rw [show ((k + 1 : Nat) : Int) = (k : Int) + 1 by omega, Int.mul_add, Int.mul_one]
    have e2 : hi * ((k + 1 : Nat) : Int) = hi * k + hi := by rw [show ((k + 1 : Nat) : Int) = (k : Int) + 1 by omega, Int.mul_add, Int.mul_one]
    omega
theorem sWi_rng (f : Int → Int) {a b lo hi : Int} (hab : a ≤ b) (h : ∀ j, a ≤ j → j < b → lo ≤ f j ∧ f j ≤ hi) : lo * (b - a) ≤ sWi f a b ∧ sWi f a b ≤ hi * (b - a) := by
  have h1 := sWi_bd f (a := a) lo hi (b - a).toNat (fun j q1 q2 => h j q1 (by omega))
  rw [show a + ((b - a).toNat : Int) = b by omega, show (((b - a).toNat : Nat) : Int) = b - a by omega] at h1
  exact h1
theorem Fi_0 {wd wi wt : Int → Int} {a lf rt v : Int} : Fi wd wi wt a a lf rt v ↔ lf ≤ rt ∧ v = 0 := by
  unfold Fi
  rw [show (a - a).toNat = 0 by omega]
  exact Iff.rfl
theorem Fi_s {wd wi wt : Int → Int} {a b lf rt v : Int} (h : a ≤ b) : Fi wd wi wt a (b + 1) lf rt v ↔ ∃ x v', Fi wd wi wt a b lf x v' ∧ x + wd b ≤ rt ∧ v = v' + wt b * dst x (wi b) := by
  unfold Fi
  rw [show (b + 1 - a).toNat = (b - a).toNat + 1 by omega]
  show (∃ x v', Fw wd wi wt a (b - a).toNat lf x v' ∧ x + wd (a + ((b - a).toNat : Int)) ≤ rt ∧ v = v' + wt (a + ((b - a).toNat : Int)) * dst x (wi (a + ((b - a).toNat : Int)))) ↔ _
  rw [show a + ((b - a).toNat : Int) = b by omega]
theorem Res_u {P : Int → Prop} {a b : Int} (h1 : Res P a) (h2 : Res P b) : a = b := by
  rcases h1 with ⟨e1, n1⟩ | ⟨p1, l1⟩
  · rcases h2 with ⟨e2, n2⟩ | ⟨p2, l2⟩
    · omega
    · exact absurd p2 (n1 _)
  · rcases h2 with ⟨e2, n2⟩ | ⟨p2, l2⟩
    · exact absurd p1 (n2 _)
    · have := l1 _ p2
      have := l2 _ p1
      omega
/-- t put into the first n of pt at its place -/
def Ins (pt : Int → Int) (n t : Int) (pt' : Int → Int) : Prop := ∃ k, 0 ≤ k ∧ k ≤ n ∧ (∀ j, 0 ≤ j → j < k → pt' j = pt j) ∧ pt' k = t ∧ (∀ j, k < j → j ≤ n → pt' j = pt (j - 1)) ∧ (k = 0 ∨ pt (k - 1) ≤ t) ∧ (∀ j, k ≤ j → j < n → t < pt j)
/-- one unit of weight put in: the answer is z -/
def Un (pt : Int → Int) (n t : Int) (pt' : Int → Int) (z : Int) : Prop := ∃ p1, Ins pt n t p1 ∧ ((p1 n ≤ t ∧ pt' = p1 ∧ z = 0) ∨ (t < p1 n ∧ Ins p1 n t pt' ∧ z = p1 n - t))
theorem Ins_rng {pt pt' : Int → Int} {n t lo hi : Int} (h : Ins pt n t pt') (hp : ∀ j, 0 ≤ j → j < n → lo ≤ pt j ∧ pt j ≤ hi) (ht : lo ≤ t ∧ t ≤ hi) : ∀ j, 0 ≤ j → j < n + 1 → lo ≤ pt' j ∧ pt' j ≤ hi := by
  obtain ⟨k, h0, hk, h1, h2, h3, -, -⟩ := h
  intro j j0 j1
  rcases Int.lt_trichotomy j k with q | q | q
  · rw [h1 j j0 q]; exact hp j j0 (by omega)
  · rw [q, h2]; exact ht
  · rw [h3 j q (by omega)]; exact hp (j - 1) (by omega) (by omega)
end
section
/-- what append, move, reweigh, drop, exchange answer, and what becomes of the state: both classes -/
def App (n : Int) (wd wi wt : Int → Int) (x y w z n1 : Int) (wd1 wi1 wt1 : Int → Int) : Prop := ((((x < 1 ∨ 5 < x) ∧ z = -1) ∨ (1 ≤ x ∧ x ≤ 5 ∧ (y < 0 ∨ 60 < y) ∧ z = -2) ∨ (1 ≤ x ∧ x ≤ 5 ∧ 0 ≤ y ∧ y ≤ 60 ∧ (w < 1 ∨ 5 < w) ∧ z = -3) ∨ (1 ≤ x ∧ x ≤ 5 ∧ 0 ≤ y ∧ y ≤ 60 ∧ 1 ≤ w ∧ w ≤ 5 ∧ 10 ≤ n ∧ z = -5)) ∧ n1 = n ∧ wd1 = wd ∧ wi1 = wi ∧ wt1 = wt) ∨ ((1 ≤ x ∧ x ≤ 5 ∧ 0 ≤ y ∧ y ≤ 60 ∧ 1 ≤ w ∧ w ≤ 5 ∧ n < 10 ∧ z = n) ∧ n1 = n + 1 ∧ wd1 = uI wd n x ∧ wi1 = uI wi n y ∧ wt1 = uI wt n w)
def Mov (n : Int) (wi : Int → Int) (x y z : Int) (wi1 : Int → Int) : Prop := ((((x < 0 ∨ n ≤ x) ∧ z = -4) ∨ (0 ≤ x ∧ x < n ∧ (y < 0 ∨ 60 < y) ∧ z = -2)) ∧ wi1 = wi) ∨ ((0 ≤ x ∧ x < n ∧ 0 ≤ y ∧ y ≤ 60) ∧ z = wi x ∧ wi1 = uI wi x y)
def Rew (n : Int) (wt : Int → Int) (x y z : Int) (wt1 : Int → Int) : Prop := ((((x < 0 ∨ n ≤ x) ∧ z = -4) ∨ (0 ≤ x ∧ x < n ∧ (y < 1 ∨ 5 < y) ∧ z = -3)) ∧ wt1 = wt) ∨ ((0 ≤ x ∧ x < n ∧ 1 ≤ y ∧ y ≤ 5) ∧ z = wt x ∧ wt1 = uI wt x y)
def Drp (n z n1 : Int) : Prop := (n = 0 ∧ z = -6 ∧ n1 = 0) ∨ (1 ≤ n ∧ z = n - 1 ∧ n1 = n - 1)
def Exc (n : Int) (wd wi wt : Int → Int) (x z : Int) (wd1 wi1 wt1 : Int → Int) : Prop := (((x < 0 ∨ n ≤ x + 1) ∧ z = -4) ∧ wd1 = wd ∧ wi1 = wi ∧ wt1 = wt) ∨ ((0 ≤ x ∧ x + 1 < n ∧ z = 0) ∧ wd1 = uI (uI wd x (wd (x + 1))) (x + 1) (wd x) ∧ wi1 = uI (uI wi x (wi (x + 1))) (x + 1) (wi x) ∧ wt1 = uI (uI wt x (wt (x + 1))) (x + 1) (wt x))
end
section
/-! THE TURNING POINTS: least costs as a sum of (p - y)^+ over the points p -/
def pp (x : Int) : Int := if 0 < x then x else 0
theorem pp_spec (x : Int) : (0 < x ∧ pp x = x) ∨ (x ≤ 0 ∧ pp x = 0) := by
  unfold pp
  split
  · exact Or.inl ⟨by assumption, rfl⟩
  · exact Or.inr ⟨by omega, rfl⟩
def hs (pt : Int → Int) (y : Int) : Nat → Int
  | 0 => 0
  | k + 1 => hs pt y k + pp (pt k - y)
def hsi (pt : Int → Int) (n y : Int) : Int := hs pt y n.toNat
theorem hsi_0 (pt : Int → Int) (y : Int) : hsi pt 0 y = 0 := rfl
theorem hsi_s (pt : Int → Int) {n : Int} (y : Int) (h : 0 ≤ n) : hsi pt (n + 1) y = hsi pt n y + pp (pt n - y) := by
  unfold hsi
  rw [show (n + 1).toNat = n.toNat + 1 by omega]
  show hs pt y n.toNat + pp (pt (n.toNat : Int) - y) = _
  rw [show ((n.toNat : Nat) : Int) = n by omega]
theorem hs_congr (p q : Int → Int) (y : Int) : ∀ k : Nat, (∀ j : Int, 0 ≤ j → j < k → p j = q j) → hs p y k = hs q y k
  | 0, _ => rfl
  | k + 1, h => by
    show hs p y k + pp (p k - y) = hs q y k + pp (q k - y)
    rw [hs_congr p q y k (fun j h1 h2 => h j h1 (by omega)), h k (by omega) (by omega)]
theorem hsi_congr {p q : Int → Int} {n y : Int} (h : ∀ j, 0 ≤ j → j < n → p j = q j) : hsi p n y = hsi q n y :=
  hs_congr p q y n.toNat (fun j h1 h2 => h j h1 (by omega))
theorem hs_mono (p : Int → Int) {y y' : Int} (h : y ≤ y') : ∀ k : Nat, hs p y' k ≤ hs p y k ∧ 0 ≤ hs p y' k
  | 0 => ⟨Int.le_refl _, Int.le_refl _⟩
  | k + 1 => by
    have ih := hs_mono p h k
    show hs p y' k + pp (p k - y') ≤ hs p y k + pp (p k - y) ∧ 0 ≤ hs p y' k + pp (p k - y')
    have h1 := pp_spec (p k - y')
    have h2 := pp_spec (p k - y)
    omega
theorem hsi_mono (p : Int → Int) {n y y' : Int} (h : y ≤ y') : hsi p n y' ≤ hsi p n y := (hs_mono p h n.toNat).1
theorem hsi_nn (p : Int → Int) {n y : Int} : 0 ≤ hsi p n y := (hs_mono p (Int.le_refl y) n.toNat).2
theorem hs_zero (p : Int → Int) {y : Int} : ∀ k : Nat, (∀ j : Int, 0 ≤ j → j < k → p j ≤ y) → hs p y k = 0
  | 0, _ => rfl
  | k + 1, h => by
    have ih := hs_zero p k (fun j h1 h2 => h j h1 (by omega))
    have h1 := pp_spec (p k - y)
    have h2 := h k (by omega) (by omega)
    show hs p y k + pp (p k - y) = 0
    omega
theorem hsi_zero {p : Int → Int} {n y : Int} (h : ∀ j, 0 ≤ j → j < n → p j ≤ y) : hsi p n y = 0 := hs_zero p n.toNat (fun j h1 h2 => h j h1 (by omega))
theorem Ins_hs {pt pt' : Int → Int} {n t : Int} (h : Ins pt n t pt') (y : Int) : hsi pt' (n + 1) y = hsi pt n y + pp (t - y) := by
  obtain ⟨k, h0, hk, h1, h2, h3, -, -⟩ := h
  have key : ∀ m : Nat, k + m ≤ n → hsi pt' (k + m + 1) y = hsi pt (k + m) y + pp (t - y) := by
    intro m
    induction m with
    | zero =>
      intro _
      rw [show k + ((0 : Nat) : Int) = k by omega, hsi_s pt' y h0, h2, hsi_congr h1]
    | succ m ih =>
      intro hm
      have ih := ih (by omega)
      rw [show k + ((m + 1 : Nat) : Int) = k + m + 1 by omega, hsi_s pt' y (by omega), ih, hsi_s pt y (by omega), h3 (k + m + 1) (by omega) (by omega), show k + (m : Int) + 1 - 1 = k + m by omega]
      omega
  have h9 := key (n - k).toNat (by omega)
  rw [show k + ((n - k).toNat : Int) = n by omega] at h9
  exact h9
def Srt (pt : Int → Int) (n : Int) : Prop := ∀ i j, 0 ≤ i → i ≤ j → j < n → pt i ≤ pt j
theorem Ins_srt {pt pt' : Int → Int} {n t : Int} (h : Ins pt n t pt') (hs0 : Srt pt n) : Srt pt' (n + 1) := by
  obtain ⟨k, h0, hk, h1, h2, h3, h4, h5⟩ := h
  have lo : ∀ i, 0 ≤ i → i < k → pt i ≤ t := by
    intro i q0 q1
    rcases h4 with q | q
    · omega
    · have := hs0 i (k - 1) q0 (by omega) (by omega)
      omega
  intro i j i0 ij jn
  rcases Int.lt_trichotomy i k with q | q | q
  · rw [h1 i i0 q]
    rcases Int.lt_trichotomy j k with w | w | w
    · rw [h1 j (by omega) w]; exact hs0 i j i0 ij (by omega)
    · rw [w, h2]; exact lo i i0 q
    · rw [h3 j w (by omega)]
      exact hs0 i (j - 1) i0 (by omega) (by omega)
  · rw [q, h2]
    rcases Int.lt_trichotomy j k with w | w | w
    · omega
    · rw [w, h2]; exact Int.le_refl _
    · rw [h3 j w (by omega)]
      exact Int.le_of_lt (h5 (j - 1) (by omega) (by omega))
  · rw [h3 i q (by omega), h3 j (by omega) (by omega)]
    exact hs0 (i - 1) (j - 1) (by omega) (by omega) (by omega)
theorem Ins_last {pt pt' : Int → Int} {n t : Int} (h : Ins pt n t pt') (hs0 : Srt pt n) : t ≤ pt' n ∧ (∀ j, 0 ≤ j → j < n → pt j ≤ pt' n) := by
  have hs1 := Ins_srt h hs0
  obtain ⟨k, h0, hk, h1, h2, h3, h4, h5⟩ := h
  refine ⟨?_, fun j j0 j1 => ?_⟩
  · have := hs1 k n h0 hk (by omega)
    omega
  · rcases Int.lt_or_le j k with q | q
    · have := hs1 j n j0 (by omega) (by omega)
      rw [h1 j j0 q] at this
      exact this
    · have := hs1 (j + 1) n (by omega) (by omega) (by omega)
      rw [h3 (j + 1) (by omega) (by omega), show j + 1 - 1 = j by omega] at this
      exact this
/-- what a unit does to the sum of the points -/
theorem Un_spec {pt pt' : Int → Int} {n t z lo hi : Int} (hn : 0 ≤ n) (hs0 : Srt pt n) (hp : ∀ j, 0 ≤ j → j < n → lo ≤ pt j ∧ pt j ≤ hi) (ht : lo ≤ t ∧ t ≤ hi) (h : Un pt n t pt' z) : Srt pt' (n + 1) ∧ (∀ j, 0 ≤ j → j < n + 1 → lo ≤ pt' j ∧ pt' j ≤ hi) ∧ ∃ M, t ≤ M ∧ M ≤ hi ∧ z = M - t ∧ (∀ j, 0 ≤ j → j < n → pt j ≤ M) ∧ ∀ y, hsi pt' (n + 1) y = hsi pt n y + 2 * pp (t - y) - pp (M - y) := by
  obtain ⟨p1, hI, h⟩ := h
  have hr1 := Ins_rng hI hp ht
  have hl := Ins_last hI hs0
  have hs1 := Ins_srt hI hs0
  rcases h with ⟨c1, rfl, rfl⟩ | ⟨c1, hI2, rfl⟩
  · refine ⟨hs1, hr1, t, Int.le_refl _, ht.2, by omega, fun j j0 j1 => ?_, fun y => ?_⟩
    · have := hl.2 j j0 j1
      omega
    · have := Ins_hs hI y
      omega
  · have hs1' : Srt p1 n := fun i j a b c => hs1 i j a b (by omega)
    refine ⟨Ins_srt hI2 hs1', Ins_rng hI2 (fun j a b => hr1 j a (by omega)) ht, p1 n, hl.1, (hr1 n hn (by omega)).2, rfl, hl.2, fun y => ?_⟩
    have e1 := Ins_hs hI y
    have e2 := Ins_hs hI2 y
    have e3 := hsi_s p1 y hn
    omega
/-- after k units that wish to be at t: the least of f0 w + k |w - t| up to y -/
def QI (lo hi : Int) (f0 : Int → Int) (t k cost pts : Int) (pt : Int → Int) : Prop := 0 ≤ pts ∧ Srt pt pts ∧ (∀ j, 0 ≤ j → j < pts → lo ≤ pt j ∧ pt j ≤ hi) ∧ ∀ y, lo ≤ y → y ≤ hi → (∀ w, lo ≤ w → w ≤ y → cost + hsi pt pts y ≤ f0 w + k * dst w t) ∧ ∃ w, lo ≤ w ∧ w ≤ y ∧ cost + hsi pt pts y = f0 w + k * dst w t
theorem QI_start {lo hi cost pts : Int} {pt : Int → Int} (t : Int) (h0 : 0 ≤ pts) (h1 : Srt pt pts) (h2 : ∀ j, 0 ≤ j → j < pts → lo ≤ pt j ∧ pt j ≤ hi) : QI lo hi (fun y => cost + hsi pt pts y) t 0 cost pts pt := by
  refine ⟨h0, h1, h2, fun y y0 y1 => ⟨fun w w0 w1 => ?_, y, y0, Int.le_refl _, ?_⟩⟩
  · have := hsi_mono pt (n := pts) w1
    show cost + hsi pt pts y ≤ cost + hsi pt pts w + 0 * dst w t
    rw [Int.zero_mul]
    omega
  · show cost + hsi pt pts y = cost + hsi pt pts y + 0 * dst y t
    rw [Int.zero_mul]
    omega
theorem mul_mono {k a b : Int} (hk : 0 ≤ k) (h : a ≤ b) : k * a ≤ k * b := Int.mul_le_mul_of_nonneg_left h hk
theorem QI_unit {lo hi t k cost pts z : Int} {f0 pt pt' : Int → Int} (hf : ∀ w w', w ≤ w' → f0 w' ≤ f0 w) (hk : 0 ≤ k) (ht : lo ≤ t ∧ t ≤ hi) (h : QI lo hi f0 t k cost pts pt) (hu : Un pt pts t pt' z) : QI lo hi f0 t (k + 1) (cost + z) (pts + 1) pt' := by
  obtain ⟨h0, h1, h2, h3⟩ := h
  obtain ⟨g1, g2, M, m1, m2, rfl, m3, m4⟩ := Un_spec h0 h1 h2 ht hu
  have ek : ∀ x, (k + 1) * x = k * x + x := fun x => by rw [Int.add_mul, Int.one_mul]
  have hG : ∀ w, lo ≤ w → cost + (M - t) + hsi pt' (pts + 1) w ≤ cost + hsi pt pts w + dst w t := by
    intro w w0
    have e1 := m4 w
    have e2 := pp_spec (t - w)
    have e3 := pp_spec (M - w)
    have e4 := dst_spec w t
    omega
  have low : ∀ y, lo ≤ y → y ≤ hi → ∀ w, lo ≤ w → w ≤ y → cost + (M - t) + hsi pt' (pts + 1) y ≤ f0 w + (k + 1) * dst w t := by
    intro y y0 y1 w w0 w1
    have a1 := hsi_mono pt' (n := pts + 1) w1
    have a2 := hG w w0
    have a3 := (h3 w w0 (by omega)).1 w w0 (Int.le_refl _)
    rw [ek]
    omega
  refine ⟨by omega, g1, g2, fun y y0 y1 => ⟨low y y0 y1, ?_⟩⟩
  have hw : ∃ w, lo ≤ w ∧ w ≤ y ∧ cost + (M - t) + hsi pt' (pts + 1) y = cost + hsi pt pts w + dst w t := by
    rcases Int.lt_or_le y M with q | q
    · refine ⟨y, y0, Int.le_refl _, ?_⟩
      have e1 := m4 y
      have e2 := pp_spec (t - y)
      have e3 := pp_spec (M - y)
      have e4 := dst_spec y t
      omega
    · refine ⟨M, by omega, q, ?_⟩
      have e1 := m4 y
      have e2 := pp_spec (t - y)
      have e3 := pp_spec (M - y)
      have e4 := dst_spec M t
      have e5 : hsi pt pts y = 0 := hsi_zero (fun j a b => by have := m3 j a b; omega)
      have e6 : hsi pt pts M = 0 := hsi_zero m3
      omega
  obtain ⟨w, w0, w1, ew⟩ := hw
  obtain ⟨w', v0, v1, ew'⟩ := (h3 w w0 (by omega)).2
  have fin : ∀ x, lo ≤ x → x ≤ y → f0 x + k * dst x t + dst x t ≤ f0 w' + k * dst w' t + dst w t → ∃ x, lo ≤ x ∧ x ≤ y ∧ cost + (M - t) + hsi pt' (pts + 1) y = f0 x + (k + 1) * dst x t := by
    intro x x0 x1 hx
    refine ⟨x, x0, x1, ?_⟩
    have a1 := low y y0 y1 x x0 x1
    rw [ek] at a1 ⊢
    omega
  have dw := dst_spec w t
  have dw' := dst_spec w' t
  rcases Int.lt_or_le t w with q | q
  · rcases Int.lt_or_le t w' with r | r
    · exact fin w' v0 (by omega) (by omega)
    · refine fin t ht.1 (by omega) ?_
      have a1 := hf w' t r
      have a2 : dst t t = 0 := by have := dst_spec t t; omega
      have a3 := mul_mono hk (show 0 ≤ dst w' t by omega)
      rw [a2]
      omega
  · refine fin w w0 w1 ?_
    have a1 := hf w' w v1
    have a3 := mul_mono hk (show dst w t ≤ dst w' t by omega)
    omega
theorem Fw_fit {wd wi wt : Int → Int} {a : Int} : ∀ (k : Nat) (lf rt v : Int), Fw wd wi wt a k lf rt v → lf + sW wd a k ≤ rt
  | 0, lf, rt, v, h => by
    have h1 : lf ≤ rt := h.1
    show lf + 0 ≤ rt
    omega
  | k + 1, lf, rt, v, h => by
    obtain ⟨x, v', h1, h2, -⟩ := h
    have ih := Fw_fit k lf x v' h1
    show lf + (sW wd a k + wd (a + k)) ≤ rt
    omega
theorem Fi_fit {wd wi wt : Int → Int} {a b lf rt v : Int} (h : Fi wd wi wt a b lf rt v) : lf + sWi wd a b ≤ rt := Fw_fit _ _ _ _ h
/-- the loop of partCost, c cells in: its cost and points give the least cost up to every place -/
def PI (wd wi wt : Int → Int) (fr c lo hi cost pts : Int) (pt : Int → Int) : Prop := 0 ≤ pts ∧ Srt pt pts ∧ (∀ j, 0 ≤ j → j < pts → lo ≤ pt j ∧ pt j ≤ hi) ∧ ∀ y, lo ≤ y → y ≤ hi → Lst (Fi wd wi wt fr c lo (y + sWi wd fr c)) (cost + hsi pt pts y)
theorem PI_start (wd wi wt : Int → Int) (fr lo hi : Int) (pt : Int → Int) : PI wd wi wt fr fr lo hi 0 0 pt := by
  refine ⟨Int.le_refl _, fun i j a b c => by omega, fun j a b => by omega, fun y y0 y1 => ⟨?_, fun v hv => ?_⟩⟩
  · rw [hsi_0]
    exact Fi_0.mpr ⟨by rw [sWi_0]; omega, rfl⟩
  · rw [hsi_0]
    have := (Fi_0.mp hv).2
    omega
theorem dst_cl {t lo hi w i : Int} (hw : lo ≤ w ∧ w ≤ hi) (hi0 : (t < lo ∧ i = lo) ∨ (hi < t ∧ i = hi) ∨ (lo ≤ t ∧ t ≤ hi ∧ i = t)) : dst w t = dst w i + dst t i := by
  have h1 := dst_spec w t
  have h2 := dst_spec w i
  have h3 := dst_spec t i
  omega
theorem PI_step {wd wi wt : Int → Int} {fr c lo hi cost pts cost' pts' i : Int} {pt pt' : Int → Int} (hc : fr ≤ c) (h : PI wd wi wt fr c lo hi cost pts pt) (hi0 : (wi c - sWi wd fr c < lo ∧ i = lo) ∨ (hi < wi c - sWi wd fr c ∧ i = hi) ∨ (lo ≤ wi c - sWi wd fr c ∧ wi c - sWi wd fr c ≤ hi ∧ i = wi c - sWi wd fr c)) (hwt : 0 ≤ wt c)
    (hq : QI lo hi (fun y => cost + wt c * dst (wi c - sWi wd fr c) i + hsi pt pts y) i (wt c) cost' pts' pt') : PI wd wi wt fr (c + 1) lo hi cost' pts' pt' := by
  obtain ⟨h0, h1, h2, h3⟩ := h
  obtain ⟨q0, q1, q2, q3⟩ := hq
  have ed : ∀ w, lo ≤ w → w ≤ hi → wt c * dst (w + sWi wd fr c) (wi c) = wt c * dst (wi c - sWi wd fr c) i + wt c * dst w i := by
    intro w w0 w1
    rw [← Int.mul_add]
    have e1 := dst_cl (w := w) ⟨w0, w1⟩ hi0
    have e2 : dst (w + sWi wd fr c) (wi c) = dst w (wi c - sWi wd fr c) := by
      have a1 := dst_spec (w + sWi wd fr c) (wi c)
      have a2 := dst_spec w (wi c - sWi wd fr c)
      omega
    rw [e2, e1, Int.add_comm (dst w i)]
  refine ⟨q0, q1, q2, fun y y0 y1 => ?_⟩
  obtain ⟨low, w, w0, w1, ew⟩ := q3 y y0 y1
  rw [sWi_s wd hc]
  refine ⟨?_, fun v hv => ?_⟩
  · refine (Fi_s hc).mpr ⟨w + sWi wd fr c, cost + hsi pt pts w, (h3 w w0 (by omega)).1, by omega, ?_⟩
    have e1 := ed w w0 (by omega)
    have ew : cost' + hsi pt' pts' y = cost + wt c * dst (wi c - sWi wd fr c) i + hsi pt pts w + wt c * dst w i := ew
    omega
  · obtain ⟨x, v', hv', hx, rfl⟩ := (Fi_s hc).mp hv
    have f1 := Fi_fit hv'
    have e1 := ed (x - sWi wd fr c) (by omega) (by omega)
    rw [show x - sWi wd fr c + sWi wd fr c = x by omega] at e1
    have l1 : cost' + hsi pt' pts' y ≤ cost + wt c * dst (wi c - sWi wd fr c) i + hsi pt pts (x - sWi wd fr c) + wt c * dst (x - sWi wd fr c) i := low (x - sWi wd fr c) (by omega) (by omega)
    have l2 := (h3 (x - sWi wd fr c) (by omega) (by omega)).2 v' (by rw [show x - sWi wd fr c + sWi wd fr c = x by omega]; exact hv')
    omega
theorem PI_end {wd wi wt : Int → Int} {fr to lo hi rt cost pts : Int} {pt : Int → Int} (h : PI wd wi wt fr to lo hi cost pts pt) (e : hi = rt - sWi wd fr to) (hl : lo ≤ hi) : Res (Fi wd wi wt fr to lo rt) cost := by
  obtain ⟨h0, h1, h2, h3⟩ := h
  have h4 := h3 hi hl (Int.le_refl _)
  rw [hsi_zero (fun j a b => (h2 j a b).2), Int.add_zero, e, show rt - sWi wd fr to + sWi wd fr to = rt by omega] at h4
  exact Or.inr h4
theorem PI_none {wd wi wt : Int → Int} {fr to lo rt : Int} (hl : rt - sWi wd fr to < lo) : Res (Fi wd wi wt fr to lo rt) (-6) := Or.inl ⟨rfl, fun v hv => by have := Fi_fit hv; omega⟩
end
section
set_option maxHeartbeats 4000000 in
set_option maxRecDepth 100000 in
theorem metX1_distance (l : Launch) (x : Int) (y : Int) (hx1 : -1000000 ≤ x ∧ x ≤ 1000000) (hy1 : -1000000 ≤ y ∧ y ≤ 1000000) : Met l yX1_distance (ws_ yX1_distance cX1_distance 2 (some .int)) ({ frames := 0, cells := 0, slots := 0, locals := 0 }) (va_Pc [.int (jI x), .int (jI y)] (fun _ => True)) (vp_Si (fun r => ∃ z : Int, r = jI z ∧ (z = dst x y))) 0 0 (fun _ => False) := by
  refine Met.ofW (cc := cX1_distance) (maxL := 2) (ret := (some .int)) (by decide) rfl ?_
  intro p e s m args below meth c s₁ B hml hv
  obtain ⟨rfl, -⟩ := hv
  have hx := B.exec
  have hb := B.bytes
  have hr := B.returns
  have hts := atoms_spec (ws := (ws_ yX1_distance cX1_distance 2 (some .int))) B.pre
  have hts : ∀ w ∈ lw_all, w.before _ s = true := fun w h => hts w (List.mem_cons_of_mem _ h)
  have hown : s.vm.findClass RX1 = some m.cls := findClass_of_methodNamed B.named
  have hlocks := B.notSynchronized
  have hl := lv_entry ([.int (jI x), .int (jI y)]) (n := 2) (Nat.le_of_ble_eq_true rfl)
  rw [lg_entry_eq]
  generalize (lg_sl ([.int (jI x), .int (jI y)]) ++ List.replicate (2 - (lg_sl ([.int (jI x), .int (jI y)])).length) Slot.unset).toArray = ls at hl ⊢
  have hl : lv_has ls 2 [(0, .int (jI x)), (1, .int (jI y))] := hl
  refine lv_iload_n hx hb dX1_distance_0 rfl (lv_at hl 0 rfl) ?_
  refine lv_iload_n hx hb dX1_distance_1 rfl (lv_at hl 1 rfl) ?_
  refine ji_icmp_ge (tgt := 11) hx hb dX1_distance_2 (by decide) (by omega) (by omega) (fun c_1 => ?_) (fun c_1 => ?_)
  · refine lv_iload_n hx hb dX1_distance_11 rfl (lv_at hl 0 rfl) ?_
    refine lv_iload_n hx hb dX1_distance_12 rfl (lv_at hl 1 rfl) ?_
    refine ji_sub hx hb dX1_distance_13 ?_
    exact W.iret (v := jI (x - y)) hx hb hr (fun t_ ht_ hW_ => ⟨_, rfl, ⟨x - y, rfl, by have h9 := dst_spec x y; omega⟩, ht_⟩) (fun q hq => by cases hq) dX1_distance_14
  · refine lv_iload_n hx hb dX1_distance_5 rfl (lv_at hl 1 rfl) ?_
    refine lv_iload_n hx hb dX1_distance_6 rfl (lv_at hl 0 rfl) ?_
    refine ji_sub hx hb dX1_distance_7 ?_
    refine lv_goto (tgt := 14) hx hb dX1_distance_8 (by decide) ?_
    exact W.iret (v := jI (y - x)) hx hb hr (fun t_ ht_ hW_ => ⟨_, rfl, ⟨y - x, rfl, by have h9 := dst_spec x y; omega⟩, ht_⟩) (fun q hq => by cases hq) dX1_distance_14
set_option maxHeartbeats 4000000 in
set_option maxRecDepth 100000 in
theorem metX1_noCell (l : Launch) (dC : Nat → ClassId) (dI : Nat → Nat → Nat) (d : ClassId) (h a1 a2 a3 a4 a5 : Nat) (L : Int) (n : Int) (wd : Int → Int) (wi : Int → Int) (wt : Int → Int) (pts : Int) (pt : Int → Int) (pl : Int → Int) (x : Int) (hn : 0 ≤ n ∧ n ≤ 10) (hx1 : -2147483648 ≤ x ∧ x < 2147483648) : Met l yX1_noCell (ws_ yX1_noCell cX1_noCell 2 (some .boolean)) ({ frames := 0, cells := 0, slots := 0, locals := 0 }) (zPp dC dI (wX d h a1 a2 a3 a4 a5 L n wd wi wt pts pt pl) d [.ref h, .int (jI x)]) (vp_Si (fun r => ∃ z : Int, r = jI z ∧ ((z = 1 ∧ (x < 0 ∨ n ≤ x)) ∨ (z = 0 ∧ 0 ≤ x ∧ x < n)))) 0 0 (fun _ => False) := by
  refine Met.ofW (cc := cX1_noCell) (maxL := 2) (ret := (some .boolean)) (by decide) rfl ?_
  intro p e s m args below meth c s₁ B hml hv
  obtain ⟨rfl, hP, hK⟩ := hv
  have hx := B.exec
  have hb := B.bytes
  have hr := B.returns
  have hts := atoms_spec (ws := (ws_ yX1_noCell cX1_noCell 2 (some .boolean))) B.pre
  have hts : ∀ w ∈ lw_all, w.before _ s = true := fun w h => hts w (List.mem_cons_of_mem _ h)
  have hown : s.vm.findClass RX1 = some m.cls := findClass_of_methodNamed B.named
  have hlocks := B.notSynchronized
  have hl := lv_entry ([.ref h, .int (jI x)]) (n := 2) (Nat.le_of_ble_eq_true rfl)
  rw [lg_entry_eq]
  generalize (lg_sl ([.ref h, .int (jI x)]) ++ List.replicate (2 - (lg_sl ([.ref h, .int (jI x)])).length) Slot.unset).toArray = ls at hl ⊢
  have hl : lv_has ls 2 [(0, .ref h), (1, .int (jI x))] := hl
  refine lv_iload_n hx hb dX1_noCell_0 rfl (lv_at hl 1 rfl) ?_
  refine ji_if_lt (tgt := 12) hx hb dX1_noCell_1 (by decide) (by omega) (fun c_1 => ?_) (fun c_1 => ?_)
  · refine ji_const hx hb dX1_noCell_12 ?_
    refine lv_goto (tgt := 17) hx hb dX1_noCell_13 (by decide) ?_
    exact W.zret (v := jI 1) hx hb hr rfl (fun t_ ht_ hW_ => ⟨_, rfl, ⟨1, rfl, by omega⟩, ht_⟩) (fun q hq => by cases hq) dX1_noCell_17
  · refine lv_iload_n hx hb dX1_noCell_4 rfl (lv_at hl 1 rfl) ?_
    refine lv_aload_n hx hb dX1_noCell_5 rfl (lv_at hl 0 rfl) ?_
    refine va_get (D := (dC, dI)) (ci := 0) (v := .int (jI n)) (C := RX1) (T := TX1) (N := 8) hx hb hts in_X1 hown hK hP 0 rfl rfl 1 (by decide) (hts _ q31) (fun _ h9 => h9) rfl dX1_noCell_6 ?_
    refine ji_icmp_lt (tgt := 16) hx hb dX1_noCell_9 (by decide) (by omega) (by omega) (fun c_2 => ?_) (fun c_2 => ?_)
    · refine ji_const hx hb dX1_noCell_16 ?_
      exact W.zret (v := jI 0) hx hb hr rfl (fun t_ ht_ hW_ => ⟨_, rfl, ⟨0, rfl, by omega⟩, ht_⟩) (fun q hq => by cases hq) dX1_noCell_17
    · refine ji_const hx hb dX1_noCell_12 ?_
      refine lv_goto (tgt := 17) hx hb dX1_noCell_13 (by decide) ?_
      exact W.zret (v := jI 1) hx hb hr rfl (fun t_ ht_ hW_ => ⟨_, rfl, ⟨1, rfl, by omega⟩, ht_⟩) (fun q hq => by cases hq) dX1_noCell_17
set_option maxHeartbeats 4000000 in
set_option maxRecDepth 100000 in
theorem metX1_addPoint (l : Launch) (dC : Nat → ClassId) (dI : Nat → Nat → Nat) (d : ClassId) (h a1 a2 a3 a4 a5 : Nat) (L : Int) (n : Int) (wd : Int → Int) (wi : Int → Int) (wt : Int → Int) (pts : Int) (pt : Int → Int) (pl : Int → Int) (sz : Nat) (t : Int) (hp : 0 ≤ pts ∧ pts < 64) (ht1 : -1000000 ≤ t ∧ t ≤ 1000000) (hpt : ∀ j, 0 ≤ j → j < pts → -1000000 ≤ pt j ∧ pt j ≤ 1000000) : Met l yX1_addPoint (ws_ yX1_addPoint cX1_addPoint 3 none) ({ frames := 0, cells := 0, slots := 0, locals := 0 }) (zPw dC dI (wX d h a1 a2 a3 a4 a5 L n wd wi wt pts pt pl) d sz [.ref h, .int (jI t)]) (wXQv dC dI d h a1 a2 a3 a4 a5 L (va_A (wX d h a1 a2 a3 a4 a5 L n wd wi wt pts pt pl) sz) (fun u => ∃ pts1 pt1 pl1, u = (n, wd, wi, wt, pts1, pt1, pl1) ∧ pts1 = pts + 1 ∧ pl1 = pl ∧ Ins pt pts t pt1)) 0 0 (va_A (wX d h a1 a2 a3 a4 a5 L n wd wi wt pts pt pl) sz) := by
  refine Met.ofW (cc := cX1_addPoint) (maxL := 3) (ret := none) (by decide) rfl ?_
  intro p e s m args below meth c s₁ B hml hv
  obtain ⟨rfl, hsz, hP, hK, hD0⟩ := hv
  have hx := B.exec
  have hb := B.bytes
  have hr := B.returns
  have hts := atoms_spec (ws := (ws_ yX1_addPoint cX1_addPoint 3 none)) B.pre
  have hts : ∀ w ∈ lw_all, w.before _ s = true := fun w h => hts w (List.mem_cons_of_mem _ h)
  have hown : s.vm.findClass RX1 = some m.cls := findClass_of_methodNamed B.named
  have hlocks := B.notSynchronized
  subst hsz
  have hD := hD0.self (sz := s.heap.size)
  generalize hAe : va_A (wX d h a1 a2 a3 a4 a5 L n wd wi wt pts pt pl) s.heap.size = A at hD ⊢
  have hA : ∀ q : Nat, s.heap.size ≤ q → A q := fun q h => by rw [← hAe]; exact Or.inr h
  have hS : va_S A s.heap s.heap [] := va_S.rf
  have hl := lv_entry ([.ref h, .int (jI t)]) (n := 3) (Nat.le_of_ble_eq_true rfl)
  rw [lg_entry_eq]
  generalize (lg_sl ([.ref h, .int (jI t)]) ++ List.replicate (3 - (lg_sl ([.ref h, .int (jI t)])).length) Slot.unset).toArray = ls at hl ⊢
  have hl : lv_has ls 3 [(0, .ref h), (1, .int (jI t))] := hl
  refine lv_aload_n hx hb dX1_addPoint_0 rfl (lv_at hl 0 rfl) ?_
  refine va_get (D := (dC, dI)) (ci := 0) (v := .int (jI pts)) (C := RX1) (T := TX1) (N := 8) hx hb hts in_X1 hown hK hP 0 rfl rfl 5 (by decide) (hts _ q35) (fun _ h9 => h9) rfl dX1_addPoint_1 ?_
  refine lv_istore_n (lv' := [(2, .int (jI pts)), (0, .ref h), (1, .int (jI t))]) hx hb dX1_addPoint_4 rfl hl (by decide) rfl (fun ls hl => ?_)
  have tail : ∀ (k : Int) (g : Int → Int) (hk : 0 ≤ k ∧ k ≤ pts) (hlo : ∀ j, 0 ≤ j → j < k → g j = pt j) (hhi : ∀ j, k < j → j ≤ pts → g j = pt (j - 1)) (hgt : ∀ j, k ≤ j → j < pts → t < pt j) (hle : k = 0 ∨ pt (k - 1) ≤ t) (H : Heap) (locs : List Loc) (hP : va_P (dC, dI) vwCl (wX d h a1 a2 a3 a4 a5 L n wd wi wt pts g pl) H) (hD : va_D A (wX d h a1 a2 a3 a4 a5 L n wd wi wt pts g pl)) (hS : va_S A s.heap H locs) (ls : Array Slot) (hl : lv_has ls 3 [(0, .ref h), (1, .int (jI t)), (2, .int (jI k))]), W p l e (headSpec (ws_ yX1_addPoint cX1_addPoint 3 none) ({ frames := 0, cells := 0, slots := 0, locals := 0 })).room s m ([.ref h, .int (jI t)] : List Value).toArray below meth c H locs 0 0 (MQ below (wXQv dC dI d h a1 a2 a3 a4 a5 L A (fun u => ∃ pts1 pt1 pl1, u = (n, wd, wi, wt, pts1, pt1, pl1) ∧ pts1 = pts + 1 ∧ pl1 = pl ∧ Ins pt pts t pt1)) ([.ref h, .int (jI t)] : List Value).toArray s 0 0 A) (F0 m 41 ls []) := by
    intro k g hk hlo hhi hgt hle H locs hP hD hS ls hl
    refine lv_aload_n hx hb dX1_addPoint_41 rfl (lv_at hl 0 rfl) ?_
    refine va_get (D := (dC, dI)) (ci := 0) (v := .ref a4) (C := RX1) (T := TX1) (N := 8) hx hb hts in_X1 hown hK hP 0 rfl rfl 6 (by decide) (hts _ q36) (fun _ h9 => h9) rfl dX1_addPoint_42 ?_
    refine lv_iload_n hx hb dX1_addPoint_45 rfl (lv_at hl 2 rfl) ?_
    refine lv_iload_n hx hb dX1_addPoint_46 rfl (lv_at hl 1 rfl) ?_
    refine ji_st (f := g) (n := 64) (cA := d) (i := k) (x := t) hx hb hK hP hD hS 4 0 rfl rfl (by omega) (by decide) dX1_addPoint_47 (fun H locs hP hD hS => ?_)
    have hP : va_P (dC, dI) vwCl (wX d h a1 a2 a3 a4 a5 L n wd wi wt pts (uI g k t) pl) H := hP
    have hD : va_D A (wX d h a1 a2 a3 a4 a5 L n wd wi wt pts (uI g k t) pl) := hD
    refine lv_aload_n hx hb dX1_addPoint_48 rfl (lv_at hl 0 rfl) ?_
    refine lv_dup hx hb dX1_addPoint_49 rfl ?_
    refine va_get (D := (dC, dI)) (ci := 0) (v := .int (jI pts)) (C := RX1) (T := TX1) (N := 8) hx hb hts in_X1 hown hK hP 0 rfl rfl 5 (by decide) (hts _ q35) (fun _ h9 => h9) rfl dX1_addPoint_50 ?_
    refine ji_const hx hb dX1_addPoint_53 ?_
    refine ji_add hx hb dX1_addPoint_54 ?_
    refine va_put (D := (dC, dI)) (ci := 0) (v := .int (jI (pts + 1))) (ty := .int) (C := RX1) (T := TX1) (N := 8) hx hb hts in_X1 tyX1 tyX1_ok nmX1 hown hK hP hD hS 0 rfl rfl 5 (by decide) (hts _ q35) (fun _ h9 => h9) rfl (by decide +kernel) rfl rfl (Nat.le_of_ble_eq_true rfl) dX1_addPoint_55 (fun H locs hP hD hS => ?_)
    have hP : va_P (dC, dI) vwCl (wX d h a1 a2 a3 a4 a5 L n wd wi wt (pts + 1) (uI g k t) pl) H := hP
    have hD : va_D A (wX d h a1 a2 a3 a4 a5 L n wd wi wt (pts + 1) (uI g k t) pl) := hD
    exact W.vret hx hb hr (fun t_ ht_ hW_ => ⟨⟨(n, wd, wi, wt, pts + 1, uI g k t, pl), rfl, ⟨_, _, _, rfl, rfl, rfl, k, hk.1, hk.2, fun j h1 h2 => by rw [uI_n (by omega)]; exact hlo j h1 h2, uI_s, fun j h1 h2 => by rw [uI_n (by omega)]; exact hhi j h1 h2, hle, hgt⟩, by rw [ht_]; exact hP, va_K.moved hW_.alike hK, hD⟩, hS.F ht_⟩) hS.2.2 dX1_addPoint_58
  have loop : ∀ (n_ : Nat) (k : Int) (g : Int → Int) (hk : 0 ≤ k ∧ k ≤ pts) (hlo : ∀ j, 0 ≤ j → j < k → g j = pt j) (hhi : ∀ j, k < j → j ≤ pts → g j = pt (j - 1)) (hgt : ∀ j, k ≤ j → j < pts → t < pt j) (hm_ : k.toNat < n_) (H : Heap) (locs : List Loc) (hP : va_P (dC, dI) vwCl (wX d h a1 a2 a3 a4 a5 L n wd wi wt pts g pl) H) (hD : va_D A (wX d h a1 a2 a3 a4 a5 L n wd wi wt pts g pl)) (hS : va_S A s.heap H locs) (ls : Array Slot) (hl : lv_has ls 3 [(0, .ref h), (1, .int (jI t)), (2, .int (jI k))]), W p l e (headSpec (ws_ yX1_addPoint cX1_addPoint 3 none) ({ frames := 0, cells := 0, slots := 0, locals := 0 })).room s m ([.ref h, .int (jI t)] : List Value).toArray below meth c H locs 0 0 (MQ below (wXQv dC dI d h a1 a2 a3 a4 a5 L A (fun u => ∃ pts1 pt1 pl1, u = (n, wd, wi, wt, pts1, pt1, pl1) ∧ pts1 = pts + 1 ∧ pl1 = pl ∧ Ins pt pts t pt1)) ([.ref h, .int (jI t)] : List Value).toArray s 0 0 A) (F0 m 5 ls []) := by
    intro n_
    induction n_ with
    | zero => intro k g hk hlo hhi hgt hm_; exact absurd hm_ (by omega)
    | succ n_ ih_loop =>
      intro k g hk hlo hhi hgt hm_ H locs hP hD hS ls hl
      refine lv_iload_n hx hb dX1_addPoint_5 rfl (lv_at hl 2 rfl) ?_
      refine ji_if_le (tgt := 41) hx hb dX1_addPoint_6 (by decide) (by omega) (fun c_1 => ?_) (fun c_1 => ?_)
      · exact tail k g (by omega) hlo hhi hgt (by omega) _ _ hP hD hS ls (lv_sub hl [0, 1, 2] rfl)
      · refine lv_aload_n hx hb dX1_addPoint_9 rfl (lv_at hl 0 rfl) ?_
        refine va_get (D := (dC, dI)) (ci := 0) (v := .ref a4) (C := RX1) (T := TX1) (N := 8) hx hb hts in_X1 hown hK hP 0 rfl rfl 6 (by decide) (hts _ q36) (fun _ h9 => h9) rfl dX1_addPoint_10 ?_
        refine lv_iload_n hx hb dX1_addPoint_13 rfl (lv_at hl 2 rfl) ?_
        refine ji_const hx hb dX1_addPoint_14 ?_
        refine ji_sub hx hb dX1_addPoint_15 ?_
        refine ji_ld (f := g) (n := 64) (cA := d) hx hb hK hP 4 0 rfl rfl (by omega) (by decide) dX1_addPoint_16 ?_
        have e1 := hlo (k - 1) (by omega) (by omega)
        have e2 := hpt (k - 1) (by omega) (by omega)
        refine lv_iload_n hx hb dX1_addPoint_17 rfl (lv_at hl 1 rfl) ?_
        refine ji_icmp_le (tgt := 41) hx hb dX1_addPoint_18 (by decide) (by omega) (by omega) (fun c_2 => ?_) (fun c_2 => ?_)
        · exact tail k g (by omega) hlo hhi hgt (by omega) _ _ hP hD hS ls (lv_sub hl [0, 1, 2] rfl)
        · refine lv_aload_n hx hb dX1_addPoint_21 rfl (lv_at hl 0 rfl) ?_
          refine va_get (D := (dC, dI)) (ci := 0) (v := .ref a4) (C := RX1) (T := TX1) (N := 8) hx hb hts in_X1 hown hK hP 0 rfl rfl 6 (by decide) (hts _ q36) (fun _ h9 => h9) rfl dX1_addPoint_22 ?_
          refine lv_iload_n hx hb dX1_addPoint_25 rfl (lv_at hl 2 rfl) ?_
          refine lv_aload_n hx hb dX1_addPoint_26 rfl (lv_at hl 0 rfl) ?_
          refine va_get (D := (dC, dI)) (ci := 0) (v := .ref a4) (C := RX1) (T := TX1) (N := 8) hx hb hts in_X1 hown hK hP 0 rfl rfl 6 (by decide) (hts _ q36) (fun _ h9 => h9) rfl dX1_addPoint_27 ?_
          refine lv_iload_n hx hb dX1_addPoint_30 rfl (lv_at hl 2 rfl) ?_
          refine ji_const hx hb dX1_addPoint_31 ?_
          refine ji_sub hx hb dX1_addPoint_32 ?_
          refine ji_ld (f := g) (n := 64) (cA := d) hx hb hK hP 4 0 rfl rfl (by omega) (by decide) dX1_addPoint_33 ?_
          refine ji_st (f := g) (n := 64) (cA := d) (i := k) (x := g (k - 1)) hx hb hK hP hD hS 4 0 rfl rfl (by omega) (by decide) dX1_addPoint_34 (fun H locs hP hD hS => ?_)
          have hP : va_P (dC, dI) vwCl (wX d h a1 a2 a3 a4 a5 L n wd wi wt pts (uI g k (g (k - 1))) pl) H := hP
          have hD : va_D A (wX d h a1 a2 a3 a4 a5 L n wd wi wt pts (uI g k (g (k - 1))) pl) := hD
          refine ji_iinc (v := k - 1) (lv' := [(2, .int (jI (k - 1))), (0, .ref h), (1, .int (jI t))]) hx hb dX1_addPoint_35 hl (k := 2) rfl (by omega) (by decide) rfl (fun ls hl => ?_)
          refine lv_goto (tgt := 5) hx hb dX1_addPoint_38 (by decide) ?_
          exact ih_loop (k - 1) (uI g k (g (k - 1))) (by omega) (fun j h1 h2 => by rw [uI_n (by omega)]; exact hlo j h1 (by omega)) (fun j h1 h2 => by
                by_cases q : j = k
                · rw [q, uI_s, e1]
                · rw [uI_n q]; exact hhi j (by omega) h2) (fun j h1 h2 => by
                by_cases q : j = k - 1
                · rw [q]; omega
                · exact hgt j (by omega) h2) (by omega) _ _ hP hD hS ls (lv_sub hl [1, 2, 0] rfl)
  exact loop _ pts pt (by omega) (fun _ _ _ => rfl) (fun j h1 h2 => absurd h1 (by omega)) (fun j h1 h2 => absurd h1 (by omega)) (Nat.lt_succ_self _) _ _ hP hD hS ls (lv_sub hl [1, 2, 0] rfl)
set_option maxHeartbeats 4000000 in
set_option maxRecDepth 100000 in
theorem metX1_addUnit (l : Launch) (dC : Nat → ClassId) (dI : Nat → Nat → Nat) (d : ClassId) (h a1 a2 a3 a4 a5 : Nat) (L : Int) (n : Int) (wd : Int → Int) (wi : Int → Int) (wt : Int → Int) (pts : Int) (pt : Int → Int) (pl : Int → Int) (sz : Nat) (t : Int) (hp : 0 ≤ pts ∧ pts < 63) (ht1 : -1000000 ≤ t ∧ t ≤ 1000000) (hpt : ∀ j, 0 ≤ j → j < pts → -1000000 ≤ pt j ∧ pt j ≤ 1000000) : Met l yX1_addUnit (ws_ yX1_addUnit cX1_addUnit 3 (some .int)) ({ frames := 1, cells := 0, slots := 0, locals := 22 }) (zPw dC dI (wX d h a1 a2 a3 a4 a5 L n wd wi wt pts pt pl) d sz [.ref h, .int (jI t)]) (wXQi dC dI d h a1 a2 a3 a4 a5 L (va_A (wX d h a1 a2 a3 a4 a5 L n wd wi wt pts pt pl) sz) (fun z u => ∃ pts1 pt1 pl1, u = (n, wd, wi, wt, pts1, pt1, pl1) ∧ pts1 = pts + 1 ∧ pl1 = pl ∧ Un pt pts t pt1 z)) 0 0 (va_A (wX d h a1 a2 a3 a4 a5 L n wd wi wt pts pt pl) sz) := by
  refine Met.ofW (cc := cX1_addUnit) (maxL := 3) (ret := (some .int)) (by decide) rfl ?_
  intro p e s m args below meth c s₁ B hml hv
  obtain ⟨rfl, hsz, hP, hK, hD0⟩ := hv
  have hx := B.exec
  have hb := B.bytes
  have hr := B.returns
  have hts := atoms_spec (ws := (ws_ yX1_addUnit cX1_addUnit 3 (some .int))) B.pre
  have hts : ∀ w ∈ lw_all, w.before _ s = true := fun w h => hts w (List.mem_cons_of_mem _ h)
  have hown : s.vm.findClass RX1 = some m.cls := findClass_of_methodNamed B.named
  have hlocks := B.notSynchronized
  subst hsz
  have hD := hD0.self (sz := s.heap.size)
  generalize hAe : va_A (wX d h a1 a2 a3 a4 a5 L n wd wi wt pts pt pl) s.heap.size = A at hD ⊢
  have hA : ∀ q : Nat, s.heap.size ≤ q → A q := fun q h => by rw [← hAe]; exact Or.inr h
  have hS : va_S A s.heap s.heap [] := va_S.rf
  have hl := lv_entry ([.ref h, .int (jI t)]) (n := 3) (Nat.le_of_ble_eq_true rfl)
  rw [lg_entry_eq]
  generalize (lg_sl ([.ref h, .int (jI t)]) ++ List.replicate (3 - (lg_sl ([.ref h, .int (jI t)])).length) Slot.unset).toArray = ls at hl ⊢
  have hl : lv_has ls 3 [(0, .ref h), (1, .int (jI t))] := hl
  refine lv_aload_n hx hb dX1_addUnit_0 rfl (lv_at hl 0 rfl) ?_
  refine lv_iload_n hx hb dX1_addUnit_1 rfl (lv_at hl 1 rfl) ?_
  have hFc := va_free (wc := (wX d h a1 a2 a3 a4 a5 L n wd wi wt pts pt pl)) hD hS hA [0, 1, 2, 3, 4, 5] rfl
  refine va_callv (va_runV (As := [.int (jI t)]) (rest := []) ⟨hx, hb, hml, hown, hts⟩ (metX1_addPoint l dC dI d h a1 a2 a3 a4 a5 L n wd wi wt pts pt pl s.heap.size t (by omega) ht1 hpt) (cwV 1 hts (lw_V q99 q101 qs4 q20 q102) rfl rfl rfl (by decide +kernel) ⟨Nat.le_of_ble_eq_true rfl, Nat.le_of_ble_eq_true rfl⟩) ⟨zPw_bl, va_recv hK hP (ci := 0) (q0 := 0) rfl rfl, fun U hU hW => ⟨rfl, by rw [hU], by rw [hU]; exact hP, va_K.moved hW.alike hK, hD.weaken (fun _ _ _ _ => trivial)⟩⟩ rfl rfl hl.1 rfl (lv_room (Nat.le_of_ble_eq_true rfl)) dX1_addUnit_2 ⟨Nat.le_of_ble_eq_true rfl, Nat.le_of_ble_eq_true rfl⟩) hS (fun q _ h => hFc q h) hFc (fun u_ t_ H locs ht_ hvm_ hw_ hB_ hz_ hk_ hS => ?_)
  obtain ⟨ptsza, ptza, plza, rfl, hza⟩ := hw_
  obtain ⟨hP, -, hD1_⟩ := hB_
  rw [ht_] at hP
  have hP : va_P (dC, dI) vwCl (wX d h a1 a2 a3 a4 a5 L n wd wi wt ptsza ptza plza) H := hP
  have hD : va_D A (wX d h a1 a2 a3 a4 a5 L n wd wi wt ptsza ptza plza) := hD1_.weaken (fun _ q _ h => hFc q.1 h)
  clear hD1_ hz_ hk_ hFc ht_ hvm_
  obtain ⟨ea1, ea2, hI1⟩ := hza
  have hr1 := Ins_rng hI1 hpt ht1
  rw [ea1, ea2] at hP hD
  have hP : va_P (dC, dI) vwCl (wX d h a1 a2 a3 a4 a5 L n wd wi wt (pts + 1) ptza pl) H := hP
  have hD : va_D A (wX d h a1 a2 a3 a4 a5 L n wd wi wt (pts + 1) ptza pl) := hD
  refine lv_aload_n hx hb dX1_addUnit_5 rfl (lv_at hl 0 rfl) ?_
  refine va_get (D := (dC, dI)) (ci := 0) (v := .ref a4) (C := RX1) (T := TX1) (N := 8) hx hb hts in_X1 hown hK hP 0 rfl rfl 6 (by decide) (hts _ q36) (fun _ h9 => h9) rfl dX1_addUnit_6 ?_
  refine lv_aload_n hx hb dX1_addUnit_9 rfl (lv_at hl 0 rfl) ?_
  refine va_get (D := (dC, dI)) (ci := 0) (v := .int (jI (pts + 1))) (C := RX1) (T := TX1) (N := 8) hx hb hts in_X1 hown hK hP 0 rfl rfl 5 (by decide) (hts _ q35) (fun _ h9 => h9) rfl dX1_addUnit_10 ?_
  refine ji_const hx hb dX1_addUnit_13 ?_
  refine ji_sub hx hb dX1_addUnit_14 ?_
  refine ji_top (b := pts) (by omega) ?_
  refine ji_ld (f := ptza) (n := 64) (cA := d) hx hb hK hP 4 0 rfl rfl (by omega) (by decide) dX1_addUnit_15 ?_
  have hr2 := hr1 pts (by omega) (by omega)
  refine lv_istore_n (lv' := [(2, .int (jI (ptza pts))), (0, .ref h), (1, .int (jI t))]) hx hb dX1_addUnit_16 rfl hl (by decide) rfl (fun ls hl => ?_)
  refine lv_iload_n hx hb dX1_addUnit_17 rfl (lv_at hl 0 rfl) ?_
  refine lv_iload_n hx hb dX1_addUnit_18 rfl (lv_at hl 2 rfl) ?_
  refine ji_icmp_gt (tgt := 24) hx hb dX1_addUnit_19 (by decide) (by omega) (by omega) (fun c_1 => ?_) (fun c_1 => ?_)
  · refine lv_aload_n hx hb dX1_addUnit_24 rfl (lv_at hl 1 rfl) ?_
    refine lv_dup hx hb dX1_addUnit_25 rfl ?_
    refine va_get (D := (dC, dI)) (ci := 0) (v := .int (jI (pts + 1))) (C := RX1) (T := TX1) (N := 8) hx hb hts in_X1 hown hK hP 0 rfl rfl 5 (by decide) (hts _ q35) (fun _ h9 => h9) rfl dX1_addUnit_26 ?_
    refine ji_const hx hb dX1_addUnit_29 ?_
    refine ji_sub hx hb dX1_addUnit_30 ?_
    refine ji_top (b := pts) (by omega) ?_
    refine va_put (D := (dC, dI)) (ci := 0) (v := .int (jI pts)) (ty := .int) (C := RX1) (T := TX1) (N := 8) hx hb hts in_X1 tyX1 tyX1_ok nmX1 hown hK hP hD hS 0 rfl rfl 5 (by decide) (hts _ q35) (fun _ h9 => h9) rfl (by decide +kernel) rfl rfl (Nat.le_of_ble_eq_true rfl) dX1_addUnit_31 (fun H locs hP hD hS => ?_)
    have hP : va_P (dC, dI) vwCl (wX d h a1 a2 a3 a4 a5 L n wd wi wt pts ptza pl) H := hP
    have hD : va_D A (wX d h a1 a2 a3 a4 a5 L n wd wi wt pts ptza pl) := hD
    refine lv_aload_n hx hb dX1_addUnit_34 rfl (lv_at hl 1 rfl) ?_
    refine lv_iload_n hx hb dX1_addUnit_35 rfl (lv_at hl 2 rfl) ?_
    have hFc := va_free (wc := (wX d h a1 a2 a3 a4 a5 L n wd wi wt pts ptza pl)) hD hS hA [0, 1, 2, 3, 4, 5] rfl
    refine va_callv (va_runV (As := [.int (jI t)]) (rest := []) ⟨hx, hb, hml, hown, hts⟩ (metX1_addPoint l dC dI d h a1 a2 a3 a4 a5 L n wd wi wt pts ptza pl H.size t (by omega) ht1 (fun j h1 h2 => hr1 j h1 (by omega))) (cwV 1 hts (lw_V q99 q101 qs4 q20 q102) rfl rfl rfl (by decide +kernel) ⟨Nat.le_of_ble_eq_true rfl, Nat.le_of_ble_eq_true rfl⟩) ⟨zPw_bl, va_recv hK hP (ci := 0) (q0 := 0) rfl rfl, fun U hU hW => ⟨rfl, by rw [hU], by rw [hU]; exact hP, va_K.moved hW.alike hK, hD.weaken (fun _ _ _ _ => trivial)⟩⟩ rfl rfl hl.1 rfl (lv_room (Nat.le_of_ble_eq_true rfl)) dX1_addUnit_36 ⟨Nat.le_of_ble_eq_true rfl, Nat.le_of_ble_eq_true rfl⟩) hS (fun q _ h => hFc q h) hFc (fun u_ t_ H locs ht_ hvm_ hw_ hB_ hz_ hk_ hS => ?_)
    obtain ⟨ptszb, ptzb, plzb, rfl, hzb⟩ := hw_
    obtain ⟨hP, -, hD1_⟩ := hB_
    rw [ht_] at hP
    have hP : va_P (dC, dI) vwCl (wX d h a1 a2 a3 a4 a5 L n wd wi wt ptszb ptzb plzb) H := hP
    have hD : va_D A (wX d h a1 a2 a3 a4 a5 L n wd wi wt ptszb ptzb plzb) := hD1_.weaken (fun _ q _ h => hFc q.1 h)
    clear hD1_ hz_ hk_ hFc ht_ hvm_
    obtain ⟨eb1, eb2, hI2⟩ := hzb
    rw [eb1, eb2] at hP hD
    have hP : va_P (dC, dI) vwCl (wX d h a1 a2 a3 a4 a5 L n wd wi wt (pts + 1) ptzb pl) H := hP
    have hD : va_D A (wX d h a1 a2 a3 a4 a5 L n wd wi wt (pts + 1) ptzb pl) := hD
    refine lv_iload_n hx hb dX1_addUnit_39 rfl (lv_at hl 0 rfl) ?_
    refine lv_iload_n hx hb dX1_addUnit_40 rfl (lv_at hl 2 rfl) ?_
    refine ji_sub hx hb dX1_addUnit_41 ?_
    exact W.iret (v := jI ((ptza pts) - t)) hx hb hr (fun t_ ht_ hW_ => ⟨⟨_, (n, wd, wi, wt, pts + 1, ptzb, pl), rfl, ⟨(ptza pts) - t, rfl, ⟨_, _, _, rfl, rfl, rfl, ptza, hI1, Or.inr ⟨by omega, hI2, rfl⟩⟩⟩, by rw [ht_]; exact hP, va_K.moved hW_.alike hK, hD⟩, hS.F ht_⟩) hS.2.2 dX1_addUnit_42
  · refine ji_const hx hb dX1_addUnit_22 ?_
    exact W.iret (v := jI 0) hx hb hr (fun t_ ht_ hW_ => ⟨⟨_, (n, wd, wi, wt, pts + 1, ptza, pl), rfl, ⟨0, rfl, ⟨_, _, _, rfl, rfl, rfl, ptza, hI1, Or.inl ⟨by omega, rfl, rfl⟩⟩⟩, by rw [ht_]; exact hP, va_K.moved hW_.alike hK, hD⟩, hS.F ht_⟩) hS.2.2 dX1_addUnit_23
set_option maxHeartbeats 4000000 in
set_option maxRecDepth 100000 in
theorem metX1_widthOf (l : Launch) (dC : Nat → ClassId) (dI : Nat → Nat → Nat) (d : ClassId) (h a1 a2 a3 a4 a5 : Nat) (L : Int) (n : Int) (wd : Int → Int) (wi : Int → Int) (wt : Int → Int) (pts : Int) (pt : Int → Int) (pl : Int → Int) (fr : Int) (to : Int) (hok : Ok L n wd wi wt) (hf : 0 ≤ fr ∧ fr ≤ to ∧ to ≤ n) : Met l yX1_widthOf (ws_ yX1_widthOf cX1_widthOf 5 (some .int)) ({ frames := 0, cells := 0, slots := 0, locals := 0 }) (zPp dC dI (wX d h a1 a2 a3 a4 a5 L n wd wi wt pts pt pl) d [.ref h, .int (jI fr), .int (jI to)]) (vp_Si (fun r => ∃ z : Int, r = jI z ∧ (z = sWi wd fr to))) 0 0 (fun _ => False) := by
  refine Met.ofW (cc := cX1_widthOf) (maxL := 5) (ret := (some .int)) (by decide) rfl ?_
  intro p e s m args below meth c s₁ B hml hv
  obtain ⟨rfl, hP, hK⟩ := hv
  have hx := B.exec
  have hb := B.bytes
  have hr := B.returns
  have hts := atoms_spec (ws := (ws_ yX1_widthOf cX1_widthOf 5 (some .int))) B.pre
  have hts : ∀ w ∈ lw_all, w.before _ s = true := fun w h => hts w (List.mem_cons_of_mem _ h)
  have hown : s.vm.findClass RX1 = some m.cls := findClass_of_methodNamed B.named
  have hlocks := B.notSynchronized
  have hl := lv_entry ([.ref h, .int (jI fr), .int (jI to)]) (n := 5) (Nat.le_of_ble_eq_true rfl)
  rw [lg_entry_eq]
  generalize (lg_sl ([.ref h, .int (jI fr), .int (jI to)]) ++ List.replicate (5 - (lg_sl ([.ref h, .int (jI fr), .int (jI to)])).length) Slot.unset).toArray = ls at hl ⊢
  have hl : lv_has ls 5 [(0, .ref h), (1, .int (jI fr)), (2, .int (jI to))] := hl
  have hok2 := hok
  obtain ⟨hLn, hwd, hwi, hwt⟩ := hok2
  refine ji_const hx hb dX1_widthOf_0 ?_
  refine lv_istore_n (lv' := [(3, .int (jI 0)), (0, .ref h), (1, .int (jI fr)), (2, .int (jI to))]) hx hb dX1_widthOf_1 rfl hl (by decide) rfl (fun ls hl => ?_)
  refine lv_iload_n hx hb dX1_widthOf_2 rfl (lv_at hl 2 rfl) ?_
  refine lv_istore (lv' := [(4, .int (jI fr)), (3, .int (jI 0)), (0, .ref h), (1, .int (jI fr)), (2, .int (jI to))]) hx hb dX1_widthOf_3 hl (by decide) rfl (fun ls hl => ?_)
  have loop : ∀ (n_ : Nat) (k : Int) (sm : Int) (hk : fr ≤ k ∧ k ≤ to) (hsm : sm = sWi wd fr k) (hm_ : (to - k).toNat < n_) (ls : Array Slot) (hl : lv_has ls 5 [(0, .ref h), (1, .int (jI fr)), (2, .int (jI to)), (3, .int (jI sm)), (4, .int (jI k))]), W p l e (headSpec (ws_ yX1_widthOf cX1_widthOf 5 (some .int)) ({ frames := 0, cells := 0, slots := 0, locals := 0 })).room s m ([.ref h, .int (jI fr), .int (jI to)] : List Value).toArray below meth c s.heap [] 0 0 (MQ below (vp_Si (fun r => ∃ z : Int, r = jI z ∧ (z = sWi wd fr to))) ([.ref h, .int (jI fr), .int (jI to)] : List Value).toArray s 0 0 (fun _ => False)) (F0 m 5 ls []) := by
    intro n_
    induction n_ with
    | zero => intro k sm hk hsm hm_; exact absurd hm_ (by omega)
    | succ n_ ih_loop =>
      intro k sm hk hsm hm_ ls hl
      refine lv_iload hx hb dX1_widthOf_5 (lv_at hl 4 rfl) ?_
      refine lv_iload_n hx hb dX1_widthOf_7 rfl (lv_at hl 2 rfl) ?_
      refine ji_icmp_ge (tgt := 27) hx hb dX1_widthOf_8 (by decide) (by omega) (by omega) (fun c_1 => ?_) (fun c_1 => ?_)
      · refine lv_iload_n hx hb dX1_widthOf_27 rfl (lv_at hl 3 rfl) ?_
        exact W.iret (v := jI sm) hx hb hr (fun t_ ht_ hW_ => ⟨_, rfl, ⟨sm, rfl, by rw [hsm, show k = to by omega]⟩, ht_⟩) (fun q hq => by cases hq) dX1_widthOf_28
      · refine lv_iload_n hx hb dX1_widthOf_11 rfl (lv_at hl 3 rfl) ?_
        refine lv_aload_n hx hb dX1_widthOf_12 rfl (lv_at hl 0 rfl) ?_
        refine va_get (D := (dC, dI)) (ci := 0) (v := .ref a1) (C := RX1) (T := TX1) (N := 8) hx hb hts in_X1 hown hK hP 0 rfl rfl 2 (by decide) (hts _ q32) (fun _ h9 => h9) rfl dX1_widthOf_13 ?_
        refine lv_iload hx hb dX1_widthOf_16 (lv_at hl 4 rfl) ?_
        refine ji_ld (f := wd) (n := 10) (cA := d) hx hb hK hP 1 0 rfl rfl (by omega) (by decide) dX1_widthOf_18 ?_
        refine ji_add hx hb dX1_widthOf_19 ?_
        refine lv_istore_n (lv' := [(3, .int (jI (sm + (wd k)))), (0, .ref h), (1, .int (jI fr)), (2, .int (jI to)), (4, .int (jI k))]) hx hb dX1_widthOf_20 rfl hl (by decide) rfl (fun ls hl => ?_)
        refine ji_iinc (v := k + 1) (lv' := [(4, .int (jI (k + 1))), (3, .int (jI (sm + (wd k)))), (0, .ref h), (1, .int (jI fr)), (2, .int (jI to))]) hx hb dX1_widthOf_21 hl (k := 4) rfl (by omega) (by decide) rfl (fun ls hl => ?_)
        refine lv_goto (tgt := 5) hx hb dX1_widthOf_24 (by decide) ?_
        exact ih_loop (k + 1) (sm + (wd k)) (by omega) (by rw [sWi_s wd hk.1, hsm]) (by omega) ls (lv_sub hl [2, 3, 4, 1, 0] rfl)
  exact loop _ fr 0 (by omega) ((sWi_0 wd fr).symm) (Nat.lt_succ_self _) ls (lv_sub hl [2, 3, 4, 1, 0] rfl)
set_option maxHeartbeats 4000000 in
set_option maxRecDepth 100000 in
theorem metX1_fitsAtWish (l : Launch) (dC : Nat → ClassId) (dI : Nat → Nat → Nat) (d : ClassId) (h a1 a2 a3 a4 a5 : Nat) (L : Int) (n : Int) (wd : Int → Int) (wi : Int → Int) (wt : Int → Int) (pts : Int) (pt : Int → Int) (pl : Int → Int) (x : Int) (hok : Ok L n wd wi wt) (hx1 : 0 ≤ x ∧ x < n) : Met l yX1_fitsAtWish (ws_ yX1_fitsAtWish cX1_fitsAtWish 2 (some .boolean)) ({ frames := 0, cells := 0, slots := 0, locals := 0 }) (zPp dC dI (wX d h a1 a2 a3 a4 a5 L n wd wi wt pts pt pl) d [.ref h, .int (jI x)]) (vp_Si (fun r => ∃ z : Int, r = jI z ∧ ((z = 1 ∧ wi x + wd x ≤ L) ∨ (z = 0 ∧ L < wi x + wd x)))) 0 0 (fun _ => False) := by
  refine Met.ofW (cc := cX1_fitsAtWish) (maxL := 2) (ret := (some .boolean)) (by decide) rfl ?_
  intro p e s m args below meth c s₁ B hml hv
  obtain ⟨rfl, hP, hK⟩ := hv
  have hx := B.exec
  have hb := B.bytes
  have hr := B.returns
  have hts := atoms_spec (ws := (ws_ yX1_fitsAtWish cX1_fitsAtWish 2 (some .boolean))) B.pre
  have hts : ∀ w ∈ lw_all, w.before _ s = true := fun w h => hts w (List.mem_cons_of_mem _ h)
  have hown : s.vm.findClass RX1 = some m.cls := findClass_of_methodNamed B.named
  have hlocks := B.notSynchronized
  have hl := lv_entry ([.ref h, .int (jI x)]) (n := 2) (Nat.le_of_ble_eq_true rfl)
  rw [lg_entry_eq]
  generalize (lg_sl ([.ref h, .int (jI x)]) ++ List.replicate (2 - (lg_sl ([.ref h, .int (jI x)])).length) Slot.unset).toArray = ls at hl ⊢
  have hl : lv_has ls 2 [(0, .ref h), (1, .int (jI x))] := hl
  have hok2 := hok
  obtain ⟨hLn, hwd, hwi, hwt⟩ := hok2
  refine lv_aload_n hx hb dX1_fitsAtWish_0 rfl (lv_at hl 0 rfl) ?_
  refine va_get (D := (dC, dI)) (ci := 0) (v := .ref a2) (C := RX1) (T := TX1) (N := 8) hx hb hts in_X1 hown hK hP 0 rfl rfl 3 (by decide) (hts _ q33) (fun _ h9 => h9) rfl dX1_fitsAtWish_1 ?_
  refine lv_iload_n hx hb dX1_fitsAtWish_4 rfl (lv_at hl 1 rfl) ?_
  refine ji_ld (f := wi) (n := 10) (cA := d) hx hb hK hP 2 0 rfl rfl (by omega) (by decide) dX1_fitsAtWish_5 ?_
  have f_1 := hwi x (by omega) (by omega)
  refine lv_aload_n hx hb dX1_fitsAtWish_6 rfl (lv_at hl 0 rfl) ?_
  refine va_get (D := (dC, dI)) (ci := 0) (v := .ref a1) (C := RX1) (T := TX1) (N := 8) hx hb hts in_X1 hown hK hP 0 rfl rfl 2 (by decide) (hts _ q32) (fun _ h9 => h9) rfl dX1_fitsAtWish_7 ?_
  refine lv_iload_n hx hb dX1_fitsAtWish_10 rfl (lv_at hl 1 rfl) ?_
  refine ji_ld (f := wd) (n := 10) (cA := d) hx hb hK hP 1 0 rfl rfl (by omega) (by decide) dX1_fitsAtWish_11 ?_
  have f_2 := hwd x (by omega) (by omega)
  refine ji_add hx hb dX1_fitsAtWish_12 ?_
  refine lv_aload_n hx hb dX1_fitsAtWish_13 rfl (lv_at hl 0 rfl) ?_
  refine va_get (D := (dC, dI)) (ci := 0) (v := .int (jI L)) (C := RX1) (T := TX1) (N := 8) hx hb hts in_X1 hown hK hP 0 rfl rfl 0 (by decide) (hts _ q30) (fun _ h9 => h9) rfl dX1_fitsAtWish_14 ?_
  refine ji_icmp_gt (tgt := 24) hx hb dX1_fitsAtWish_17 (by decide) (by omega) (by omega) (fun c_3 => ?_) (fun c_3 => ?_)
  · refine ji_const hx hb dX1_fitsAtWish_24 ?_
    exact W.zret (v := jI 0) hx hb hr rfl (fun t_ ht_ hW_ => ⟨_, rfl, ⟨0, rfl, by omega⟩, ht_⟩) (fun q hq => by cases hq) dX1_fitsAtWish_25
  · refine ji_const hx hb dX1_fitsAtWish_20 ?_
    refine lv_goto (tgt := 25) hx hb dX1_fitsAtWish_21 (by decide) ?_
    exact W.zret (v := jI 1) hx hb hr rfl (fun t_ ht_ hW_ => ⟨_, rfl, ⟨1, rfl, by omega⟩, ht_⟩) (fun q hq => by cases hq) dX1_fitsAtWish_25
set_option maxHeartbeats 4000000 in
set_option maxRecDepth 100000 in
theorem metX1_room (l : Launch) (dC : Nat → ClassId) (dI : Nat → Nat → Nat) (d : ClassId) (h a1 a2 a3 a4 a5 : Nat) (L : Int) (n : Int) (wd : Int → Int) (wi : Int → Int) (wt : Int → Int) (pts : Int) (pt : Int → Int) (pl : Int → Int) (hok : Ok L n wd wi wt) : Met l yX1_room (ws_ yX1_room cX1_room 1 (some .int)) ({ frames := 1, cells := 0, slots := 0, locals := 24 }) (zPp dC dI (wX d h a1 a2 a3 a4 a5 L n wd wi wt pts pt pl) d [.ref h]) (vp_Si (fun r => ∃ z : Int, r = jI z ∧ (z = L - sWi wd 0 n))) 0 0 (fun _ => False) := by
  refine Met.ofW (cc := cX1_room) (maxL := 1) (ret := (some .int)) (by decide) rfl ?_
  intro p e s m args below meth c s₁ B hml hv
  obtain ⟨rfl, hP, hK⟩ := hv
  have hx := B.exec
  have hb := B.bytes
  have hr := B.returns
  have hts := atoms_spec (ws := (ws_ yX1_room cX1_room 1 (some .int))) B.pre
  have hts : ∀ w ∈ lw_all, w.before _ s = true := fun w h => hts w (List.mem_cons_of_mem _ h)
  have hown : s.vm.findClass RX1 = some m.cls := findClass_of_methodNamed B.named
  have hlocks := B.notSynchronized
  have hl := lv_entry ([.ref h]) (n := 1) (Nat.le_of_ble_eq_true rfl)
  rw [lg_entry_eq]
  generalize (lg_sl ([.ref h]) ++ List.replicate (1 - (lg_sl ([.ref h])).length) Slot.unset).toArray = ls at hl ⊢
  have hl : lv_has ls 1 [(0, .ref h)] := hl
  have hok2 := hok
  obtain ⟨hLn, hwd, hwi, hwt⟩ := hok2
  refine lv_aload_n hx hb dX1_room_0 rfl (lv_at hl 0 rfl) ?_
  refine va_get (D := (dC, dI)) (ci := 0) (v := .int (jI L)) (C := RX1) (T := TX1) (N := 8) hx hb hts in_X1 hown hK hP 0 rfl rfl 0 (by decide) (hts _ q30) (fun _ h9 => h9) rfl dX1_room_1 ?_
  refine lv_aload_n hx hb dX1_room_4 rfl (lv_at hl 0 rfl) ?_
  refine ji_const hx hb dX1_room_5 ?_
  refine lv_aload_n hx hb dX1_room_6 rfl (lv_at hl 0 rfl) ?_
  refine va_get (D := (dC, dI)) (ci := 0) (v := .int (jI n)) (C := RX1) (T := TX1) (N := 8) hx hb hts in_X1 hown hK hP 0 rfl rfl 1 (by decide) (hts _ q31) (fun _ h9 => h9) rfl dX1_room_7 ?_
  refine vp_callSi (W.runV (As := [.int (jI 0), .int (jI n)]) (rest := [.int (jI L)]) ⟨hx, hb, hml, hown, hts⟩ (metX1_widthOf l dC dI d h a1 a2 a3 a4 a5 L n wd wi wt pts pt pl 0 n hok (by omega)) (cwV 2 hts (lw_V q88 q90 qs2 q20 q91) rfl rfl rfl (by decide +kernel) ⟨Nat.le_of_ble_eq_true rfl, Nat.le_of_ble_eq_true rfl⟩) ⟨zPp_bl, va_recv hK hP (ci := 0) (q0 := 0) rfl rfl, fun U hU hW => ⟨rfl, by rw [hU]; exact hP, va_K.moved hW.alike hK⟩⟩ rfl rfl hl.1 rfl (lv_room (Nat.le_of_ble_eq_true rfl)) dX1_room_10 ⟨Nat.le_of_ble_eq_true rfl, Nat.le_of_ble_eq_true rfl⟩) (fun r_ hr_ => ?_)
  obtain ⟨z_1, rfl, hz_1⟩ := hr_
  refine ji_sub hx hb dX1_room_13 ?_
  exact W.iret (v := jI (L - z_1)) hx hb hr (fun t_ ht_ hW_ => ⟨_, rfl, ⟨L - z_1, rfl, by omega⟩, ht_⟩) (fun q hq => by cases hq) dX1_room_14
end
section
set_option maxHeartbeats 4000000 in
set_option maxRecDepth 100000 in
theorem metX1_append (l : Launch) (dC : Nat → ClassId) (dI : Nat → Nat → Nat) (d : ClassId) (h a1 a2 a3 a4 a5 : Nat) (L : Int) (n : Int) (wd : Int → Int) (wi : Int → Int) (wt : Int → Int) (pts : Int) (pt : Int → Int) (pl : Int → Int) (sz : Nat) (x : Int) (y : Int) (w : Int) (hok : Ok L n wd wi wt) (hx1 : -2147483648 ≤ x ∧ x < 2147483648) (hy1 : -2147483648 ≤ y ∧ y < 2147483648) (hw1 : -2147483648 ≤ w ∧ w < 2147483648) : Met l yX1_append (ws_ yX1_append cX1_append 4 (some .int)) ({ frames := 0, cells := 0, slots := 0, locals := 0 }) (zPw dC dI (wX d h a1 a2 a3 a4 a5 L n wd wi wt pts pt pl) d sz [.ref h, .int (jI x), .int (jI y), .int (jI w)]) (wXQi dC dI d h a1 a2 a3 a4 a5 L (va_A (wX d h a1 a2 a3 a4 a5 L n wd wi wt pts pt pl) sz) (fun z u => ∃ n1 wd1 wi1 wt1, u = (n1, wd1, wi1, wt1, pts, pt, pl) ∧ App n wd wi wt x y w z n1 wd1 wi1 wt1)) 0 0 (va_A (wX d h a1 a2 a3 a4 a5 L n wd wi wt pts pt pl) sz) := by
  refine Met.ofW (cc := cX1_append) (maxL := 4) (ret := (some .int)) (by decide) rfl ?_
  intro p e s m args below meth c s₁ B hml hv
  obtain ⟨rfl, hsz, hP, hK, hD0⟩ := hv
  have hx := B.exec
  have hb := B.bytes
  have hr := B.returns
  have hts := atoms_spec (ws := (ws_ yX1_append cX1_append 4 (some .int))) B.pre
  have hts : ∀ w ∈ lw_all, w.before _ s = true := fun w h => hts w (List.mem_cons_of_mem _ h)
  have hown : s.vm.findClass RX1 = some m.cls := findClass_of_methodNamed B.named
  have hlocks := B.notSynchronized
  subst hsz
  have hD := hD0.self (sz := s.heap.size)
  generalize hAe : va_A (wX d h a1 a2 a3 a4 a5 L n wd wi wt pts pt pl) s.heap.size = A at hD ⊢
  have hA : ∀ q : Nat, s.heap.size ≤ q → A q := fun q h => by rw [← hAe]; exact Or.inr h
  have hS : va_S A s.heap s.heap [] := va_S.rf
  have hl := lv_entry ([.ref h, .int (jI x), .int (jI y), .int (jI w)]) (n := 4) (Nat.le_of_ble_eq_true rfl)
  rw [lg_entry_eq]
  generalize (lg_sl ([.ref h, .int (jI x), .int (jI y), .int (jI w)]) ++ List.replicate (4 - (lg_sl ([.ref h, .int (jI x), .int (jI y), .int (jI w)])).length) Slot.unset).toArray = ls at hl ⊢
  have hl : lv_has ls 4 [(0, .ref h), (1, .int (jI x)), (2, .int (jI y)), (3, .int (jI w))] := hl
  have hok2 := hok
  obtain ⟨hLn, hwd, hwi, hwt⟩ := hok2
  refine lv_iload_n hx hb dX1_append_0 rfl (lv_at hl 1 rfl) ?_
  refine ji_const hx hb dX1_append_1 ?_
  refine ji_icmp_lt (tgt := 10) hx hb dX1_append_2 (by decide) (by omega) (by omega) (fun c_1 => ?_) (fun c_1 => ?_)
  · refine ji_const hx hb dX1_append_10 ?_
    exact W.iret (v := jI (-1)) hx hb hr (fun t_ ht_ hW_ => ⟨⟨_, (n, wd, wi, wt, pts, pt, pl), rfl, ⟨(-1), rfl, ⟨_, _, _, _, rfl, Or.inl ⟨by omega, rfl, rfl, rfl, rfl⟩⟩⟩, by rw [ht_]; exact hP, va_K.moved hW_.alike hK, hD⟩, hS.F ht_⟩) hS.2.2 dX1_append_11
  · refine lv_iload_n hx hb dX1_append_5 rfl (lv_at hl 1 rfl) ?_
    refine ji_const hx hb dX1_append_6 ?_
    refine ji_icmp_le (tgt := 12) hx hb dX1_append_7 (by decide) (by omega) (by omega) (fun c_2 => ?_) (fun c_2 => ?_)
    · refine lv_iload_n hx hb dX1_append_12 rfl (lv_at hl 2 rfl) ?_
      refine ji_if_lt (tgt := 22) hx hb dX1_append_13 (by decide) (by omega) (fun c_3 => ?_) (fun c_3 => ?_)
      · refine lv_bipush (v := jI (-2)) hx hb dX1_append_22 (by decide) ?_
        exact W.iret (v := jI (-2)) hx hb hr (fun t_ ht_ hW_ => ⟨⟨_, (n, wd, wi, wt, pts, pt, pl), rfl, ⟨(-2), rfl, ⟨_, _, _, _, rfl, Or.inl ⟨by omega, rfl, rfl, rfl, rfl⟩⟩⟩, by rw [ht_]; exact hP, va_K.moved hW_.alike hK, hD⟩, hS.F ht_⟩) hS.2.2 dX1_append_24
      · refine lv_iload_n hx hb dX1_append_16 rfl (lv_at hl 2 rfl) ?_
        refine lv_bipush (v := jI 60) hx hb dX1_append_17 (by decide) ?_
        refine ji_icmp_le (tgt := 25) hx hb dX1_append_19 (by decide) (by omega) (by omega) (fun c_4 => ?_) (fun c_4 => ?_)
        · refine lv_iload_n hx hb dX1_append_25 rfl (lv_at hl 3 rfl) ?_
          refine ji_const hx hb dX1_append_26 ?_
          refine ji_icmp_lt (tgt := 35) hx hb dX1_append_27 (by decide) (by omega) (by omega) (fun c_5 => ?_) (fun c_5 => ?_)
          · refine lv_bipush (v := jI (-3)) hx hb dX1_append_35 (by decide) ?_
            exact W.iret (v := jI (-3)) hx hb hr (fun t_ ht_ hW_ => ⟨⟨_, (n, wd, wi, wt, pts, pt, pl), rfl, ⟨(-3), rfl, ⟨_, _, _, _, rfl, Or.inl ⟨by omega, rfl, rfl, rfl, rfl⟩⟩⟩, by rw [ht_]; exact hP, va_K.moved hW_.alike hK, hD⟩, hS.F ht_⟩) hS.2.2 dX1_append_37
          · refine lv_iload_n hx hb dX1_append_30 rfl (lv_at hl 3 rfl) ?_
            refine ji_const hx hb dX1_append_31 ?_
            refine ji_icmp_le (tgt := 38) hx hb dX1_append_32 (by decide) (by omega) (by omega) (fun c_6 => ?_) (fun c_6 => ?_)
            · refine lv_aload_n hx hb dX1_append_38 rfl (lv_at hl 0 rfl) ?_
              refine va_get (D := (dC, dI)) (ci := 0) (v := .int (jI n)) (C := RX1) (T := TX1) (N := 8) hx hb hts in_X1 hown hK hP 0 rfl rfl 1 (by decide) (hts _ q31) (fun _ h9 => h9) rfl dX1_append_39 ?_
              refine lv_bipush (v := jI 10) hx hb dX1_append_42 (by decide) ?_
              refine ji_icmp_lt (tgt := 50) hx hb dX1_append_44 (by decide) (by omega) (by omega) (fun c_7 => ?_) (fun c_7 => ?_)
              · refine lv_aload_n hx hb dX1_append_50 rfl (lv_at hl 0 rfl) ?_
                refine va_get (D := (dC, dI)) (ci := 0) (v := .ref a1) (C := RX1) (T := TX1) (N := 8) hx hb hts in_X1 hown hK hP 0 rfl rfl 2 (by decide) (hts _ q32) (fun _ h9 => h9) rfl dX1_append_51 ?_
                refine lv_aload_n hx hb dX1_append_54 rfl (lv_at hl 0 rfl) ?_
                refine va_get (D := (dC, dI)) (ci := 0) (v := .int (jI n)) (C := RX1) (T := TX1) (N := 8) hx hb hts in_X1 hown hK hP 0 rfl rfl 1 (by decide) (hts _ q31) (fun _ h9 => h9) rfl dX1_append_55 ?_
                refine lv_iload_n hx hb dX1_append_58 rfl (lv_at hl 1 rfl) ?_
                refine ji_st (f := wd) (n := 10) (cA := d) (i := n) (x := x) hx hb hK hP hD hS 1 0 rfl rfl (by omega) (by decide) dX1_append_59 (fun H locs hP hD hS => ?_)
                have hP : va_P (dC, dI) vwCl (wX d h a1 a2 a3 a4 a5 L n (uI wd n x) wi wt pts pt pl) H := hP
                have hD : va_D A (wX d h a1 a2 a3 a4 a5 L n (uI wd n x) wi wt pts pt pl) := hD
                refine lv_aload_n hx hb dX1_append_60 rfl (lv_at hl 0 rfl) ?_
                refine va_get (D := (dC, dI)) (ci := 0) (v := .ref a2) (C := RX1) (T := TX1) (N := 8) hx hb hts in_X1 hown hK hP 0 rfl rfl 3 (by decide) (hts _ q33) (fun _ h9 => h9) rfl dX1_append_61 ?_
                refine lv_aload_n hx hb dX1_append_64 rfl (lv_at hl 0 rfl) ?_
                refine va_get (D := (dC, dI)) (ci := 0) (v := .int (jI n)) (C := RX1) (T := TX1) (N := 8) hx hb hts in_X1 hown hK hP 0 rfl rfl 1 (by decide) (hts _ q31) (fun _ h9 => h9) rfl dX1_append_65 ?_
                refine lv_iload_n hx hb dX1_append_68 rfl (lv_at hl 2 rfl) ?_
                refine ji_st (f := wi) (n := 10) (cA := d) (i := n) (x := y) hx hb hK hP hD hS 2 0 rfl rfl (by omega) (by decide) dX1_append_69 (fun H locs hP hD hS => ?_)
                have hP : va_P (dC, dI) vwCl (wX d h a1 a2 a3 a4 a5 L n (uI wd n x) (uI wi n y) wt pts pt pl) H := hP
                have hD : va_D A (wX d h a1 a2 a3 a4 a5 L n (uI wd n x) (uI wi n y) wt pts pt pl) := hD
                refine lv_aload_n hx hb dX1_append_70 rfl (lv_at hl 0 rfl) ?_
                refine va_get (D := (dC, dI)) (ci := 0) (v := .ref a3) (C := RX1) (T := TX1) (N := 8) hx hb hts in_X1 hown hK hP 0 rfl rfl 4 (by decide) (hts _ q34) (fun _ h9 => h9) rfl dX1_append_71 ?_
                refine lv_aload_n hx hb dX1_append_74 rfl (lv_at hl 0 rfl) ?_
                refine va_get (D := (dC, dI)) (ci := 0) (v := .int (jI n)) (C := RX1) (T := TX1) (N := 8) hx hb hts in_X1 hown hK hP 0 rfl rfl 1 (by decide) (hts _ q31) (fun _ h9 => h9) rfl dX1_append_75 ?_
                refine lv_iload_n hx hb dX1_append_78 rfl (lv_at hl 3 rfl) ?_
                refine ji_st (f := wt) (n := 10) (cA := d) (i := n) (x := w) hx hb hK hP hD hS 3 0 rfl rfl (by omega) (by decide) dX1_append_79 (fun H locs hP hD hS => ?_)
                have hP : va_P (dC, dI) vwCl (wX d h a1 a2 a3 a4 a5 L n (uI wd n x) (uI wi n y) (uI wt n w) pts pt pl) H := hP
                have hD : va_D A (wX d h a1 a2 a3 a4 a5 L n (uI wd n x) (uI wi n y) (uI wt n w) pts pt pl) := hD
                refine lv_aload_n hx hb dX1_append_80 rfl (lv_at hl 0 rfl) ?_
                refine lv_dup hx hb dX1_append_81 rfl ?_
                refine va_get (D := (dC, dI)) (ci := 0) (v := .int (jI n)) (C := RX1) (T := TX1) (N := 8) hx hb hts in_X1 hown hK hP 0 rfl rfl 1 (by decide) (hts _ q31) (fun _ h9 => h9) rfl dX1_append_82 ?_
                refine ji_const hx hb dX1_append_85 ?_
                refine ji_add hx hb dX1_append_86 ?_
                refine va_put (D := (dC, dI)) (ci := 0) (v := .int (jI (n + 1))) (ty := .int) (C := RX1) (T := TX1) (N := 8) hx hb hts in_X1 tyX1 tyX1_ok nmX1 hown hK hP hD hS 0 rfl rfl 1 (by decide) (hts _ q31) (fun _ h9 => h9) rfl (by decide +kernel) rfl rfl (Nat.le_of_ble_eq_true rfl) dX1_append_87 (fun H locs hP hD hS => ?_)
                have hP : va_P (dC, dI) vwCl (wX d h a1 a2 a3 a4 a5 L (n + 1) (uI wd n x) (uI wi n y) (uI wt n w) pts pt pl) H := hP
                have hD : va_D A (wX d h a1 a2 a3 a4 a5 L (n + 1) (uI wd n x) (uI wi n y) (uI wt n w) pts pt pl) := hD
                refine lv_aload_n hx hb dX1_append_90 rfl (lv_at hl 0 rfl) ?_
                refine va_get (D := (dC, dI)) (ci := 0) (v := .int (jI (n + 1))) (C := RX1) (T := TX1) (N := 8) hx hb hts in_X1 hown hK hP 0 rfl rfl 1 (by decide) (hts _ q31) (fun _ h9 => h9) rfl dX1_append_91 ?_
                refine ji_const hx hb dX1_append_94 ?_
                refine ji_sub hx hb dX1_append_95 ?_
                exact W.iret (v := jI ((n + 1) - 1)) hx hb hr (fun t_ ht_ hW_ => ⟨⟨_, (n + 1, uI wd n x, uI wi n y, uI wt n w, pts, pt, pl), rfl, ⟨(n + 1) - 1, rfl, ⟨_, _, _, _, rfl, Or.inr ⟨by omega, rfl, rfl, rfl, rfl⟩⟩⟩, by rw [ht_]; exact hP, va_K.moved hW_.alike hK, hD⟩, hS.F ht_⟩) hS.2.2 dX1_append_96
              · refine lv_bipush (v := jI (-5)) hx hb dX1_append_47 (by decide) ?_
                exact W.iret (v := jI (-5)) hx hb hr (fun t_ ht_ hW_ => ⟨⟨_, (n, wd, wi, wt, pts, pt, pl), rfl, ⟨(-5), rfl, ⟨_, _, _, _, rfl, Or.inl ⟨by omega, rfl, rfl, rfl, rfl⟩⟩⟩, by rw [ht_]; exact hP, va_K.moved hW_.alike hK, hD⟩, hS.F ht_⟩) hS.2.2 dX1_append_49
            · refine lv_bipush (v := jI (-3)) hx hb dX1_append_35 (by decide) ?_
              exact W.iret (v := jI (-3)) hx hb hr (fun t_ ht_ hW_ => ⟨⟨_, (n, wd, wi, wt, pts, pt, pl), rfl, ⟨(-3), rfl, ⟨_, _, _, _, rfl, Or.inl ⟨by omega, rfl, rfl, rfl, rfl⟩⟩⟩, by rw [ht_]; exact hP, va_K.moved hW_.alike hK, hD⟩, hS.F ht_⟩) hS.2.2 dX1_append_37
        · refine lv_bipush (v := jI (-2)) hx hb dX1_append_22 (by decide) ?_
          exact W.iret (v := jI (-2)) hx hb hr (fun t_ ht_ hW_ => ⟨⟨_, (n, wd, wi, wt, pts, pt, pl), rfl, ⟨(-2), rfl, ⟨_, _, _, _, rfl, Or.inl ⟨by omega, rfl, rfl, rfl, rfl⟩⟩⟩, by rw [ht_]; exact hP, va_K.moved hW_.alike hK, hD⟩, hS.F ht_⟩) hS.2.2 dX1_append_24
    · refine ji_const hx hb dX1_append_10 ?_
      exact W.iret (v := jI (-1)) hx hb hr (fun t_ ht_ hW_ => ⟨⟨_, (n, wd, wi, wt, pts, pt, pl), rfl, ⟨(-1), rfl, ⟨_, _, _, _, rfl, Or.inl ⟨by omega, rfl, rfl, rfl, rfl⟩⟩⟩, by rw [ht_]; exact hP, va_K.moved hW_.alike hK, hD⟩, hS.F ht_⟩) hS.2.2 dX1_append_11
set_option maxHeartbeats 4000000 in
set_option maxRecDepth 100000 in
theorem metX1_move (l : Launch) (dC : Nat → ClassId) (dI : Nat → Nat → Nat) (d : ClassId) (h a1 a2 a3 a4 a5 : Nat) (L : Int) (n : Int) (wd : Int → Int) (wi : Int → Int) (wt : Int → Int) (pts : Int) (pt : Int → Int) (pl : Int → Int) (sz : Nat) (x : Int) (y : Int) (hok : Ok L n wd wi wt) (hx1 : -2147483648 ≤ x ∧ x < 2147483648) (hy1 : -2147483648 ≤ y ∧ y < 2147483648) : Met l yX1_move (ws_ yX1_move cX1_move 4 (some .int)) ({ frames := 1, cells := 0, slots := 0, locals := 21 }) (zPw dC dI (wX d h a1 a2 a3 a4 a5 L n wd wi wt pts pt pl) d sz [.ref h, .int (jI x), .int (jI y)]) (wXQi dC dI d h a1 a2 a3 a4 a5 L (va_A (wX d h a1 a2 a3 a4 a5 L n wd wi wt pts pt pl) sz) (fun z u => ∃ wi1, u = (n, wd, wi1, wt, pts, pt, pl) ∧ Mov n wi x y z wi1)) 0 0 (va_A (wX d h a1 a2 a3 a4 a5 L n wd wi wt pts pt pl) sz) := by
  refine Met.ofW (cc := cX1_move) (maxL := 4) (ret := (some .int)) (by decide) rfl ?_
  intro p e s m args below meth c s₁ B hml hv
  obtain ⟨rfl, hsz, hP, hK, hD0⟩ := hv
  have hx := B.exec
  have hb := B.bytes
  have hr := B.returns
  have hts := atoms_spec (ws := (ws_ yX1_move cX1_move 4 (some .int))) B.pre
  have hts : ∀ w ∈ lw_all, w.before _ s = true := fun w h => hts w (List.mem_cons_of_mem _ h)
  have hown : s.vm.findClass RX1 = some m.cls := findClass_of_methodNamed B.named
  have hlocks := B.notSynchronized
  subst hsz
  have hD := hD0.self (sz := s.heap.size)
  generalize hAe : va_A (wX d h a1 a2 a3 a4 a5 L n wd wi wt pts pt pl) s.heap.size = A at hD ⊢
  have hA : ∀ q : Nat, s.heap.size ≤ q → A q := fun q h => by rw [← hAe]; exact Or.inr h
  have hS : va_S A s.heap s.heap [] := va_S.rf
  have hl := lv_entry ([.ref h, .int (jI x), .int (jI y)]) (n := 4) (Nat.le_of_ble_eq_true rfl)
  rw [lg_entry_eq]
  generalize (lg_sl ([.ref h, .int (jI x), .int (jI y)]) ++ List.replicate (4 - (lg_sl ([.ref h, .int (jI x), .int (jI y)])).length) Slot.unset).toArray = ls at hl ⊢
  have hl : lv_has ls 4 [(0, .ref h), (1, .int (jI x)), (2, .int (jI y))] := hl
  have hok2 := hok
  obtain ⟨hLn, hwd, hwi, hwt⟩ := hok2
  refine lv_aload_n hx hb dX1_move_0 rfl (lv_at hl 0 rfl) ?_
  refine lv_iload_n hx hb dX1_move_1 rfl (lv_at hl 1 rfl) ?_
  refine vp_callSi (W.runV (As := [.int (jI x)]) (rest := []) ⟨hx, hb, hml, hown, hts⟩ (metX1_noCell l dC dI d h a1 a2 a3 a4 a5 L n wd wi wt pts pt pl x (by omega) hx1) (cwV 1 hts (lw_V q64 q66 qs0 q20 q67) rfl rfl rfl (by decide +kernel) ⟨Nat.le_of_ble_eq_true rfl, Nat.le_of_ble_eq_true rfl⟩) ⟨zPp_bl, va_recv hK hP (ci := 0) (q0 := 0) rfl rfl, fun U hU hW => ⟨rfl, by rw [hU]; exact hP, va_K.moved hW.alike hK⟩⟩ rfl rfl hl.1 rfl (lv_room (Nat.le_of_ble_eq_true rfl)) dX1_move_2 ⟨Nat.le_of_ble_eq_true rfl, Nat.le_of_ble_eq_true rfl⟩) (fun r_ hr_ => ?_)
  obtain ⟨z_1, rfl, hz_1⟩ := hr_
  refine ji_if_eq (tgt := 11) hx hb dX1_move_5 (by decide) (by omega) (fun c_2 => ?_) (fun c_2 => ?_)
  · refine lv_iload_n hx hb dX1_move_11 rfl (lv_at hl 2 rfl) ?_
    refine ji_if_lt (tgt := 21) hx hb dX1_move_12 (by decide) (by omega) (fun c_3 => ?_) (fun c_3 => ?_)
    · refine lv_bipush (v := jI (-2)) hx hb dX1_move_21 (by decide) ?_
      exact W.iret (v := jI (-2)) hx hb hr (fun t_ ht_ hW_ => ⟨⟨_, (n, wd, wi, wt, pts, pt, pl), rfl, ⟨(-2), rfl, ⟨_, rfl, Or.inl ⟨by omega, rfl⟩⟩⟩, by rw [ht_]; exact hP, va_K.moved hW_.alike hK, hD⟩, hS.F ht_⟩) hS.2.2 dX1_move_23
    · refine lv_iload_n hx hb dX1_move_15 rfl (lv_at hl 2 rfl) ?_
      refine lv_bipush (v := jI 60) hx hb dX1_move_16 (by decide) ?_
      refine ji_icmp_le (tgt := 24) hx hb dX1_move_18 (by decide) (by omega) (by omega) (fun c_4 => ?_) (fun c_4 => ?_)
      · refine lv_aload_n hx hb dX1_move_24 rfl (lv_at hl 0 rfl) ?_
        refine va_get (D := (dC, dI)) (ci := 0) (v := .ref a2) (C := RX1) (T := TX1) (N := 8) hx hb hts in_X1 hown hK hP 0 rfl rfl 3 (by decide) (hts _ q33) (fun _ h9 => h9) rfl dX1_move_25 ?_
        refine lv_iload_n hx hb dX1_move_28 rfl (lv_at hl 1 rfl) ?_
        refine ji_ld (f := wi) (n := 10) (cA := d) hx hb hK hP 2 0 rfl rfl (by omega) (by decide) dX1_move_29 ?_
        refine lv_istore_n (lv' := [(3, .int (jI (wi x))), (0, .ref h), (1, .int (jI x)), (2, .int (jI y))]) hx hb dX1_move_30 rfl hl (by decide) rfl (fun ls hl => ?_)
        refine lv_aload_n hx hb dX1_move_31 rfl (lv_at hl 1 rfl) ?_
        refine va_get (D := (dC, dI)) (ci := 0) (v := .ref a2) (C := RX1) (T := TX1) (N := 8) hx hb hts in_X1 hown hK hP 0 rfl rfl 3 (by decide) (hts _ q33) (fun _ h9 => h9) rfl dX1_move_32 ?_
        refine lv_iload_n hx hb dX1_move_35 rfl (lv_at hl 2 rfl) ?_
        refine lv_iload_n hx hb dX1_move_36 rfl (lv_at hl 3 rfl) ?_
        refine ji_st (f := wi) (n := 10) (cA := d) (i := x) (x := y) hx hb hK hP hD hS 2 0 rfl rfl (by omega) (by decide) dX1_move_37 (fun H locs hP hD hS => ?_)
        have hP : va_P (dC, dI) vwCl (wX d h a1 a2 a3 a4 a5 L n wd (uI wi x y) wt pts pt pl) H := hP
        have hD : va_D A (wX d h a1 a2 a3 a4 a5 L n wd (uI wi x y) wt pts pt pl) := hD
        refine lv_iload_n hx hb dX1_move_38 rfl (lv_at hl 0 rfl) ?_
        exact W.iret (v := jI (wi x)) hx hb hr (fun t_ ht_ hW_ => ⟨⟨_, (n, wd, uI wi x y, wt, pts, pt, pl), rfl, ⟨wi x, rfl, ⟨_, rfl, Or.inr ⟨by omega, rfl, rfl⟩⟩⟩, by rw [ht_]; exact hP, va_K.moved hW_.alike hK, hD⟩, hS.F ht_⟩) hS.2.2 dX1_move_39
      · refine lv_bipush (v := jI (-2)) hx hb dX1_move_21 (by decide) ?_
        exact W.iret (v := jI (-2)) hx hb hr (fun t_ ht_ hW_ => ⟨⟨_, (n, wd, wi, wt, pts, pt, pl), rfl, ⟨(-2), rfl, ⟨_, rfl, Or.inl ⟨by omega, rfl⟩⟩⟩, by rw [ht_]; exact hP, va_K.moved hW_.alike hK, hD⟩, hS.F ht_⟩) hS.2.2 dX1_move_23
  · refine lv_bipush (v := jI (-4)) hx hb dX1_move_8 (by decide) ?_
    exact W.iret (v := jI (-4)) hx hb hr (fun t_ ht_ hW_ => ⟨⟨_, (n, wd, wi, wt, pts, pt, pl), rfl, ⟨(-4), rfl, ⟨_, rfl, Or.inl ⟨by omega, rfl⟩⟩⟩, by rw [ht_]; exact hP, va_K.moved hW_.alike hK, hD⟩, hS.F ht_⟩) hS.2.2 dX1_move_10
set_option maxHeartbeats 4000000 in
set_option maxRecDepth 100000 in
theorem metX1_reweigh (l : Launch) (dC : Nat → ClassId) (dI : Nat → Nat → Nat) (d : ClassId) (h a1 a2 a3 a4 a5 : Nat) (L : Int) (n : Int) (wd : Int → Int) (wi : Int → Int) (wt : Int → Int) (pts : Int) (pt : Int → Int) (pl : Int → Int) (sz : Nat) (x : Int) (y : Int) (hok : Ok L n wd wi wt) (hx1 : -2147483648 ≤ x ∧ x < 2147483648) (hy1 : -2147483648 ≤ y ∧ y < 2147483648) : Met l yX1_reweigh (ws_ yX1_reweigh cX1_reweigh 4 (some .int)) ({ frames := 1, cells := 0, slots := 0, locals := 21 }) (zPw dC dI (wX d h a1 a2 a3 a4 a5 L n wd wi wt pts pt pl) d sz [.ref h, .int (jI x), .int (jI y)]) (wXQi dC dI d h a1 a2 a3 a4 a5 L (va_A (wX d h a1 a2 a3 a4 a5 L n wd wi wt pts pt pl) sz) (fun z u => ∃ wt1, u = (n, wd, wi, wt1, pts, pt, pl) ∧ Rew n wt x y z wt1)) 0 0 (va_A (wX d h a1 a2 a3 a4 a5 L n wd wi wt pts pt pl) sz) := by
  refine Met.ofW (cc := cX1_reweigh) (maxL := 4) (ret := (some .int)) (by decide) rfl ?_
  intro p e s m args below meth c s₁ B hml hv
  obtain ⟨rfl, hsz, hP, hK, hD0⟩ := hv
  have hx := B.exec
  have hb := B.bytes
  have hr := B.returns
  have hts := atoms_spec (ws := (ws_ yX1_reweigh cX1_reweigh 4 (some .int))) B.pre
  have hts : ∀ w ∈ lw_all, w.before _ s = true := fun w h => hts w (List.mem_cons_of_mem _ h)
  have hown : s.vm.findClass RX1 = some m.cls := findClass_of_methodNamed B.named
  have hlocks := B.notSynchronized
  subst hsz
  have hD := hD0.self (sz := s.heap.size)
  generalize hAe : va_A (wX d h a1 a2 a3 a4 a5 L n wd wi wt pts pt pl) s.heap.size = A at hD ⊢
  have hA : ∀ q : Nat, s.heap.size ≤ q → A q := fun q h => by rw [← hAe]; exact Or.inr h
  have hS : va_S A s.heap s.heap [] := va_S.rf
  have hl := lv_entry ([.ref h, .int (jI x), .int (jI y)]) (n := 4) (Nat.le_of_ble_eq_true rfl)
  rw [lg_entry_eq]
  generalize (lg_sl ([.ref h, .int (jI x), .int (jI y)]) ++ List.replicate (4 - (lg_sl ([.ref h, .int (jI x), .int (jI y)])).length) Slot.unset).toArray = ls at hl ⊢
  have hl : lv_has ls 4 [(0, .ref h), (1, .int (jI x)), (2, .int (jI y))] := hl
  have hok2 := hok
  obtain ⟨hLn, hwd, hwi, hwt⟩ := hok2
  refine lv_aload_n hx hb dX1_reweigh_0 rfl (lv_at hl 0 rfl) ?_
  refine lv_iload_n hx hb dX1_reweigh_1 rfl (lv_at hl 1 rfl) ?_
  refine vp_callSi (W.runV (As := [.int (jI x)]) (rest := []) ⟨hx, hb, hml, hown, hts⟩ (metX1_noCell l dC dI d h a1 a2 a3 a4 a5 L n wd wi wt pts pt pl x (by omega) hx1) (cwV 1 hts (lw_V q64 q66 qs0 q20 q67) rfl rfl rfl (by decide +kernel) ⟨Nat.le_of_ble_eq_true rfl, Nat.le_of_ble_eq_true rfl⟩) ⟨zPp_bl, va_recv hK hP (ci := 0) (q0 := 0) rfl rfl, fun U hU hW => ⟨rfl, by rw [hU]; exact hP, va_K.moved hW.alike hK⟩⟩ rfl rfl hl.1 rfl (lv_room (Nat.le_of_ble_eq_true rfl)) dX1_reweigh_2 ⟨Nat.le_of_ble_eq_true rfl, Nat.le_of_ble_eq_true rfl⟩) (fun r_ hr_ => ?_)
  obtain ⟨z_1, rfl, hz_1⟩ := hr_
  refine ji_if_eq (tgt := 11) hx hb dX1_reweigh_5 (by decide) (by omega) (fun c_2 => ?_) (fun c_2 => ?_)
  · refine lv_iload_n hx hb dX1_reweigh_11 rfl (lv_at hl 2 rfl) ?_
    refine ji_const hx hb dX1_reweigh_12 ?_
    refine ji_icmp_lt (tgt := 21) hx hb dX1_reweigh_13 (by decide) (by omega) (by omega) (fun c_3 => ?_) (fun c_3 => ?_)
    · refine lv_bipush (v := jI (-3)) hx hb dX1_reweigh_21 (by decide) ?_
      exact W.iret (v := jI (-3)) hx hb hr (fun t_ ht_ hW_ => ⟨⟨_, (n, wd, wi, wt, pts, pt, pl), rfl, ⟨(-3), rfl, ⟨_, rfl, Or.inl ⟨by omega, rfl⟩⟩⟩, by rw [ht_]; exact hP, va_K.moved hW_.alike hK, hD⟩, hS.F ht_⟩) hS.2.2 dX1_reweigh_23
    · refine lv_iload_n hx hb dX1_reweigh_16 rfl (lv_at hl 2 rfl) ?_
      refine ji_const hx hb dX1_reweigh_17 ?_
      refine ji_icmp_le (tgt := 24) hx hb dX1_reweigh_18 (by decide) (by omega) (by omega) (fun c_4 => ?_) (fun c_4 => ?_)
      · refine lv_aload_n hx hb dX1_reweigh_24 rfl (lv_at hl 0 rfl) ?_
        refine va_get (D := (dC, dI)) (ci := 0) (v := .ref a3) (C := RX1) (T := TX1) (N := 8) hx hb hts in_X1 hown hK hP 0 rfl rfl 4 (by decide) (hts _ q34) (fun _ h9 => h9) rfl dX1_reweigh_25 ?_
        refine lv_iload_n hx hb dX1_reweigh_28 rfl (lv_at hl 1 rfl) ?_
        refine ji_ld (f := wt) (n := 10) (cA := d) hx hb hK hP 3 0 rfl rfl (by omega) (by decide) dX1_reweigh_29 ?_
        refine lv_istore_n (lv' := [(3, .int (jI (wt x))), (0, .ref h), (1, .int (jI x)), (2, .int (jI y))]) hx hb dX1_reweigh_30 rfl hl (by decide) rfl (fun ls hl => ?_)
        refine lv_aload_n hx hb dX1_reweigh_31 rfl (lv_at hl 1 rfl) ?_
        refine va_get (D := (dC, dI)) (ci := 0) (v := .ref a3) (C := RX1) (T := TX1) (N := 8) hx hb hts in_X1 hown hK hP 0 rfl rfl 4 (by decide) (hts _ q34) (fun _ h9 => h9) rfl dX1_reweigh_32 ?_
        refine lv_iload_n hx hb dX1_reweigh_35 rfl (lv_at hl 2 rfl) ?_
        refine lv_iload_n hx hb dX1_reweigh_36 rfl (lv_at hl 3 rfl) ?_
        refine ji_st (f := wt) (n := 10) (cA := d) (i := x) (x := y) hx hb hK hP hD hS 3 0 rfl rfl (by omega) (by decide) dX1_reweigh_37 (fun H locs hP hD hS => ?_)
        have hP : va_P (dC, dI) vwCl (wX d h a1 a2 a3 a4 a5 L n wd wi (uI wt x y) pts pt pl) H := hP
        have hD : va_D A (wX d h a1 a2 a3 a4 a5 L n wd wi (uI wt x y) pts pt pl) := hD
        refine lv_iload_n hx hb dX1_reweigh_38 rfl (lv_at hl 0 rfl) ?_
        exact W.iret (v := jI (wt x)) hx hb hr (fun t_ ht_ hW_ => ⟨⟨_, (n, wd, wi, uI wt x y, pts, pt, pl), rfl, ⟨wt x, rfl, ⟨_, rfl, Or.inr ⟨by omega, rfl, rfl⟩⟩⟩, by rw [ht_]; exact hP, va_K.moved hW_.alike hK, hD⟩, hS.F ht_⟩) hS.2.2 dX1_reweigh_39
      · refine lv_bipush (v := jI (-3)) hx hb dX1_reweigh_21 (by decide) ?_
        exact W.iret (v := jI (-3)) hx hb hr (fun t_ ht_ hW_ => ⟨⟨_, (n, wd, wi, wt, pts, pt, pl), rfl, ⟨(-3), rfl, ⟨_, rfl, Or.inl ⟨by omega, rfl⟩⟩⟩, by rw [ht_]; exact hP, va_K.moved hW_.alike hK, hD⟩, hS.F ht_⟩) hS.2.2 dX1_reweigh_23
  · refine lv_bipush (v := jI (-4)) hx hb dX1_reweigh_8 (by decide) ?_
    exact W.iret (v := jI (-4)) hx hb hr (fun t_ ht_ hW_ => ⟨⟨_, (n, wd, wi, wt, pts, pt, pl), rfl, ⟨(-4), rfl, ⟨_, rfl, Or.inl ⟨by omega, rfl⟩⟩⟩, by rw [ht_]; exact hP, va_K.moved hW_.alike hK, hD⟩, hS.F ht_⟩) hS.2.2 dX1_reweigh_10
set_option maxHeartbeats 4000000 in
set_option maxRecDepth 100000 in
theorem metX1_drop (l : Launch) (dC : Nat → ClassId) (dI : Nat → Nat → Nat) (d : ClassId) (h a1 a2 a3 a4 a5 : Nat) (L : Int) (n : Int) (wd : Int → Int) (wi : Int → Int) (wt : Int → Int) (pts : Int) (pt : Int → Int) (pl : Int → Int) (sz : Nat) (hok : Ok L n wd wi wt) : Met l yX1_drop (ws_ yX1_drop cX1_drop 1 (some .int)) ({ frames := 0, cells := 0, slots := 0, locals := 0 }) (zPw dC dI (wX d h a1 a2 a3 a4 a5 L n wd wi wt pts pt pl) d sz [.ref h]) (wXQi dC dI d h a1 a2 a3 a4 a5 L (va_A (wX d h a1 a2 a3 a4 a5 L n wd wi wt pts pt pl) sz) (fun z u => ∃ n1, u = (n1, wd, wi, wt, pts, pt, pl) ∧ Drp n z n1)) 0 0 (va_A (wX d h a1 a2 a3 a4 a5 L n wd wi wt pts pt pl) sz) := by
  refine Met.ofW (cc := cX1_drop) (maxL := 1) (ret := (some .int)) (by decide) rfl ?_
  intro p e s m args below meth c s₁ B hml hv
  obtain ⟨rfl, hsz, hP, hK, hD0⟩ := hv
  have hx := B.exec
  have hb := B.bytes
  have hr := B.returns
  have hts := atoms_spec (ws := (ws_ yX1_drop cX1_drop 1 (some .int))) B.pre
  have hts : ∀ w ∈ lw_all, w.before _ s = true := fun w h => hts w (List.mem_cons_of_mem _ h)
  have hown : s.vm.findClass RX1 = some m.cls := findClass_of_methodNamed B.named
  have hlocks := B.notSynchronized
  subst hsz
  have hD := hD0.self (sz := s.heap.size)
  generalize hAe : va_A (wX d h a1 a2 a3 a4 a5 L n wd wi wt pts pt pl) s.heap.size = A at hD ⊢
  have hA : ∀ q : Nat, s.heap.size ≤ q → A q := fun q h => by rw [← hAe]; exact Or.inr h
  have hS : va_S A s.heap s.heap [] := va_S.rf
  have hl := lv_entry ([.ref h]) (n := 1) (Nat.le_of_ble_eq_true rfl)
  rw [lg_entry_eq]
  generalize (lg_sl ([.ref h]) ++ List.replicate (1 - (lg_sl ([.ref h])).length) Slot.unset).toArray = ls at hl ⊢
  have hl : lv_has ls 1 [(0, .ref h)] := hl
  have hok2 := hok
  obtain ⟨hLn, hwd, hwi, hwt⟩ := hok2
  refine lv_aload_n hx hb dX1_drop_0 rfl (lv_at hl 0 rfl) ?_
  refine va_get (D := (dC, dI)) (ci := 0) (v := .int (jI n)) (C := RX1) (T := TX1) (N := 8) hx hb hts in_X1 hown hK hP 0 rfl rfl 1 (by decide) (hts _ q31) (fun _ h9 => h9) rfl dX1_drop_1 ?_
  refine ji_if_ne (tgt := 10) hx hb dX1_drop_4 (by decide) (by omega) (fun c_1 => ?_) (fun c_1 => ?_)
  · refine lv_aload_n hx hb dX1_drop_10 rfl (lv_at hl 0 rfl) ?_
    refine lv_dup hx hb dX1_drop_11 rfl ?_
    refine va_get (D := (dC, dI)) (ci := 0) (v := .int (jI n)) (C := RX1) (T := TX1) (N := 8) hx hb hts in_X1 hown hK hP 0 rfl rfl 1 (by decide) (hts _ q31) (fun _ h9 => h9) rfl dX1_drop_12 ?_
    refine ji_const hx hb dX1_drop_15 ?_
    refine ji_sub hx hb dX1_drop_16 ?_
    refine va_put (D := (dC, dI)) (ci := 0) (v := .int (jI (n - 1))) (ty := .int) (C := RX1) (T := TX1) (N := 8) hx hb hts in_X1 tyX1 tyX1_ok nmX1 hown hK hP hD hS 0 rfl rfl 1 (by decide) (hts _ q31) (fun _ h9 => h9) rfl (by decide +kernel) rfl rfl (Nat.le_of_ble_eq_true rfl) dX1_drop_17 (fun H locs hP hD hS => ?_)
    have hP : va_P (dC, dI) vwCl (wX d h a1 a2 a3 a4 a5 L (n - 1) wd wi wt pts pt pl) H := hP
    have hD : va_D A (wX d h a1 a2 a3 a4 a5 L (n - 1) wd wi wt pts pt pl) := hD
    refine lv_aload_n hx hb dX1_drop_20 rfl (lv_at hl 0 rfl) ?_
    refine va_get (D := (dC, dI)) (ci := 0) (v := .int (jI (n - 1))) (C := RX1) (T := TX1) (N := 8) hx hb hts in_X1 hown hK hP 0 rfl rfl 1 (by decide) (hts _ q31) (fun _ h9 => h9) rfl dX1_drop_21 ?_
    exact W.iret (v := jI (n - 1)) hx hb hr (fun t_ ht_ hW_ => ⟨⟨_, (n - 1, wd, wi, wt, pts, pt, pl), rfl, ⟨n - 1, rfl, ⟨_, rfl, by unfold Drp; omega⟩⟩, by rw [ht_]; exact hP, va_K.moved hW_.alike hK, hD⟩, hS.F ht_⟩) hS.2.2 dX1_drop_24
  · refine lv_bipush (v := jI (-6)) hx hb dX1_drop_7 (by decide) ?_
    exact W.iret (v := jI (-6)) hx hb hr (fun t_ ht_ hW_ => ⟨⟨_, (n, wd, wi, wt, pts, pt, pl), rfl, ⟨(-6), rfl, ⟨_, rfl, by unfold Drp; omega⟩⟩, by rw [ht_]; exact hP, va_K.moved hW_.alike hK, hD⟩, hS.F ht_⟩) hS.2.2 dX1_drop_9
set_option maxHeartbeats 4000000 in
set_option maxRecDepth 100000 in
theorem metX1_exchange (l : Launch) (dC : Nat → ClassId) (dI : Nat → Nat → Nat) (d : ClassId) (h a1 a2 a3 a4 a5 : Nat) (L : Int) (n : Int) (wd : Int → Int) (wi : Int → Int) (wt : Int → Int) (pts : Int) (pt : Int → Int) (pl : Int → Int) (sz : Nat) (x : Int) (hok : Ok L n wd wi wt) (hx1 : -2147483648 ≤ x ∧ x < 2147483648) : Met l yX1_exchange (ws_ yX1_exchange cX1_exchange 5 (some .int)) ({ frames := 1, cells := 0, slots := 0, locals := 21 }) (zPw dC dI (wX d h a1 a2 a3 a4 a5 L n wd wi wt pts pt pl) d sz [.ref h, .int (jI x)]) (wXQi dC dI d h a1 a2 a3 a4 a5 L (va_A (wX d h a1 a2 a3 a4 a5 L n wd wi wt pts pt pl) sz) (fun z u => ∃ wd1 wi1 wt1, u = (n, wd1, wi1, wt1, pts, pt, pl) ∧ Exc n wd wi wt x z wd1 wi1 wt1)) 0 0 (va_A (wX d h a1 a2 a3 a4 a5 L n wd wi wt pts pt pl) sz) := by
  refine Met.ofW (cc := cX1_exchange) (maxL := 5) (ret := (some .int)) (by decide) rfl ?_
  intro p e s m args below meth c s₁ B hml hv
  obtain ⟨rfl, hsz, hP, hK, hD0⟩ := hv
  have hx := B.exec
  have hb := B.bytes
  have hr := B.returns
  have hts := atoms_spec (ws := (ws_ yX1_exchange cX1_exchange 5 (some .int))) B.pre
  have hts : ∀ w ∈ lw_all, w.before _ s = true := fun w h => hts w (List.mem_cons_of_mem _ h)
  have hown : s.vm.findClass RX1 = some m.cls := findClass_of_methodNamed B.named
  have hlocks := B.notSynchronized
  subst hsz
  have hD := hD0.self (sz := s.heap.size)
  generalize hAe : va_A (wX d h a1 a2 a3 a4 a5 L n wd wi wt pts pt pl) s.heap.size = A at hD ⊢
  have hA : ∀ q : Nat, s.heap.size ≤ q → A q := fun q h => by rw [← hAe]; exact Or.inr h
  have hS : va_S A s.heap s.heap [] := va_S.rf
  have hl := lv_entry ([.ref h, .int (jI x)]) (n := 5) (Nat.le_of_ble_eq_true rfl)
  rw [lg_entry_eq]
  generalize (lg_sl ([.ref h, .int (jI x)]) ++ List.replicate (5 - (lg_sl ([.ref h, .int (jI x)])).length) Slot.unset).toArray = ls at hl ⊢
  have hl : lv_has ls 5 [(0, .ref h), (1, .int (jI x))] := hl
  have hok2 := hok
  obtain ⟨hLn, hwd, hwi, hwt⟩ := hok2
  refine lv_aload_n hx hb dX1_exchange_0 rfl (lv_at hl 0 rfl) ?_
  refine lv_iload_n hx hb dX1_exchange_1 rfl (lv_at hl 1 rfl) ?_
  refine vp_callSi (W.runV (As := [.int (jI x)]) (rest := []) ⟨hx, hb, hml, hown, hts⟩ (metX1_noCell l dC dI d h a1 a2 a3 a4 a5 L n wd wi wt pts pt pl x (by omega) (by omega)) (cwV 1 hts (lw_V q64 q66 qs0 q20 q67) rfl rfl rfl (by decide +kernel) ⟨Nat.le_of_ble_eq_true rfl, Nat.le_of_ble_eq_true rfl⟩) ⟨zPp_bl, va_recv hK hP (ci := 0) (q0 := 0) rfl rfl, fun U hU hW => ⟨rfl, by rw [hU]; exact hP, va_K.moved hW.alike hK⟩⟩ rfl rfl hl.1 rfl (lv_room (Nat.le_of_ble_eq_true rfl)) dX1_exchange_2 ⟨Nat.le_of_ble_eq_true rfl, Nat.le_of_ble_eq_true rfl⟩) (fun r_ hr_ => ?_)
  obtain ⟨z_1, rfl, hz_1⟩ := hr_
  refine ji_if_ne (tgt := 18) hx hb dX1_exchange_5 (by decide) (by omega) (fun c_2 => ?_) (fun c_2 => ?_)
  · refine lv_bipush (v := jI (-4)) hx hb dX1_exchange_18 (by decide) ?_
    exact W.iret (v := jI (-4)) hx hb hr (fun t_ ht_ hW_ => ⟨⟨_, (n, wd, wi, wt, pts, pt, pl), rfl, ⟨(-4), rfl, ⟨_, _, _, rfl, Or.inl ⟨by omega, rfl, rfl, rfl⟩⟩⟩, by rw [ht_]; exact hP, va_K.moved hW_.alike hK, hD⟩, hS.F ht_⟩) hS.2.2 dX1_exchange_20
  · refine lv_aload_n hx hb dX1_exchange_8 rfl (lv_at hl 0 rfl) ?_
    refine lv_iload_n hx hb dX1_exchange_9 rfl (lv_at hl 1 rfl) ?_
    refine ji_const hx hb dX1_exchange_10 ?_
    refine ji_add hx hb dX1_exchange_11 ?_
    refine vp_callSi (W.runV (As := [.int (jI (x + 1))]) (rest := []) ⟨hx, hb, hml, hown, hts⟩ (metX1_noCell l dC dI d h a1 a2 a3 a4 a5 L n wd wi wt pts pt pl (x + 1) (by omega) (by omega)) (cwV 1 hts (lw_V q64 q66 qs0 q20 q67) rfl rfl rfl (by decide +kernel) ⟨Nat.le_of_ble_eq_true rfl, Nat.le_of_ble_eq_true rfl⟩) ⟨zPp_bl, va_recv hK hP (ci := 0) (q0 := 0) rfl rfl, fun U hU hW => ⟨rfl, by rw [hU]; exact hP, va_K.moved hW.alike hK⟩⟩ rfl rfl hl.1 rfl (lv_room (Nat.le_of_ble_eq_true rfl)) dX1_exchange_12 ⟨Nat.le_of_ble_eq_true rfl, Nat.le_of_ble_eq_true rfl⟩) (fun r_ hr_ => ?_)
    obtain ⟨z_3, rfl, hz_3⟩ := hr_
    refine ji_if_eq (tgt := 21) hx hb dX1_exchange_15 (by decide) (by omega) (fun c_4 => ?_) (fun c_4 => ?_)
    · refine lv_aload_n hx hb dX1_exchange_21 rfl (lv_at hl 0 rfl) ?_
      refine va_get (D := (dC, dI)) (ci := 0) (v := .ref a1) (C := RX1) (T := TX1) (N := 8) hx hb hts in_X1 hown hK hP 0 rfl rfl 2 (by decide) (hts _ q32) (fun _ h9 => h9) rfl dX1_exchange_22 ?_
      refine lv_iload_n hx hb dX1_exchange_25 rfl (lv_at hl 1 rfl) ?_
      refine ji_ld (f := wd) (n := 10) (cA := d) hx hb hK hP 1 0 rfl rfl (by omega) (by decide) dX1_exchange_26 ?_
      refine lv_istore_n (lv' := [(2, .int (jI (wd x))), (0, .ref h), (1, .int (jI x))]) hx hb dX1_exchange_27 rfl hl (by decide) rfl (fun ls hl => ?_)
      refine lv_aload_n hx hb dX1_exchange_28 rfl (lv_at hl 1 rfl) ?_
      refine va_get (D := (dC, dI)) (ci := 0) (v := .ref a1) (C := RX1) (T := TX1) (N := 8) hx hb hts in_X1 hown hK hP 0 rfl rfl 2 (by decide) (hts _ q32) (fun _ h9 => h9) rfl dX1_exchange_29 ?_
      refine lv_iload_n hx hb dX1_exchange_32 rfl (lv_at hl 2 rfl) ?_
      refine lv_aload_n hx hb dX1_exchange_33 rfl (lv_at hl 1 rfl) ?_
      refine va_get (D := (dC, dI)) (ci := 0) (v := .ref a1) (C := RX1) (T := TX1) (N := 8) hx hb hts in_X1 hown hK hP 0 rfl rfl 2 (by decide) (hts _ q32) (fun _ h9 => h9) rfl dX1_exchange_34 ?_
      refine lv_iload_n hx hb dX1_exchange_37 rfl (lv_at hl 2 rfl) ?_
      refine ji_const hx hb dX1_exchange_38 ?_
      refine ji_add hx hb dX1_exchange_39 ?_
      refine ji_ld (f := wd) (n := 10) (cA := d) hx hb hK hP 1 0 rfl rfl (by omega) (by decide) dX1_exchange_40 ?_
      refine ji_st (f := wd) (n := 10) (cA := d) (i := x) (x := wd (x + 1)) hx hb hK hP hD hS 1 0 rfl rfl (by omega) (by decide) dX1_exchange_41 (fun H locs hP hD hS => ?_)
      have hP : va_P (dC, dI) vwCl (wX d h a1 a2 a3 a4 a5 L n (uI wd x (wd (x + 1))) wi wt pts pt pl) H := hP
      have hD : va_D A (wX d h a1 a2 a3 a4 a5 L n (uI wd x (wd (x + 1))) wi wt pts pt pl) := hD
      refine lv_aload_n hx hb dX1_exchange_42 rfl (lv_at hl 1 rfl) ?_
      refine va_get (D := (dC, dI)) (ci := 0) (v := .ref a1) (C := RX1) (T := TX1) (N := 8) hx hb hts in_X1 hown hK hP 0 rfl rfl 2 (by decide) (hts _ q32) (fun _ h9 => h9) rfl dX1_exchange_43 ?_
      refine lv_iload_n hx hb dX1_exchange_46 rfl (lv_at hl 2 rfl) ?_
      refine ji_const hx hb dX1_exchange_47 ?_
      refine ji_add hx hb dX1_exchange_48 ?_
      refine lv_iload_n hx hb dX1_exchange_49 rfl (lv_at hl 0 rfl) ?_
      refine ji_st (f := (uI wd x (wd (x + 1)))) (n := 10) (cA := d) (i := x + 1) (x := wd x) hx hb hK hP hD hS 1 0 rfl rfl (by omega) (by decide) dX1_exchange_50 (fun H locs hP hD hS => ?_)
      have hP : va_P (dC, dI) vwCl (wX d h a1 a2 a3 a4 a5 L n (uI (uI wd x (wd (x + 1))) (x + 1) (wd x)) wi wt pts pt pl) H := hP
      have hD : va_D A (wX d h a1 a2 a3 a4 a5 L n (uI (uI wd x (wd (x + 1))) (x + 1) (wd x)) wi wt pts pt pl) := hD
      refine lv_aload_n hx hb dX1_exchange_51 rfl (lv_at hl 1 rfl) ?_
      refine va_get (D := (dC, dI)) (ci := 0) (v := .ref a2) (C := RX1) (T := TX1) (N := 8) hx hb hts in_X1 hown hK hP 0 rfl rfl 3 (by decide) (hts _ q33) (fun _ h9 => h9) rfl dX1_exchange_52 ?_
      refine lv_iload_n hx hb dX1_exchange_55 rfl (lv_at hl 2 rfl) ?_
      refine ji_ld (f := wi) (n := 10) (cA := d) hx hb hK hP 2 0 rfl rfl (by omega) (by decide) dX1_exchange_56 ?_
      refine lv_istore_n (lv' := [(3, .int (jI (wi x))), (2, .int (jI (wd x))), (0, .ref h), (1, .int (jI x))]) hx hb dX1_exchange_57 rfl hl (by decide) rfl (fun ls hl => ?_)
      refine lv_aload_n hx hb dX1_exchange_58 rfl (lv_at hl 2 rfl) ?_
      refine va_get (D := (dC, dI)) (ci := 0) (v := .ref a2) (C := RX1) (T := TX1) (N := 8) hx hb hts in_X1 hown hK hP 0 rfl rfl 3 (by decide) (hts _ q33) (fun _ h9 => h9) rfl dX1_exchange_59 ?_
      refine lv_iload_n hx hb dX1_exchange_62 rfl (lv_at hl 3 rfl) ?_
      refine lv_aload_n hx hb dX1_exchange_63 rfl (lv_at hl 2 rfl) ?_
      refine va_get (D := (dC, dI)) (ci := 0) (v := .ref a2) (C := RX1) (T := TX1) (N := 8) hx hb hts in_X1 hown hK hP 0 rfl rfl 3 (by decide) (hts _ q33) (fun _ h9 => h9) rfl dX1_exchange_64 ?_
      refine lv_iload_n hx hb dX1_exchange_67 rfl (lv_at hl 3 rfl) ?_
      refine ji_const hx hb dX1_exchange_68 ?_
      refine ji_add hx hb dX1_exchange_69 ?_
      refine ji_ld (f := wi) (n := 10) (cA := d) hx hb hK hP 2 0 rfl rfl (by omega) (by decide) dX1_exchange_70 ?_
      refine ji_st (f := wi) (n := 10) (cA := d) (i := x) (x := wi (x + 1)) hx hb hK hP hD hS 2 0 rfl rfl (by omega) (by decide) dX1_exchange_71 (fun H locs hP hD hS => ?_)
      have hP : va_P (dC, dI) vwCl (wX d h a1 a2 a3 a4 a5 L n (uI (uI wd x (wd (x + 1))) (x + 1) (wd x)) (uI wi x (wi (x + 1))) wt pts pt pl) H := hP
      have hD : va_D A (wX d h a1 a2 a3 a4 a5 L n (uI (uI wd x (wd (x + 1))) (x + 1) (wd x)) (uI wi x (wi (x + 1))) wt pts pt pl) := hD
      refine lv_aload_n hx hb dX1_exchange_72 rfl (lv_at hl 2 rfl) ?_
      refine va_get (D := (dC, dI)) (ci := 0) (v := .ref a2) (C := RX1) (T := TX1) (N := 8) hx hb hts in_X1 hown hK hP 0 rfl rfl 3 (by decide) (hts _ q33) (fun _ h9 => h9) rfl dX1_exchange_73 ?_
      refine lv_iload_n hx hb dX1_exchange_76 rfl (lv_at hl 3 rfl) ?_
      refine ji_const hx hb dX1_exchange_77 ?_
      refine ji_add hx hb dX1_exchange_78 ?_
      refine lv_iload_n hx hb dX1_exchange_79 rfl (lv_at hl 0 rfl) ?_
      refine ji_st (f := (uI wi x (wi (x + 1)))) (n := 10) (cA := d) (i := x + 1) (x := wi x) hx hb hK hP hD hS 2 0 rfl rfl (by omega) (by decide) dX1_exchange_80 (fun H locs hP hD hS => ?_)
      have hP : va_P (dC, dI) vwCl (wX d h a1 a2 a3 a4 a5 L n (uI (uI wd x (wd (x + 1))) (x + 1) (wd x)) (uI (uI wi x (wi (x + 1))) (x + 1) (wi x)) wt pts pt pl) H := hP
      have hD : va_D A (wX d h a1 a2 a3 a4 a5 L n (uI (uI wd x (wd (x + 1))) (x + 1) (wd x)) (uI (uI wi x (wi (x + 1))) (x + 1) (wi x)) wt pts pt pl) := hD
      refine lv_aload_n hx hb dX1_exchange_81 rfl (lv_at hl 2 rfl) ?_
      refine va_get (D := (dC, dI)) (ci := 0) (v := .ref a3) (C := RX1) (T := TX1) (N := 8) hx hb hts in_X1 hown hK hP 0 rfl rfl 4 (by decide) (hts _ q34) (fun _ h9 => h9) rfl dX1_exchange_82 ?_
      refine lv_iload_n hx hb dX1_exchange_85 rfl (lv_at hl 3 rfl) ?_
      refine ji_ld (f := wt) (n := 10) (cA := d) hx hb hK hP 3 0 rfl rfl (by omega) (by decide) dX1_exchange_86 ?_
      refine lv_istore (lv' := [(4, .int (jI (wt x))), (3, .int (jI (wi x))), (2, .int (jI (wd x))), (0, .ref h), (1, .int (jI x))]) hx hb dX1_exchange_87 hl (by decide) rfl (fun ls hl => ?_)
      refine lv_aload_n hx hb dX1_exchange_89 rfl (lv_at hl 3 rfl) ?_
      refine va_get (D := (dC, dI)) (ci := 0) (v := .ref a3) (C := RX1) (T := TX1) (N := 8) hx hb hts in_X1 hown hK hP 0 rfl rfl 4 (by decide) (hts _ q34) (fun _ h9 => h9) rfl dX1_exchange_90 ?_
      refine lv_iload_n hx hb dX1_exchange_93 rfl (lv_at hl 4 rfl) ?_
      refine lv_aload_n hx hb dX1_exchange_94 rfl (lv_at hl 3 rfl) ?_
      refine va_get (D := (dC, dI)) (ci := 0) (v := .ref a3) (C := RX1) (T := TX1) (N := 8) hx hb hts in_X1 hown hK hP 0 rfl rfl 4 (by decide) (hts _ q34) (fun _ h9 => h9) rfl dX1_exchange_95 ?_
      refine lv_iload_n hx hb dX1_exchange_98 rfl (lv_at hl 4 rfl) ?_
      refine ji_const hx hb dX1_exchange_99 ?_
      refine ji_add hx hb dX1_exchange_100 ?_
      refine ji_ld (f := wt) (n := 10) (cA := d) hx hb hK hP 3 0 rfl rfl (by omega) (by decide) dX1_exchange_101 ?_
      refine ji_st (f := wt) (n := 10) (cA := d) (i := x) (x := wt (x + 1)) hx hb hK hP hD hS 3 0 rfl rfl (by omega) (by decide) dX1_exchange_102 (fun H locs hP hD hS => ?_)
      have hP : va_P (dC, dI) vwCl (wX d h a1 a2 a3 a4 a5 L n (uI (uI wd x (wd (x + 1))) (x + 1) (wd x)) (uI (uI wi x (wi (x + 1))) (x + 1) (wi x)) (uI wt x (wt (x + 1))) pts pt pl) H := hP
      have hD : va_D A (wX d h a1 a2 a3 a4 a5 L n (uI (uI wd x (wd (x + 1))) (x + 1) (wd x)) (uI (uI wi x (wi (x + 1))) (x + 1) (wi x)) (uI wt x (wt (x + 1))) pts pt pl) := hD
      refine lv_aload_n hx hb dX1_exchange_103 rfl (lv_at hl 3 rfl) ?_
      refine va_get (D := (dC, dI)) (ci := 0) (v := .ref a3) (C := RX1) (T := TX1) (N := 8) hx hb hts in_X1 hown hK hP 0 rfl rfl 4 (by decide) (hts _ q34) (fun _ h9 => h9) rfl dX1_exchange_104 ?_
      refine lv_iload_n hx hb dX1_exchange_107 rfl (lv_at hl 4 rfl) ?_
      refine ji_const hx hb dX1_exchange_108 ?_
      refine ji_add hx hb dX1_exchange_109 ?_
      refine lv_iload hx hb dX1_exchange_110 (lv_at hl 0 rfl) ?_
      refine ji_st (f := (uI wt x (wt (x + 1)))) (n := 10) (cA := d) (i := x + 1) (x := wt x) hx hb hK hP hD hS 3 0 rfl rfl (by omega) (by decide) dX1_exchange_112 (fun H locs hP hD hS => ?_)
      have hP : va_P (dC, dI) vwCl (wX d h a1 a2 a3 a4 a5 L n (uI (uI wd x (wd (x + 1))) (x + 1) (wd x)) (uI (uI wi x (wi (x + 1))) (x + 1) (wi x)) (uI (uI wt x (wt (x + 1))) (x + 1) (wt x)) pts pt pl) H := hP
      have hD : va_D A (wX d h a1 a2 a3 a4 a5 L n (uI (uI wd x (wd (x + 1))) (x + 1) (wd x)) (uI (uI wi x (wi (x + 1))) (x + 1) (wi x)) (uI (uI wt x (wt (x + 1))) (x + 1) (wt x)) pts pt pl) := hD
      refine ji_const hx hb dX1_exchange_113 ?_
      exact W.iret (v := jI 0) hx hb hr (fun t_ ht_ hW_ => ⟨⟨_, (n, uI (uI wd x (wd (x + 1))) (x + 1) (wd x), uI (uI wi x (wi (x + 1))) (x + 1) (wi x), uI (uI wt x (wt (x + 1))) (x + 1) (wt x), pts, pt, pl), rfl, ⟨0, rfl, ⟨_, _, _, rfl, Or.inr ⟨by omega, rfl, rfl, rfl⟩⟩⟩, by rw [ht_]; exact hP, va_K.moved hW_.alike hK, hD⟩, hS.F ht_⟩) hS.2.2 dX1_exchange_114
    · refine lv_bipush (v := jI (-4)) hx hb dX1_exchange_18 (by decide) ?_
      exact W.iret (v := jI (-4)) hx hb hr (fun t_ ht_ hW_ => ⟨⟨_, (n, wd, wi, wt, pts, pt, pl), rfl, ⟨(-4), rfl, ⟨_, _, _, rfl, Or.inl ⟨by omega, rfl, rfl, rfl⟩⟩⟩, by rw [ht_]; exact hP, va_K.moved hW_.alike hK, hD⟩, hS.F ht_⟩) hS.2.2 dX1_exchange_20
end
section
/-! BOUNDS of costs, and what partCost's callers make of it -/
theorem mul_bd {w d : Int} (hw : 1 ≤ w ∧ w ≤ 5) (hd : 0 ≤ d ∧ d ≤ 60) : 0 ≤ w * d ∧ w * d ≤ 300 := by
  rcases (show w = 1 ∨ w = 2 ∨ w = 3 ∨ w = 4 ∨ w = 5 by omega) with rfl | rfl | rfl | rfl | rfl <;> omega
theorem Fi_bd0 {L n : Int} {wd wi wt : Int → Int} (hok : Ok L n wd wi wt) {a lf : Int} (ha : 0 ≤ a) (hlf : 0 ≤ lf) : ∀ (k : Nat) (rt v : Int), a + k ≤ n → rt ≤ 60 → Fi wd wi wt a (a + k) lf rt v → 0 ≤ v ∧ v ≤ 300 * k
  | 0, rt, v, _, _, h => by
    rw [show a + ((0 : Nat) : Int) = a by omega] at h
    have := (Fi_0.mp h).2
    omega
  | k + 1, rt, v, hn, hr, h => by
    obtain ⟨hLn, hwd, hwi, hwt⟩ := hok
    rw [show a + ((k + 1 : Nat) : Int) = a + k + 1 by omega] at h
    obtain ⟨x, v', h1, h2, rfl⟩ := (Fi_s (by omega)).mp h
    have w1 := hwd (a + k) (by omega) (by omega)
    have w2 := hwi (a + k) (by omega) (by omega)
    have w3 := hwt (a + k) (by omega) (by omega)
    have ih := Fi_bd0 ⟨hLn, hwd, hwi, hwt⟩ ha hlf k x v' (by omega) (by omega) h1
    have f1 := Fi_fit h1
    have f2 := sWi_rng wd (a := a) (b := a + k) (lo := 1) (hi := 5) (by omega) (fun j q1 q2 => hwd j (by omega) (by omega))
    have f3 := dst_spec x (wi (a + k))
    have f4 := mul_bd w3 (show 0 ≤ dst x (wi (a + k)) ∧ dst x (wi (a + k)) ≤ 60 by omega)
    omega
theorem Fi_bd {L n : Int} {wd wi wt : Int → Int} (hok : Ok L n wd wi wt) {a b lf rt v : Int} (ha : 0 ≤ a ∧ a ≤ b ∧ b ≤ n) (hlf : 0 ≤ lf) (hr : rt ≤ 60) (h : Fi wd wi wt a b lf rt v) : 0 ≤ v ∧ v ≤ 3000 := by
  have hok2 := hok
  obtain ⟨hLn, -⟩ := hok2
  have h1 := Fi_bd0 hok ha.1 hlf (b - a).toNat rt v (by omega) hr (by rw [show a + ((b - a).toNat : Int) = b by omega]; exact h)
  omega
theorem Res_bd {P : Int → Prop} {z : Int} (h : Res P z) (hb : ∀ v, P v → 0 ≤ v ∧ v ≤ 3000) : -6 ≤ z ∧ z ≤ 3000 ∧ (z = -6 → ∀ v, ¬ P v) ∧ (z ≠ -6 → Lst P z ∧ 0 ≤ z) := by
  rcases h with ⟨rfl, h⟩ | h
  · exact ⟨by omega, by omega, fun _ => h, fun q => absurd rfl q⟩
  · have h1 := hb _ h.1
    exact ⟨by omega, by omega, fun q => by omega, fun _ => ⟨h, by omega⟩⟩
theorem Upx_bd {L n : Int} {wd wi wt : Int → Int} (hok : Ok L n wd wi wt) {c x rt v : Int} (hc : 0 ≤ c ∧ c < n) (hr : rt ≤ 60) (h : Upx wd wi wt c x rt v) : 0 ≤ v ∧ v ≤ 3000 := by
  obtain ⟨x0, v', h1, h2, h3⟩ := h
  exact Fi_bd hok (a := 0) (b := c + 1) (lf := 0) (rt := rt) ⟨by omega, by omega, by omega⟩ (by omega) hr ((Fi_s (by omega)).mpr ⟨x, v', h1, h2, h3⟩)
theorem Upx_of {wd wi wt : Int → Int} {c x rt z : Int} (h : Lst (Fi wd wi wt 0 c 0 x) z) (hx : 0 ≤ x) (hw : x + wd c ≤ rt) : Res (Upx wd wi wt c x rt) (z + wt c * dst x (wi c)) := by
  refine Or.inr ⟨⟨hx, z, h.1, hw, rfl⟩, fun v hv => ?_⟩
  obtain ⟨-, v', h1, -, rfl⟩ := hv
  have := h.2 v' h1
  omega
theorem Upx_none {wd wi wt : Int → Int} {c x rt : Int} (h : ∀ v, ¬ Fi wd wi wt 0 c 0 x v) : Res (Upx wd wi wt c x rt) (-6) := Or.inl ⟨rfl, fun v hv => by
  obtain ⟨-, v', h1, -, -⟩ := hv
  exact h v' h1⟩
/-- x is the first place of cell c at which the cells up to it cost the least that they can within rt -/
def Lm (wd wi wt : Int → Int) (c rt x : Int) : Prop := 0 ≤ x ∧ ∃ b, Lst (Fi wd wi wt 0 (c + 1) 0 rt) b ∧ Res (Upx wd wi wt c x rt) b ∧ ∀ x', 0 ≤ x' → x' < x → ¬ Res (Upx wd wi wt c x' rt) b
def nx (n L : Int) (q : Int → Int) (j : Int) : Int := if j + 1 = n then L else q (j + 1)
def Plc (wd wi wt : Int → Int) (n L c : Int) (q : Int → Int) : Prop := ∀ j, c ≤ j → j < n → Lm wd wi wt j (nx n L q j) (q j)
def Lmo (wd wi wt : Int → Int) (n L x z : Int) : Prop := ((∀ v, ¬ Fi wd wi wt 0 n 0 L v) ∧ z = -6) ∨ ((∃ v, Fi wd wi wt 0 n 0 L v) ∧ ∃ q, Plc wd wi wt n L x q ∧ z = q x)
/-- with the cell x at y: v is what some placing costs -/
def Cat (wd wi wt : Int → Int) (n L x y v : Int) : Prop := ∃ v1 v2, Upx wd wi wt x y L v1 ∧ Fi wd wi wt (x + 1) n (y + wd x) L v2 ∧ v = v1 + v2
theorem Lm_ex {wd wi wt : Int → Int} {c rt b : Int} (hc : 0 ≤ c) (hsw : 0 ≤ sWi wd 0 c) (h : Lst (Fi wd wi wt 0 (c + 1) 0 rt) b) : ∃ x, 0 ≤ x ∧ x + wd c ≤ rt ∧ Res (Upx wd wi wt c x rt) b := by
  obtain ⟨x, v', h1, h2, h3⟩ := (Fi_s hc).mp h.1
  have f1 := Fi_fit h1
  refine ⟨x, by omega, h2, Or.inr ⟨⟨by omega, v', h1, h2, h3⟩, fun v hv => ?_⟩⟩
  obtain ⟨-, v2, g1, g2, g3⟩ := hv
  exact h.2 v ((Fi_s hc).mpr ⟨x, v2, g1, g2, g3⟩)
theorem Plc_step {wd wi wt : Int → Int} {n L k rt x : Int} {q : Int → Int} (hk : 0 ≤ k ∧ k < n) (h : Plc wd wi wt n L (k + 1) q) (e : rt = nx n L q k) (hx : Lm wd wi wt k rt x) : Plc wd wi wt n L (k - 1 + 1) (uI q k x) ∧ x = nx n L (uI q k x) (k - 1) := by
  refine ⟨fun j h1 h2 => ?_, ?_⟩
  · have en : nx n L (uI q k x) j = nx n L q j := by
      unfold nx
      by_cases q1 : j + 1 = n
      · rw [if_pos q1, if_pos q1]
      · rw [if_neg q1, if_neg q1, uI_n (by omega)]
    rw [en]
    by_cases q1 : j = k
    · rw [q1, uI_s, ← e]
      exact hx
    · rw [uI_n q1]
      exact h j (by omega) h2
  · unfold nx
    rw [if_neg (by omega), show k - 1 + 1 = k by omega, uI_s]
/-! chains of cells at their wishes -/
def Ch (wd wi : Int → Int) (L : Int) : Nat → Int → Int → Prop
  | 0, m, _ => m = 0
  | k + 1, m, e => Ch wd wi L k m e ∨ (wi k + wd k ≤ L ∧ wi k + wd k ≤ e ∧ Ch wd wi L k (m - 1) (wi k))
def Chi (wd wi : Int → Int) (L k m e : Int) : Prop := Ch wd wi L k.toNat m e
theorem Chi_0 {wd wi : Int → Int} {L m e : Int} : Chi wd wi L 0 m e ↔ m = 0 := Iff.rfl
theorem Chi_s {wd wi : Int → Int} {L k m e : Int} (h : 0 ≤ k) : Chi wd wi L (k + 1) m e ↔ Chi wd wi L k m e ∨ (wi k + wd k ≤ L ∧ wi k + wd k ≤ e ∧ Chi wd wi L k (m - 1) (wi k)) := by
  unfold Chi
  rw [show (k + 1).toNat = k.toNat + 1 by omega]
  show (Ch wd wi L k.toNat m e ∨ (wi (k.toNat : Int) + wd (k.toNat : Int) ≤ L ∧ wi (k.toNat : Int) + wd (k.toNat : Int) ≤ e ∧ Ch wd wi L k.toNat (m - 1) (wi (k.toNat : Int)))) ↔ _
  rw [show ((k.toNat : Nat) : Int) = k by omega]
theorem Ch_bd {wd wi : Int → Int} {L : Int} : ∀ (k : Nat) (m e : Int), Ch wd wi L k m e → 0 ≤ m ∧ m ≤ k
  | 0, m, e, h => by
    have h : m = 0 := h
    omega
  | k + 1, m, e, h => by
    rcases h with h | ⟨-, -, h⟩
    · have := Ch_bd k m e h
      omega
    · have := Ch_bd k _ _ h
      omega
theorem Chi_bd {wd wi : Int → Int} {L k m e : Int} (hk : 0 ≤ k) (h : Chi wd wi L k m e) : 0 ≤ m ∧ m ≤ k := by
  have := Ch_bd _ _ _ h
  omega
def Mx (wd wi : Int → Int) (L k e m : Int) : Prop := Chi wd wi L k m e ∧ ∀ m', Chi wd wi L k m' e → m' ≤ m
def Pl1 (wd wi : Int → Int) (L b p : Int) : Prop := (L < wi b + wd b ∧ p = 0) ∨ (wi b + wd b ≤ L ∧ Mx wd wi L b (wi b) (p - 1))
theorem Mx_0 (wd wi : Int → Int) (L e : Int) : Mx wd wi L 0 e 0 := ⟨rfl, fun m' h => by have h : m' = 0 := h; omega⟩
theorem Mx_skip {wd wi : Int → Int} {L b e m : Int} (hb : 0 ≤ b) (h : Mx wd wi L b e m) (hn : ¬ (wi b + wd b ≤ L ∧ wi b + wd b ≤ e)) : Mx wd wi L (b + 1) e m := by
  refine ⟨(Chi_s hb).mpr (Or.inl h.1), fun m' h' => ?_⟩
  rcases (Chi_s hb).mp h' with q | q
  · exact h.2 m' q
  · exact absurd ⟨q.1, q.2.1⟩ hn
theorem Mx_keep {wd wi : Int → Int} {L b e m p : Int} (hb : 0 ≤ b) (h : Mx wd wi L b e m) (hp : Pl1 wd wi L b p) (hm : p ≤ m) : Mx wd wi L (b + 1) e m := by
  refine ⟨(Chi_s hb).mpr (Or.inl h.1), fun m' h' => ?_⟩
  rcases (Chi_s hb).mp h' with q | ⟨q1, q2, q3⟩
  · exact h.2 m' q
  · rcases hp with hp | hp
    · omega
    · have := hp.2.2 _ q3
      omega
theorem Mx_new {wd wi : Int → Int} {L b e m p : Int} (hb : 0 ≤ b) (h : Mx wd wi L b e m) (hp : Pl1 wd wi L b p) (hf : wi b + wd b ≤ L) (he : wi b + wd b ≤ e) (hm : m ≤ p) : Mx wd wi L (b + 1) e p := by
  rcases hp with hp | hp
  · omega
  refine ⟨(Chi_s hb).mpr (Or.inr ⟨hf, he, hp.2.1⟩), fun m' h' => ?_⟩
  rcases (Chi_s hb).mp h' with q | ⟨q1, q2, q3⟩
  · have := h.2 m' q
    omega
  · have := hp.2.2 _ q3
    omega
theorem Mx_bd {wd wi : Int → Int} {L k e m : Int} (hk : 0 ≤ k) (h : Mx wd wi L k e m) : 0 ≤ m ∧ m ≤ k := Chi_bd hk h.1
theorem Pl1_bd {wd wi : Int → Int} {L b p : Int} (hb : 0 ≤ b) (h : Pl1 wd wi L b p) : 0 ≤ p ∧ p ≤ b + 1 := by
  rcases h with h | h
  · omega
  · have := Mx_bd hb h.2
    omega
end
section
set_option maxHeartbeats 4000000 in
set_option maxRecDepth 100000 in
theorem metX1_partCost (l : Launch) (dC : Nat → ClassId) (dI : Nat → Nat → Nat) (d : ClassId) (h a1 a2 a3 a4 a5 : Nat) (L : Int) (n : Int) (wd : Int → Int) (wi : Int → Int) (wt : Int → Int) (pts : Int) (pt : Int → Int) (pl : Int → Int) (sz : Nat) (fr : Int) (to : Int) (lf : Int) (rt : Int) (hok : Ok L n wd wi wt) (hf : 0 ≤ fr ∧ fr ≤ to ∧ to ≤ n) (hlr : 0 ≤ lf ∧ lf ≤ 100 ∧ 0 ≤ rt ∧ rt ≤ 60) : Met l yX1_partCost (ws_ yX1_partCost cX1_partCost 12 (some .int)) ({ frames := 2, cells := 0, slots := 0, locals := 44 }) (zPw dC dI (wX d h a1 a2 a3 a4 a5 L n wd wi wt pts pt pl) d sz [.ref h, .int (jI fr), .int (jI to), .int (jI lf), .int (jI rt)]) (wXQi dC dI d h a1 a2 a3 a4 a5 L (va_A (wX d h a1 a2 a3 a4 a5 L n wd wi wt pts pt pl) sz) (fun z u => ∃ pts1 pt1 pl1, u = (n, wd, wi, wt, pts1, pt1, pl1) ∧ pl1 = pl ∧ Res (Fi wd wi wt fr to lf rt) z)) 0 0 (va_A (wX d h a1 a2 a3 a4 a5 L n wd wi wt pts pt pl) sz) := by
  refine Met.ofW (cc := cX1_partCost) (maxL := 12) (ret := (some .int)) (by decide) rfl ?_
  intro p e s m args below meth c s₁ B hml hv
  obtain ⟨rfl, hsz, hP, hK, hD0⟩ := hv
  have hx := B.exec
  have hb := B.bytes
  have hr := B.returns
  have hts := atoms_spec (ws := (ws_ yX1_partCost cX1_partCost 12 (some .int))) B.pre
  have hts : ∀ w ∈ lw_all, w.before _ s = true := fun w h => hts w (List.mem_cons_of_mem _ h)
  have hown : s.vm.findClass RX1 = some m.cls := findClass_of_methodNamed B.named
  have hlocks := B.notSynchronized
  subst hsz
  have hD := hD0.self (sz := s.heap.size)
  generalize hAe : va_A (wX d h a1 a2 a3 a4 a5 L n wd wi wt pts pt pl) s.heap.size = A at hD ⊢
  have hA : ∀ q : Nat, s.heap.size ≤ q → A q := fun q h => by rw [← hAe]; exact Or.inr h
  have hS : va_S A s.heap s.heap [] := va_S.rf
  have hl := lv_entry ([.ref h, .int (jI fr), .int (jI to), .int (jI lf), .int (jI rt)]) (n := 12) (Nat.le_of_ble_eq_true rfl)
  rw [lg_entry_eq]
  generalize (lg_sl ([.ref h, .int (jI fr), .int (jI to), .int (jI lf), .int (jI rt)]) ++ List.replicate (12 - (lg_sl ([.ref h, .int (jI fr), .int (jI to), .int (jI lf), .int (jI rt)])).length) Slot.unset).toArray = ls at hl ⊢
  have hl : lv_has ls 12 [(0, .ref h), (1, .int (jI fr)), (2, .int (jI to)), (3, .int (jI lf)), (4, .int (jI rt))] := hl
  have hok2 := hok
  obtain ⟨hLn, hwd, hwi, hwt⟩ := hok2
  refine lv_iload hx hb dX1_partCost_0 (lv_at hl 4 rfl) ?_
  refine lv_aload_n hx hb dX1_partCost_2 rfl (lv_at hl 0 rfl) ?_
  refine lv_iload_n hx hb dX1_partCost_3 rfl (lv_at hl 1 rfl) ?_
  refine lv_iload_n hx hb dX1_partCost_4 rfl (lv_at hl 2 rfl) ?_
  refine vp_callSi (W.runV (As := [.int (jI fr), .int (jI to)]) (rest := [.int (jI rt)]) ⟨hx, hb, hml, hown, hts⟩ (metX1_widthOf l dC dI d h a1 a2 a3 a4 a5 L n wd wi wt pts pt pl fr to hok hf) (cwV 2 hts (lw_V q88 q90 qs2 q20 q91) rfl rfl rfl (by decide +kernel) ⟨Nat.le_of_ble_eq_true rfl, Nat.le_of_ble_eq_true rfl⟩) ⟨zPp_bl, va_recv hK hP (ci := 0) (q0 := 0) rfl rfl, fun U hU hW => ⟨rfl, by rw [hU]; exact hP, va_K.moved hW.alike hK⟩⟩ rfl rfl hl.1 rfl (lv_room (Nat.le_of_ble_eq_true rfl)) dX1_partCost_5 ⟨Nat.le_of_ble_eq_true rfl, Nat.le_of_ble_eq_true rfl⟩) (fun r_ hr_ => ?_)
  obtain ⟨zw, rfl, hzw⟩ := hr_
  have hswto := sWi_rng wd (a := fr) (b := to) (lo := 1) (hi := 5) (by omega) (fun j q1 q2 => hwd j (by omega) (by omega))
  refine ji_sub hx hb dX1_partCost_8 ?_
  refine lv_istore (lv' := [(5, .int (jI (rt - zw))), (0, .ref h), (1, .int (jI fr)), (2, .int (jI to)), (3, .int (jI lf)), (4, .int (jI rt))]) hx hb dX1_partCost_9 hl (by decide) rfl (fun ls hl => ?_)
  refine lv_iload hx hb dX1_partCost_11 (lv_at hl 0 rfl) ?_
  refine lv_iload_n hx hb dX1_partCost_13 rfl (lv_at hl 4 rfl) ?_
  refine ji_icmp_ge (tgt := 20) hx hb dX1_partCost_14 (by decide) (by omega) (by omega) (fun c_1 => ?_) (fun c_1 => ?_)
  · refine lv_aload_n hx hb dX1_partCost_20 rfl (lv_at hl 1 rfl) ?_
    refine ji_const hx hb dX1_partCost_21 ?_
    refine va_put (D := (dC, dI)) (ci := 0) (v := .int (jI 0)) (ty := .int) (C := RX1) (T := TX1) (N := 8) hx hb hts in_X1 tyX1 tyX1_ok nmX1 hown hK hP hD hS 0 rfl rfl 5 (by decide) (hts _ q35) (fun _ h9 => h9) rfl (by decide +kernel) rfl rfl (Nat.le_of_ble_eq_true rfl) dX1_partCost_22 (fun H locs hP hD hS => ?_)
    have hP : va_P (dC, dI) vwCl (wX d h a1 a2 a3 a4 a5 L n wd wi wt 0 pt pl) H := hP
    have hD : va_D A (wX d h a1 a2 a3 a4 a5 L n wd wi wt 0 pt pl) := hD
    refine ji_const hx hb dX1_partCost_25 ?_
    refine lv_istore (lv' := [(6, .int (jI 0)), (5, .int (jI (rt - zw))), (0, .ref h), (1, .int (jI fr)), (2, .int (jI to)), (3, .int (jI lf)), (4, .int (jI rt))]) hx hb dX1_partCost_26 hl (by decide) rfl (fun ls hl => ?_)
    refine ji_const hx hb dX1_partCost_28 ?_
    refine lv_istore (lv' := [(7, .int (jI 0)), (6, .int (jI 0)), (5, .int (jI (rt - zw))), (0, .ref h), (1, .int (jI fr)), (2, .int (jI to)), (3, .int (jI lf)), (4, .int (jI rt))]) hx hb dX1_partCost_29 hl (by decide) rfl (fun ls hl => ?_)
    refine lv_iload_n hx hb dX1_partCost_31 rfl (lv_at hl 4 rfl) ?_
    refine lv_istore (lv' := [(8, .int (jI fr)), (7, .int (jI 0)), (6, .int (jI 0)), (5, .int (jI (rt - zw))), (0, .ref h), (1, .int (jI fr)), (2, .int (jI to)), (3, .int (jI lf)), (4, .int (jI rt))]) hx hb dX1_partCost_32 hl (by decide) rfl (fun ls hl => ?_)
    have lo1 : ∀ (n_ : Nat) (k : Int) (cs : Int) (bf : Int) (ps : Int) (g : Int → Int) (hk : fr ≤ k ∧ k ≤ to) (hbf : bf = sWi wd fr k) (hps : ps ≤ 5 * (k - fr)) (hPI : PI wd wi wt fr k lf (rt - zw) cs ps g) (hm_ : (to - k).toNat < n_) (H : Heap) (locs : List Loc) (hP : va_P (dC, dI) vwCl (wX d h a1 a2 a3 a4 a5 L n wd wi wt ps g pl) H) (hD : va_D A (wX d h a1 a2 a3 a4 a5 L n wd wi wt ps g pl)) (hS : va_S A s.heap H locs) (ls : Array Slot) (hl : lv_has ls 12 [(0, .ref h), (1, .int (jI fr)), (2, .int (jI to)), (3, .int (jI lf)), (4, .int (jI rt)), (5, .int (jI (rt - zw))), (6, .int (jI cs)), (7, .int (jI bf)), (8, .int (jI k))]), W p l e (headSpec (ws_ yX1_partCost cX1_partCost 12 (some .int)) ({ frames := 2, cells := 0, slots := 0, locals := 44 })).room s m ([.ref h, .int (jI fr), .int (jI to), .int (jI lf), .int (jI rt)] : List Value).toArray below meth c H locs 0 0 (MQ below (wXQi dC dI d h a1 a2 a3 a4 a5 L A (fun z u => ∃ pts1 pt1 pl1, u = (n, wd, wi, wt, pts1, pt1, pl1) ∧ pl1 = pl ∧ Res (Fi wd wi wt fr to lf rt) z)) ([.ref h, .int (jI fr), .int (jI to), .int (jI lf), .int (jI rt)] : List Value).toArray s 0 0 A) (F0 m 34 ls []) := by
      intro n_
      induction n_ with
      | zero => intro k cs bf ps g hk hbf hps hPI hm_; exact absurd hm_ (by omega)
      | succ n_ ih_lo1 =>
        intro k cs bf ps g hk hbf hps hPI hm_ H locs hP hD hS ls hl
        refine lv_iload hx hb dX1_partCost_34 (lv_at hl 8 rfl) ?_
        refine lv_iload_n hx hb dX1_partCost_36 rfl (lv_at hl 2 rfl) ?_
        refine ji_icmp_ge (tgt := 148) hx hb dX1_partCost_37 (by decide) (by omega) (by omega) (fun c_2 => ?_) (fun c_2 => ?_)
        · refine lv_iload hx hb dX1_partCost_148 (lv_at hl 6 rfl) ?_
          exact W.iret (v := jI cs) hx hb hr (fun t_ ht_ hW_ => ⟨⟨_, (n, wd, wi, wt, ps, g, pl), rfl, ⟨cs, rfl, ⟨_, _, _, rfl, rfl, PI_end (show PI wd wi wt fr to lf (rt - zw) cs ps g from (show k = to by omega) ▸ hPI) (by omega) (by omega)⟩⟩, by rw [ht_]; exact hP, va_K.moved hW_.alike hK, hD⟩, hS.F ht_⟩) hS.2.2 dX1_partCost_150
        · refine lv_aload_n hx hb dX1_partCost_40 rfl (lv_at hl 0 rfl) ?_
          refine va_get (D := (dC, dI)) (ci := 0) (v := .ref a2) (C := RX1) (T := TX1) (N := 8) hx hb hts in_X1 hown hK hP 0 rfl rfl 3 (by decide) (hts _ q33) (fun _ h9 => h9) rfl dX1_partCost_41 ?_
          refine lv_iload hx hb dX1_partCost_44 (lv_at hl 8 rfl) ?_
          refine ji_ld (f := wi) (n := 10) (cA := d) hx hb hK hP 2 0 rfl rfl (by omega) (by decide) dX1_partCost_46 ?_
          have f_3 := hwi k (by omega) (by omega)
          refine lv_iload hx hb dX1_partCost_47 (lv_at hl 7 rfl) ?_
          refine ji_sub hx hb dX1_partCost_49 ?_
          have hswk := sWi_rng wd (a := fr) (b := k) (lo := 1) (hi := 5) (by omega) (fun j q1 q2 => hwd j (by omega) (by omega))
          refine lv_istore (lv' := [(9, .int (jI ((wi k) - bf))), (0, .ref h), (1, .int (jI fr)), (2, .int (jI to)), (3, .int (jI lf)), (4, .int (jI rt)), (5, .int (jI (rt - zw))), (6, .int (jI cs)), (7, .int (jI bf)), (8, .int (jI k))]) hx hb dX1_partCost_50 hl (by decide) rfl (fun ls hl => ?_)
          have mid : ∀ (i0 : Int) (hi0 : (wi k - bf < lf ∧ i0 = lf) ∨ (rt - zw < wi k - bf ∧ i0 = rt - zw) ∨ (lf ≤ wi k - bf ∧ wi k - bf ≤ rt - zw ∧ i0 = wi k - bf)) (H : Heap) (locs : List Loc) (hP : va_P (dC, dI) vwCl (wX d h a1 a2 a3 a4 a5 L n wd wi wt ps g pl) H) (hD : va_D A (wX d h a1 a2 a3 a4 a5 L n wd wi wt ps g pl)) (hS : va_S A s.heap H locs) (ls : Array Slot) (hl : lv_has ls 12 [(0, .ref h), (1, .int (jI fr)), (2, .int (jI to)), (3, .int (jI lf)), (4, .int (jI rt)), (5, .int (jI (rt - zw))), (6, .int (jI cs)), (7, .int (jI bf)), (8, .int (jI k)), (9, .int (jI (wi k - bf)))]), W p l e (headSpec (ws_ yX1_partCost cX1_partCost 12 (some .int)) ({ frames := 2, cells := 0, slots := 0, locals := 44 })).room s m ([.ref h, .int (jI fr), .int (jI to), .int (jI lf), .int (jI rt)] : List Value).toArray below meth c H locs 0 0 (MQ below (wXQi dC dI d h a1 a2 a3 a4 a5 L A (fun z u => ∃ pts1 pt1 pl1, u = (n, wd, wi, wt, pts1, pt1, pl1) ∧ pl1 = pl ∧ Res (Fi wd wi wt fr to lf rt) z)) ([.ref h, .int (jI fr), .int (jI to), .int (jI lf), .int (jI rt)] : List Value).toArray s 0 0 A) (F0 m 76 ls [.int (jI i0)]) := by
            intro i0 hi0 H locs hP hD hS ls hl
            refine lv_istore (lv' := [(10, .int (jI i0)), (0, .ref h), (1, .int (jI fr)), (2, .int (jI to)), (3, .int (jI lf)), (4, .int (jI rt)), (5, .int (jI (rt - zw))), (6, .int (jI cs)), (7, .int (jI bf)), (8, .int (jI k)), (9, .int (jI (wi k - bf)))]) hx hb dX1_partCost_76 hl (by decide) rfl (fun ls hl => ?_)
            refine lv_iload hx hb dX1_partCost_78 (lv_at hl 7 rfl) ?_
            refine lv_aload_n hx hb dX1_partCost_80 rfl (lv_at hl 1 rfl) ?_
            refine va_get (D := (dC, dI)) (ci := 0) (v := .ref a3) (C := RX1) (T := TX1) (N := 8) hx hb hts in_X1 hown hK hP 0 rfl rfl 4 (by decide) (hts _ q34) (fun _ h9 => h9) rfl dX1_partCost_81 ?_
            refine lv_iload hx hb dX1_partCost_84 (lv_at hl 9 rfl) ?_
            refine ji_ld (f := wt) (n := 10) (cA := d) hx hb hK hP 3 0 rfl rfl (by omega) (by decide) dX1_partCost_86 ?_
            have f_4 := hwt k (by omega) (by omega)
            refine lv_iload hx hb dX1_partCost_87 (lv_at hl 10 rfl) ?_
            refine lv_iload hx hb dX1_partCost_89 (lv_at hl 0 rfl) ?_
            refine vp_callSi (W.runS (As := [.int (jI (wi k - bf)), .int (jI i0)]) (rest := [.int (jI (wt k)), .int (jI cs)]) ⟨hx, hb, hml, hown, hts⟩ (metX1_distance l (wi k - bf) i0 (by omega) (by omega)) (va_cwS 2 hts (lw_S q92 q93 q20 q94) rfl rfl rfl (by decide +kernel) ⟨Nat.le_of_ble_eq_true rfl, Nat.le_of_ble_eq_true rfl⟩) ⟨fun _ _ _ _ q => q, fun _ _ _ => ⟨rfl, trivial⟩⟩ rfl rfl hl.1 rfl (lv_room (Nat.le_of_ble_eq_true rfl)) dX1_partCost_91 ⟨Nat.le_of_ble_eq_true rfl, Nat.le_of_ble_eq_true rfl⟩) (fun r_ hr_ => ?_)
            obtain ⟨zd, rfl, hzd⟩ := hr_
            refine ji_mul hx hb dX1_partCost_94 ?_
            refine ji_add hx hb dX1_partCost_95 ?_
            refine lv_istore (lv' := [(6, .int (jI (cs + ((wt k) * zd)))), (10, .int (jI i0)), (0, .ref h), (1, .int (jI fr)), (2, .int (jI to)), (3, .int (jI lf)), (4, .int (jI rt)), (5, .int (jI (rt - zw))), (7, .int (jI bf)), (8, .int (jI k)), (9, .int (jI (wi k - bf)))]) hx hb dX1_partCost_96 hl (by decide) rfl (fun ls hl => ?_)
            refine ji_const hx hb dX1_partCost_98 ?_
            refine lv_istore (lv' := [(11, .int (jI 0)), (6, .int (jI (cs + ((wt k) * zd)))), (10, .int (jI i0)), (0, .ref h), (1, .int (jI fr)), (2, .int (jI to)), (3, .int (jI lf)), (4, .int (jI rt)), (5, .int (jI (rt - zw))), (7, .int (jI bf)), (8, .int (jI k)), (9, .int (jI (wi k - bf)))]) hx hb dX1_partCost_99 hl (by decide) rfl (fun ls hl => ?_)
            have lo2 : ∀ (n_ : Nat) (j : Int) (cs2 : Int) (ps2 : Int) (g2 : Int → Int) (hj : 0 ≤ j ∧ j ≤ wt k) (hps2 : ps2 + (wt k - j) ≤ 5 * (k + 1 - fr)) (hQI : QI lf (rt - zw) (fun y => cs + wt k * zd + hsi g ps y) i0 j cs2 ps2 g2) (hm_ : (wt k - j).toNat < n_) (H : Heap) (locs : List Loc) (hP : va_P (dC, dI) vwCl (wX d h a1 a2 a3 a4 a5 L n wd wi wt ps2 g2 pl) H) (hD : va_D A (wX d h a1 a2 a3 a4 a5 L n wd wi wt ps2 g2 pl)) (hS : va_S A s.heap H locs) (ls : Array Slot) (hl : lv_has ls 12 [(0, .ref h), (1, .int (jI fr)), (2, .int (jI to)), (3, .int (jI lf)), (4, .int (jI rt)), (5, .int (jI (rt - zw))), (6, .int (jI cs2)), (7, .int (jI bf)), (8, .int (jI k)), (9, .int (jI (wi k - bf))), (10, .int (jI i0)), (11, .int (jI j))]), W p l e (headSpec (ws_ yX1_partCost cX1_partCost 12 (some .int)) ({ frames := 2, cells := 0, slots := 0, locals := 44 })).room s m ([.ref h, .int (jI fr), .int (jI to), .int (jI lf), .int (jI rt)] : List Value).toArray below meth c H locs 0 0 (MQ below (wXQi dC dI d h a1 a2 a3 a4 a5 L A (fun z u => ∃ pts1 pt1 pl1, u = (n, wd, wi, wt, pts1, pt1, pl1) ∧ pl1 = pl ∧ Res (Fi wd wi wt fr to lf rt) z)) ([.ref h, .int (jI fr), .int (jI to), .int (jI lf), .int (jI rt)] : List Value).toArray s 0 0 A) (F0 m 101 ls []) := by
              intro n_
              induction n_ with
              | zero => intro j cs2 ps2 g2 hj hps2 hQI hm_; exact absurd hm_ (by omega)
              | succ n_ ih_lo2 =>
                intro j cs2 ps2 g2 hj hps2 hQI hm_ H locs hP hD hS ls hl
                refine lv_iload hx hb dX1_partCost_101 (lv_at hl 11 rfl) ?_
                refine lv_aload_n hx hb dX1_partCost_103 rfl (lv_at hl 0 rfl) ?_
                refine va_get (D := (dC, dI)) (ci := 0) (v := .ref a3) (C := RX1) (T := TX1) (N := 8) hx hb hts in_X1 hown hK hP 0 rfl rfl 4 (by decide) (hts _ q34) (fun _ h9 => h9) rfl dX1_partCost_104 ?_
                refine lv_iload hx hb dX1_partCost_107 (lv_at hl 8 rfl) ?_
                refine ji_ld (f := wt) (n := 10) (cA := d) hx hb hK hP 3 0 rfl rfl (by omega) (by decide) dX1_partCost_109 ?_
                have f_5 := hwt k (by omega) (by omega)
                refine ji_icmp_ge (tgt := 130) hx hb dX1_partCost_110 (by decide) (by omega) (by omega) (fun c_6 => ?_) (fun c_6 => ?_)
                · refine lv_iload hx hb dX1_partCost_130 (lv_at hl 7 rfl) ?_
                  refine lv_aload_n hx hb dX1_partCost_132 rfl (lv_at hl 0 rfl) ?_
                  refine va_get (D := (dC, dI)) (ci := 0) (v := .ref a1) (C := RX1) (T := TX1) (N := 8) hx hb hts in_X1 hown hK hP 0 rfl rfl 2 (by decide) (hts _ q32) (fun _ h9 => h9) rfl dX1_partCost_133 ?_
                  refine lv_iload hx hb dX1_partCost_136 (lv_at hl 8 rfl) ?_
                  refine ji_ld (f := wd) (n := 10) (cA := d) hx hb hK hP 1 0 rfl rfl (by omega) (by decide) dX1_partCost_138 ?_
                  have f_7 := hwd k (by omega) (by omega)
                  refine ji_add hx hb dX1_partCost_139 ?_
                  refine lv_istore (lv' := [(7, .int (jI (bf + (wd k)))), (0, .ref h), (1, .int (jI fr)), (2, .int (jI to)), (3, .int (jI lf)), (4, .int (jI rt)), (5, .int (jI (rt - zw))), (6, .int (jI cs2)), (8, .int (jI k)), (9, .int (jI (wi k - bf))), (10, .int (jI i0)), (11, .int (jI j))]) hx hb dX1_partCost_140 hl (by decide) rfl (fun ls hl => ?_)
                  refine ji_iinc (v := k + 1) (lv' := [(8, .int (jI (k + 1))), (7, .int (jI (bf + (wd k)))), (0, .ref h), (1, .int (jI fr)), (2, .int (jI to)), (3, .int (jI lf)), (4, .int (jI rt)), (5, .int (jI (rt - zw))), (6, .int (jI cs2)), (9, .int (jI (wi k - bf))), (10, .int (jI i0)), (11, .int (jI j))]) hx hb dX1_partCost_142 hl (k := 8) rfl (by omega) (by decide) rfl (fun ls hl => ?_)
                  refine lv_goto (tgt := 34) hx hb dX1_partCost_145 (by decide) ?_
                  exact ih_lo1 (k + 1) cs2 (bf + (wd k)) ps2 g2 (by omega) (by rw [sWi_s wd hk.1, hbf]) (by omega) (PI_step hk.1 hPI (by rw [← hbf]; exact hi0) (by omega) (by rw [show j = wt k by omega, hzd, hbf] at hQI; exact hQI)) (by omega) _ _ hP hD hS ls (lv_sub hl [2, 3, 4, 5, 6, 7, 8, 1, 0] rfl)
                · refine lv_iload hx hb dX1_partCost_113 (lv_at hl 6 rfl) ?_
                  refine lv_aload_n hx hb dX1_partCost_115 rfl (lv_at hl 0 rfl) ?_
                  refine lv_iload hx hb dX1_partCost_116 (lv_at hl 10 rfl) ?_
                  have hq0 := hQI.1
                  have hFc := va_free (wc := (wX d h a1 a2 a3 a4 a5 L n wd wi wt ps2 g2 pl)) hD hS hA [0, 1, 2, 3, 4, 5] rfl
                  refine va_calli (va_runV (As := [.int (jI i0)]) (rest := [.int (jI cs2)]) ⟨hx, hb, hml, hown, hts⟩ (metX1_addUnit l dC dI d h a1 a2 a3 a4 a5 L n wd wi wt ps2 g2 pl H.size i0 (by omega) (by omega) (fun j q1 q2 => by have := hQI.2.2.1 j q1 q2; omega)) (cwV 1 hts (lw_V q95 q97 qs3 q20 q98) rfl rfl rfl (by decide +kernel) ⟨Nat.le_of_ble_eq_true rfl, Nat.le_of_ble_eq_true rfl⟩) ⟨zPw_bl, va_recv hK hP (ci := 0) (q0 := 0) rfl rfl, fun U hU hW => ⟨rfl, by rw [hU], by rw [hU]; exact hP, va_K.moved hW.alike hK, hD.weaken (fun _ _ _ _ => trivial)⟩⟩ rfl rfl hl.1 rfl (lv_room (Nat.le_of_ble_eq_true rfl)) dX1_partCost_118 ⟨Nat.le_of_ble_eq_true rfl, Nat.le_of_ble_eq_true rfl⟩) hS (fun q _ h => hFc q h) hFc (fun r_ u_ t_ H locs ht_ hvm_ hw_ hB_ hz_ hk_ hS => ?_)
                  obtain ⟨zu, rfl, ptszu, ptzu, plzu, rfl, hzu⟩ := hw_
                  obtain ⟨hP, -, hD1_⟩ := hB_
                  rw [ht_] at hP
                  have hP : va_P (dC, dI) vwCl (wX d h a1 a2 a3 a4 a5 L n wd wi wt ptszu ptzu plzu) H := hP
                  have hD : va_D A (wX d h a1 a2 a3 a4 a5 L n wd wi wt ptszu ptzu plzu) := hD1_.weaken (fun _ q _ h => hFc q.1 h)
                  clear hD1_ hz_ hk_ hFc ht_ hvm_
                  obtain ⟨eu1, eu2, hU⟩ := hzu
                  rw [eu1, eu2] at hP hD
                  have hP : va_P (dC, dI) vwCl (wX d h a1 a2 a3 a4 a5 L n wd wi wt (ps2 + 1) ptzu pl) H := hP
                  have hD : va_D A (wX d h a1 a2 a3 a4 a5 L n wd wi wt (ps2 + 1) ptzu pl) := hD
                  refine ji_add hx hb dX1_partCost_121 ?_
                  refine lv_istore (lv' := [(6, .int (jI (cs2 + zu))), (0, .ref h), (1, .int (jI fr)), (2, .int (jI to)), (3, .int (jI lf)), (4, .int (jI rt)), (5, .int (jI (rt - zw))), (7, .int (jI bf)), (8, .int (jI k)), (9, .int (jI (wi k - bf))), (10, .int (jI i0)), (11, .int (jI j))]) hx hb dX1_partCost_122 hl (by decide) rfl (fun ls hl => ?_)
                  refine ji_iinc (v := j + 1) (lv' := [(11, .int (jI (j + 1))), (6, .int (jI (cs2 + zu))), (0, .ref h), (1, .int (jI fr)), (2, .int (jI to)), (3, .int (jI lf)), (4, .int (jI rt)), (5, .int (jI (rt - zw))), (7, .int (jI bf)), (8, .int (jI k)), (9, .int (jI (wi k - bf))), (10, .int (jI i0))]) hx hb dX1_partCost_124 hl (k := 11) rfl (by omega) (by decide) rfl (fun ls hl => ?_)
                  refine lv_goto (tgt := 101) hx hb dX1_partCost_127 (by decide) ?_
                  exact ih_lo2 (j + 1) (cs2 + zu) (ps2 + 1) ptzu (by omega) (by omega) (QI_unit (fun w w' hw => Int.add_le_add_left (hsi_mono g hw) _) hj.1 (by omega) hQI hU) (by omega) _ _ hP hD hS ls (lv_sub hl [2, 3, 4, 5, 6, 7, 1, 8, 9, 10, 11, 0] rfl)
            exact lo2 _ 0 (cs + ((wt k) * zd)) ps g (by omega) (by omega) (QI_start i0 hPI.1 hPI.2.1 hPI.2.2.1) (Nat.lt_succ_self _) _ _ hP hD hS ls (lv_sub hl [3, 4, 5, 6, 7, 8, 1, 9, 10, 11, 2, 0] rfl)
          refine lv_iload hx hb dX1_partCost_52 (lv_at hl 0 rfl) ?_
          refine lv_iload_n hx hb dX1_partCost_54 rfl (lv_at hl 4 rfl) ?_
          refine ji_icmp_ge (tgt := 62) hx hb dX1_partCost_55 (by decide) (by omega) (by omega) (fun c_8 => ?_) (fun c_8 => ?_)
          · refine lv_iload hx hb dX1_partCost_62 (lv_at hl 0 rfl) ?_
            refine lv_iload hx hb dX1_partCost_64 (lv_at hl 6 rfl) ?_
            refine ji_icmp_le (tgt := 74) hx hb dX1_partCost_66 (by decide) (by omega) (by omega) (fun c_9 => ?_) (fun c_9 => ?_)
            · refine lv_iload hx hb dX1_partCost_74 (lv_at hl 0 rfl) ?_
              exact mid ((wi k) - bf) (by omega) _ _ hP hD hS ls (lv_sub hl [1, 2, 3, 4, 5, 6, 7, 8, 9, 0] rfl)
            · refine lv_iload hx hb dX1_partCost_69 (lv_at hl 6 rfl) ?_
              refine lv_goto (tgt := 76) hx hb dX1_partCost_71 (by decide) ?_
              exact mid (rt - zw) (by omega) _ _ hP hD hS ls (lv_sub hl [1, 2, 3, 4, 5, 6, 7, 8, 9, 0] rfl)
          · refine lv_iload_n hx hb dX1_partCost_58 rfl (lv_at hl 4 rfl) ?_
            refine lv_goto (tgt := 76) hx hb dX1_partCost_59 (by decide) ?_
            exact mid lf (by omega) _ _ hP hD hS ls (lv_sub hl [1, 2, 3, 4, 5, 6, 7, 8, 9, 0] rfl)
    exact lo1 _ fr 0 0 0 pt (by omega) ((sWi_0 wd fr).symm) (by omega) (PI_start wd wi wt fr lf (rt - zw) pt) (Nat.lt_succ_self _) _ _ hP hD hS ls (lv_sub hl [4, 5, 6, 7, 8, 3, 2, 1, 0] rfl)
  · refine lv_bipush (v := jI (-6)) hx hb dX1_partCost_17 (by decide) ?_
    exact W.iret (v := jI (-6)) hx hb hr (fun t_ ht_ hW_ => ⟨⟨_, (n, wd, wi, wt, pts, pt, pl), rfl, ⟨(-6), rfl, ⟨_, _, _, rfl, rfl, PI_none (by omega)⟩⟩, by rw [ht_]; exact hP, va_K.moved hW_.alike hK, hD⟩, hS.F ht_⟩) hS.2.2 dX1_partCost_19
set_option maxHeartbeats 4000000 in
set_option maxRecDepth 100000 in
theorem metX1_upTo (l : Launch) (dC : Nat → ClassId) (dI : Nat → Nat → Nat) (d : ClassId) (h a1 a2 a3 a4 a5 : Nat) (L : Int) (n : Int) (wd : Int → Int) (wi : Int → Int) (wt : Int → Int) (pts : Int) (pt : Int → Int) (pl : Int → Int) (sz : Nat) (cl : Int) (x : Int) (rt : Int) (hok : Ok L n wd wi wt) (hc : 0 ≤ cl ∧ cl < n) (hx1 : -2147483648 ≤ x ∧ x < 2147483648) (hr1 : 0 ≤ rt ∧ rt ≤ 60) : Met l yX1_upTo (ws_ yX1_upTo cX1_upTo 5 (some .int)) ({ frames := 3, cells := 0, slots := 0, locals := 75 }) (zPw dC dI (wX d h a1 a2 a3 a4 a5 L n wd wi wt pts pt pl) d sz [.ref h, .int (jI cl), .int (jI x), .int (jI rt)]) (wXQi dC dI d h a1 a2 a3 a4 a5 L (va_A (wX d h a1 a2 a3 a4 a5 L n wd wi wt pts pt pl) sz) (fun z u => ∃ pts1 pt1 pl1, u = (n, wd, wi, wt, pts1, pt1, pl1) ∧ pl1 = pl ∧ Res (Upx wd wi wt cl x rt) z)) 0 0 (va_A (wX d h a1 a2 a3 a4 a5 L n wd wi wt pts pt pl) sz) := by
  refine Met.ofW (cc := cX1_upTo) (maxL := 5) (ret := (some .int)) (by decide) rfl ?_
  intro p e s m args below meth c s₁ B hml hv
  obtain ⟨rfl, hsz, hP, hK, hD0⟩ := hv
  have hx := B.exec
  have hb := B.bytes
  have hr := B.returns
  have hts := atoms_spec (ws := (ws_ yX1_upTo cX1_upTo 5 (some .int))) B.pre
  have hts : ∀ w ∈ lw_all, w.before _ s = true := fun w h => hts w (List.mem_cons_of_mem _ h)
  have hown : s.vm.findClass RX1 = some m.cls := findClass_of_methodNamed B.named
  have hlocks := B.notSynchronized
  subst hsz
  have hD := hD0.self (sz := s.heap.size)
  generalize hAe : va_A (wX d h a1 a2 a3 a4 a5 L n wd wi wt pts pt pl) s.heap.size = A at hD ⊢
  have hA : ∀ q : Nat, s.heap.size ≤ q → A q := fun q h => by rw [← hAe]; exact Or.inr h
  have hS : va_S A s.heap s.heap [] := va_S.rf
  have hl := lv_entry ([.ref h, .int (jI cl), .int (jI x), .int (jI rt)]) (n := 5) (Nat.le_of_ble_eq_true rfl)
  rw [lg_entry_eq]
  generalize (lg_sl ([.ref h, .int (jI cl), .int (jI x), .int (jI rt)]) ++ List.replicate (5 - (lg_sl ([.ref h, .int (jI cl), .int (jI x), .int (jI rt)])).length) Slot.unset).toArray = ls at hl ⊢
  have hl : lv_has ls 5 [(0, .ref h), (1, .int (jI cl)), (2, .int (jI x)), (3, .int (jI rt))] := hl
  have hok2 := hok
  obtain ⟨hLn, hwd, hwi, hwt⟩ := hok2
  refine lv_iload_n hx hb dX1_upTo_0 rfl (lv_at hl 2 rfl) ?_
  refine ji_if_lt (tgt := 16) hx hb dX1_upTo_1 (by decide) (by omega) (fun c_1 => ?_) (fun c_1 => ?_)
  · refine lv_bipush (v := jI (-6)) hx hb dX1_upTo_16 (by decide) ?_
    exact W.iret (v := jI (-6)) hx hb hr (fun t_ ht_ hW_ => ⟨⟨_, (n, wd, wi, wt, pts, pt, pl), rfl, ⟨(-6), rfl, ⟨_, _, _, rfl, rfl, Or.inl ⟨rfl, fun v hv => by obtain ⟨q1, v9, q2, q3, q4⟩ := hv; omega⟩⟩⟩, by rw [ht_]; exact hP, va_K.moved hW_.alike hK, hD⟩, hS.F ht_⟩) hS.2.2 dX1_upTo_18
  · refine lv_iload_n hx hb dX1_upTo_4 rfl (lv_at hl 2 rfl) ?_
    refine lv_iload_n hx hb dX1_upTo_5 rfl (lv_at hl 3 rfl) ?_
    refine lv_aload_n hx hb dX1_upTo_6 rfl (lv_at hl 0 rfl) ?_
    refine va_get (D := (dC, dI)) (ci := 0) (v := .ref a1) (C := RX1) (T := TX1) (N := 8) hx hb hts in_X1 hown hK hP 0 rfl rfl 2 (by decide) (hts _ q32) (fun _ h9 => h9) rfl dX1_upTo_7 ?_
    refine lv_iload_n hx hb dX1_upTo_10 rfl (lv_at hl 1 rfl) ?_
    refine ji_ld (f := wd) (n := 10) (cA := d) hx hb hK hP 1 0 rfl rfl (by omega) (by decide) dX1_upTo_11 ?_
    have f_2 := hwd cl (by omega) (by omega)
    refine ji_sub hx hb dX1_upTo_12 ?_
    refine ji_icmp_le (tgt := 19) hx hb dX1_upTo_13 (by decide) (by omega) (by omega) (fun c_3 => ?_) (fun c_3 => ?_)
    · refine lv_aload_n hx hb dX1_upTo_19 rfl (lv_at hl 0 rfl) ?_
      refine ji_const hx hb dX1_upTo_20 ?_
      refine lv_iload_n hx hb dX1_upTo_21 rfl (lv_at hl 1 rfl) ?_
      refine ji_const hx hb dX1_upTo_22 ?_
      refine lv_iload_n hx hb dX1_upTo_23 rfl (lv_at hl 2 rfl) ?_
      have hFc := va_free (wc := (wX d h a1 a2 a3 a4 a5 L n wd wi wt pts pt pl)) hD hS hA [0, 1, 2, 3, 4, 5] rfl
      refine va_calli (va_runV (As := [.int (jI 0), .int (jI cl), .int (jI 0), .int (jI x)]) (rest := []) ⟨hx, hb, hml, hown, hts⟩ (metX1_partCost l dC dI d h a1 a2 a3 a4 a5 L n wd wi wt pts pt pl s.heap.size 0 cl 0 x hok (by omega) (by omega)) (cwV 4 hts (lw_V q84 q86 qs1 q20 q87) rfl rfl rfl (by decide +kernel) ⟨Nat.le_of_ble_eq_true rfl, Nat.le_of_ble_eq_true rfl⟩) ⟨zPw_bl, va_recv hK hP (ci := 0) (q0 := 0) rfl rfl, fun U hU hW => ⟨rfl, by rw [hU], by rw [hU]; exact hP, va_K.moved hW.alike hK, hD.weaken (fun _ _ _ _ => trivial)⟩⟩ rfl rfl hl.1 rfl (lv_room (Nat.le_of_ble_eq_true rfl)) dX1_upTo_24 ⟨Nat.le_of_ble_eq_true rfl, Nat.le_of_ble_eq_true rfl⟩) hS (fun q _ h => hFc q h) hFc (fun r_ u_ t_ H locs ht_ hvm_ hw_ hB_ hz_ hk_ hS => ?_)
      obtain ⟨zp, rfl, ptszp, ptzp, plzp, rfl, hzp⟩ := hw_
      obtain ⟨hP, -, hD1_⟩ := hB_
      rw [ht_] at hP
      have hP : va_P (dC, dI) vwCl (wX d h a1 a2 a3 a4 a5 L n wd wi wt ptszp ptzp plzp) H := hP
      have hD : va_D A (wX d h a1 a2 a3 a4 a5 L n wd wi wt ptszp ptzp plzp) := hD1_.weaken (fun _ q _ h => hFc q.1 h)
      clear hD1_ hz_ hk_ hFc ht_ hvm_
      obtain ⟨ep, hRp⟩ := hzp
      have hbdp := Res_bd hRp (fun v hv => Fi_bd hok (a := 0) (b := cl) (lf := 0) (rt := x) (by omega) (by omega) (by omega) hv)
      rw [ep] at hP hD
      have hP : va_P (dC, dI) vwCl (wX d h a1 a2 a3 a4 a5 L n wd wi wt ptszp ptzp pl) H := hP
      have hD : va_D A (wX d h a1 a2 a3 a4 a5 L n wd wi wt ptszp ptzp pl) := hD
      refine lv_istore (lv' := [(4, .int (jI zp)), (0, .ref h), (1, .int (jI cl)), (2, .int (jI x)), (3, .int (jI rt))]) hx hb dX1_upTo_27 hl (by decide) rfl (fun ls hl => ?_)
      refine lv_iload hx hb dX1_upTo_29 (lv_at hl 0 rfl) ?_
      refine lv_bipush (v := jI (-6)) hx hb dX1_upTo_31 (by decide) ?_
      refine ji_icmp_ne (tgt := 41) hx hb dX1_upTo_33 (by decide) (by omega) (by omega) (fun cz => ?_) (fun cz => ?_)
      · refine lv_iload hx hb dX1_upTo_41 (lv_at hl 0 rfl) ?_
        refine lv_aload_n hx hb dX1_upTo_43 rfl (lv_at hl 1 rfl) ?_
        refine va_get (D := (dC, dI)) (ci := 0) (v := .ref a3) (C := RX1) (T := TX1) (N := 8) hx hb hts in_X1 hown hK hP 0 rfl rfl 4 (by decide) (hts _ q34) (fun _ h9 => h9) rfl dX1_upTo_44 ?_
        refine lv_iload_n hx hb dX1_upTo_47 rfl (lv_at hl 2 rfl) ?_
        refine ji_ld (f := wt) (n := 10) (cA := d) hx hb hK hP 3 0 rfl rfl (by omega) (by decide) dX1_upTo_48 ?_
        have f_4 := hwt cl (by omega) (by omega)
        refine lv_iload_n hx hb dX1_upTo_49 rfl (lv_at hl 3 rfl) ?_
        refine lv_aload_n hx hb dX1_upTo_50 rfl (lv_at hl 1 rfl) ?_
        refine va_get (D := (dC, dI)) (ci := 0) (v := .ref a2) (C := RX1) (T := TX1) (N := 8) hx hb hts in_X1 hown hK hP 0 rfl rfl 3 (by decide) (hts _ q33) (fun _ h9 => h9) rfl dX1_upTo_51 ?_
        refine lv_iload_n hx hb dX1_upTo_54 rfl (lv_at hl 2 rfl) ?_
        refine ji_ld (f := wi) (n := 10) (cA := d) hx hb hK hP 2 0 rfl rfl (by omega) (by decide) dX1_upTo_55 ?_
        have f_5 := hwi cl (by omega) (by omega)
        refine vp_callSi (W.runS (As := [.int (jI x), .int (jI (wi cl))]) (rest := [.int (jI (wt cl)), .int (jI zp)]) ⟨hx, hb, hml, hown, hts⟩ (metX1_distance l x (wi cl) (by omega) (by omega)) (va_cwS 2 hts (lw_S q92 q93 q20 q94) rfl rfl rfl (by decide +kernel) ⟨Nat.le_of_ble_eq_true rfl, Nat.le_of_ble_eq_true rfl⟩) ⟨fun _ _ _ _ q => q, fun _ _ _ => ⟨rfl, trivial⟩⟩ rfl rfl hl.1 rfl (lv_room (Nat.le_of_ble_eq_true rfl)) dX1_upTo_56 ⟨Nat.le_of_ble_eq_true rfl, Nat.le_of_ble_eq_true rfl⟩) (fun r_ hr_ => ?_)
        obtain ⟨zd, rfl, hzd⟩ := hr_
        refine ji_mul hx hb dX1_upTo_59 ?_
        refine ji_add hx hb dX1_upTo_60 ?_
        exact W.iret (v := jI (zp + ((wt cl) * zd))) hx hb hr (fun t_ ht_ hW_ => ⟨⟨_, (n, wd, wi, wt, ptszp, ptzp, pl), rfl, ⟨zp + ((wt cl) * zd), rfl, ⟨_, _, _, rfl, rfl, by first | exact Upx_none (hbdp.2.2.1 cz) | (rw [hzd]; exact Upx_of (hbdp.2.2.2 cz).1 (by omega) (by omega))⟩⟩, by rw [ht_]; exact hP, va_K.moved hW_.alike hK, hD⟩, hS.F ht_⟩) hS.2.2 dX1_upTo_61
      · refine lv_bipush (v := jI (-6)) hx hb dX1_upTo_36 (by decide) ?_
        refine lv_goto (tgt := 61) hx hb dX1_upTo_38 (by decide) ?_
        exact W.iret (v := jI (-6)) hx hb hr (fun t_ ht_ hW_ => ⟨⟨_, (n, wd, wi, wt, ptszp, ptzp, pl), rfl, ⟨(-6), rfl, ⟨_, _, _, rfl, rfl, by first | exact Upx_none (hbdp.2.2.1 cz) | (rw [hzd]; exact Upx_of (hbdp.2.2.2 cz).1 (by omega) (by omega))⟩⟩, by rw [ht_]; exact hP, va_K.moved hW_.alike hK, hD⟩, hS.F ht_⟩) hS.2.2 dX1_upTo_61
    · refine lv_bipush (v := jI (-6)) hx hb dX1_upTo_16 (by decide) ?_
      exact W.iret (v := jI (-6)) hx hb hr (fun t_ ht_ hW_ => ⟨⟨_, (n, wd, wi, wt, pts, pt, pl), rfl, ⟨(-6), rfl, ⟨_, _, _, rfl, rfl, Or.inl ⟨rfl, fun v hv => by obtain ⟨q1, v9, q2, q3, q4⟩ := hv; omega⟩⟩⟩, by rw [ht_]; exact hP, va_K.moved hW_.alike hK, hD⟩, hS.F ht_⟩) hS.2.2 dX1_upTo_18
set_option maxHeartbeats 4000000 in
set_option maxRecDepth 100000 in
theorem metX1_bestUpTo (l : Launch) (dC : Nat → ClassId) (dI : Nat → Nat → Nat) (d : ClassId) (h a1 a2 a3 a4 a5 : Nat) (L : Int) (n : Int) (wd : Int → Int) (wi : Int → Int) (wt : Int → Int) (pts : Int) (pt : Int → Int) (pl : Int → Int) (sz : Nat) (cl : Int) (rt : Int) (hok : Ok L n wd wi wt) (hc : 0 ≤ cl ∧ cl < n) (hr1 : 0 ≤ rt ∧ rt ≤ 60) : Met l yX1_bestUpTo (ws_ yX1_bestUpTo cX1_bestUpTo 3 (some .int)) ({ frames := 3, cells := 0, slots := 0, locals := 75 }) (zPw dC dI (wX d h a1 a2 a3 a4 a5 L n wd wi wt pts pt pl) d sz [.ref h, .int (jI cl), .int (jI rt)]) (wXQi dC dI d h a1 a2 a3 a4 a5 L (va_A (wX d h a1 a2 a3 a4 a5 L n wd wi wt pts pt pl) sz) (fun z u => ∃ pts1 pt1 pl1, u = (n, wd, wi, wt, pts1, pt1, pl1) ∧ pl1 = pl ∧ Res (Fi wd wi wt 0 (cl + 1) 0 rt) z)) 0 0 (va_A (wX d h a1 a2 a3 a4 a5 L n wd wi wt pts pt pl) sz) := by
  refine Met.ofW (cc := cX1_bestUpTo) (maxL := 3) (ret := (some .int)) (by decide) rfl ?_
  intro p e s m args below meth c s₁ B hml hv
  obtain ⟨rfl, hsz, hP, hK, hD0⟩ := hv
  have hx := B.exec
  have hb := B.bytes
  have hr := B.returns
  have hts := atoms_spec (ws := (ws_ yX1_bestUpTo cX1_bestUpTo 3 (some .int))) B.pre
  have hts : ∀ w ∈ lw_all, w.before _ s = true := fun w h => hts w (List.mem_cons_of_mem _ h)
  have hown : s.vm.findClass RX1 = some m.cls := findClass_of_methodNamed B.named
  have hlocks := B.notSynchronized
  subst hsz
  have hD := hD0.self (sz := s.heap.size)
  generalize hAe : va_A (wX d h a1 a2 a3 a4 a5 L n wd wi wt pts pt pl) s.heap.size = A at hD ⊢
  have hA : ∀ q : Nat, s.heap.size ≤ q → A q := fun q h => by rw [← hAe]; exact Or.inr h
  have hS : va_S A s.heap s.heap [] := va_S.rf
  have hl := lv_entry ([.ref h, .int (jI cl), .int (jI rt)]) (n := 3) (Nat.le_of_ble_eq_true rfl)
  rw [lg_entry_eq]
  generalize (lg_sl ([.ref h, .int (jI cl), .int (jI rt)]) ++ List.replicate (3 - (lg_sl ([.ref h, .int (jI cl), .int (jI rt)])).length) Slot.unset).toArray = ls at hl ⊢
  have hl : lv_has ls 3 [(0, .ref h), (1, .int (jI cl)), (2, .int (jI rt))] := hl
  have hok2 := hok
  obtain ⟨hLn, hwd, hwi, hwt⟩ := hok2
  refine lv_aload_n hx hb dX1_bestUpTo_0 rfl (lv_at hl 0 rfl) ?_
  refine ji_const hx hb dX1_bestUpTo_1 ?_
  refine lv_iload_n hx hb dX1_bestUpTo_2 rfl (lv_at hl 1 rfl) ?_
  refine ji_const hx hb dX1_bestUpTo_3 ?_
  refine ji_add hx hb dX1_bestUpTo_4 ?_
  refine ji_const hx hb dX1_bestUpTo_5 ?_
  refine lv_iload_n hx hb dX1_bestUpTo_6 rfl (lv_at hl 2 rfl) ?_
  have hFc := va_free (wc := (wX d h a1 a2 a3 a4 a5 L n wd wi wt pts pt pl)) hD hS hA [0, 1, 2, 3, 4, 5] rfl
  refine va_calli (va_runV (As := [.int (jI 0), .int (jI (cl + 1)), .int (jI 0), .int (jI rt)]) (rest := []) ⟨hx, hb, hml, hown, hts⟩ (metX1_partCost l dC dI d h a1 a2 a3 a4 a5 L n wd wi wt pts pt pl s.heap.size 0 (cl + 1) 0 rt hok (by omega) (by omega)) (cwV 4 hts (lw_V q84 q86 qs1 q20 q87) rfl rfl rfl (by decide +kernel) ⟨Nat.le_of_ble_eq_true rfl, Nat.le_of_ble_eq_true rfl⟩) ⟨zPw_bl, va_recv hK hP (ci := 0) (q0 := 0) rfl rfl, fun U hU hW => ⟨rfl, by rw [hU], by rw [hU]; exact hP, va_K.moved hW.alike hK, hD.weaken (fun _ _ _ _ => trivial)⟩⟩ rfl rfl hl.1 rfl (lv_room (Nat.le_of_ble_eq_true rfl)) dX1_bestUpTo_7 ⟨Nat.le_of_ble_eq_true rfl, Nat.le_of_ble_eq_true rfl⟩) hS (fun q _ h => hFc q h) hFc (fun r_ u_ t_ H locs ht_ hvm_ hw_ hB_ hz_ hk_ hS => ?_)
  obtain ⟨zp, rfl, ptszp, ptzp, plzp, rfl, hzp⟩ := hw_
  obtain ⟨hP, -, hD1_⟩ := hB_
  rw [ht_] at hP
  have hP : va_P (dC, dI) vwCl (wX d h a1 a2 a3 a4 a5 L n wd wi wt ptszp ptzp plzp) H := hP
  have hD : va_D A (wX d h a1 a2 a3 a4 a5 L n wd wi wt ptszp ptzp plzp) := hD1_.weaken (fun _ q _ h => hFc q.1 h)
  clear hD1_ hz_ hk_ hFc ht_ hvm_
  obtain ⟨ep, hRp⟩ := hzp
  rw [ep] at hP hD
  have hP : va_P (dC, dI) vwCl (wX d h a1 a2 a3 a4 a5 L n wd wi wt ptszp ptzp pl) H := hP
  have hD : va_D A (wX d h a1 a2 a3 a4 a5 L n wd wi wt ptszp ptzp pl) := hD
  exact W.iret (v := jI zp) hx hb hr (fun t_ ht_ hW_ => ⟨⟨_, (n, wd, wi, wt, ptszp, ptzp, pl), rfl, ⟨zp, rfl, ⟨_, _, _, rfl, rfl, hRp⟩⟩, by rw [ht_]; exact hP, va_K.moved hW_.alike hK, hD⟩, hS.F ht_⟩) hS.2.2 dX1_bestUpTo_10
set_option maxHeartbeats 4000000 in
set_option maxRecDepth 100000 in
theorem metX1_cost (l : Launch) (dC : Nat → ClassId) (dI : Nat → Nat → Nat) (d : ClassId) (h a1 a2 a3 a4 a5 : Nat) (L : Int) (n : Int) (wd : Int → Int) (wi : Int → Int) (wt : Int → Int) (pts : Int) (pt : Int → Int) (pl : Int → Int) (sz : Nat) (hok : Ok L n wd wi wt) : Met l yX1_cost (ws_ yX1_cost cX1_cost 1 (some .int)) ({ frames := 3, cells := 0, slots := 0, locals := 75 }) (zPw dC dI (wX d h a1 a2 a3 a4 a5 L n wd wi wt pts pt pl) d sz [.ref h]) (wXQi dC dI d h a1 a2 a3 a4 a5 L (va_A (wX d h a1 a2 a3 a4 a5 L n wd wi wt pts pt pl) sz) (fun z u => ∃ pts1 pt1 pl1, u = (n, wd, wi, wt, pts1, pt1, pl1) ∧ pl1 = pl ∧ Res (Fi wd wi wt 0 n 0 L) z)) 0 0 (va_A (wX d h a1 a2 a3 a4 a5 L n wd wi wt pts pt pl) sz) := by
  refine Met.ofW (cc := cX1_cost) (maxL := 1) (ret := (some .int)) (by decide) rfl ?_
  intro p e s m args below meth c s₁ B hml hv
  obtain ⟨rfl, hsz, hP, hK, hD0⟩ := hv
  have hx := B.exec
  have hb := B.bytes
  have hr := B.returns
  have hts := atoms_spec (ws := (ws_ yX1_cost cX1_cost 1 (some .int))) B.pre
  have hts : ∀ w ∈ lw_all, w.before _ s = true := fun w h => hts w (List.mem_cons_of_mem _ h)
  have hown : s.vm.findClass RX1 = some m.cls := findClass_of_methodNamed B.named
  have hlocks := B.notSynchronized
  subst hsz
  have hD := hD0.self (sz := s.heap.size)
  generalize hAe : va_A (wX d h a1 a2 a3 a4 a5 L n wd wi wt pts pt pl) s.heap.size = A at hD ⊢
  have hA : ∀ q : Nat, s.heap.size ≤ q → A q := fun q h => by rw [← hAe]; exact Or.inr h
  have hS : va_S A s.heap s.heap [] := va_S.rf
  have hl := lv_entry ([.ref h]) (n := 1) (Nat.le_of_ble_eq_true rfl)
  rw [lg_entry_eq]
  generalize (lg_sl ([.ref h]) ++ List.replicate (1 - (lg_sl ([.ref h])).length) Slot.unset).toArray = ls at hl ⊢
  have hl : lv_has ls 1 [(0, .ref h)] := hl
  have hok2 := hok
  obtain ⟨hLn, hwd, hwi, hwt⟩ := hok2
  refine lv_aload_n hx hb dX1_cost_0 rfl (lv_at hl 0 rfl) ?_
  refine ji_const hx hb dX1_cost_1 ?_
  refine lv_aload_n hx hb dX1_cost_2 rfl (lv_at hl 0 rfl) ?_
  refine va_get (D := (dC, dI)) (ci := 0) (v := .int (jI n)) (C := RX1) (T := TX1) (N := 8) hx hb hts in_X1 hown hK hP 0 rfl rfl 1 (by decide) (hts _ q31) (fun _ h9 => h9) rfl dX1_cost_3 ?_
  refine ji_const hx hb dX1_cost_6 ?_
  refine lv_aload_n hx hb dX1_cost_7 rfl (lv_at hl 0 rfl) ?_
  refine va_get (D := (dC, dI)) (ci := 0) (v := .int (jI L)) (C := RX1) (T := TX1) (N := 8) hx hb hts in_X1 hown hK hP 0 rfl rfl 0 (by decide) (hts _ q30) (fun _ h9 => h9) rfl dX1_cost_8 ?_
  have hFc := va_free (wc := (wX d h a1 a2 a3 a4 a5 L n wd wi wt pts pt pl)) hD hS hA [0, 1, 2, 3, 4, 5] rfl
  refine va_calli (va_runV (As := [.int (jI 0), .int (jI n), .int (jI 0), .int (jI L)]) (rest := []) ⟨hx, hb, hml, hown, hts⟩ (metX1_partCost l dC dI d h a1 a2 a3 a4 a5 L n wd wi wt pts pt pl s.heap.size 0 n 0 L hok (by omega) (by omega)) (cwV 4 hts (lw_V q84 q86 qs1 q20 q87) rfl rfl rfl (by decide +kernel) ⟨Nat.le_of_ble_eq_true rfl, Nat.le_of_ble_eq_true rfl⟩) ⟨zPw_bl, va_recv hK hP (ci := 0) (q0 := 0) rfl rfl, fun U hU hW => ⟨rfl, by rw [hU], by rw [hU]; exact hP, va_K.moved hW.alike hK, hD.weaken (fun _ _ _ _ => trivial)⟩⟩ rfl rfl hl.1 rfl (lv_room (Nat.le_of_ble_eq_true rfl)) dX1_cost_11 ⟨Nat.le_of_ble_eq_true rfl, Nat.le_of_ble_eq_true rfl⟩) hS (fun q _ h => hFc q h) hFc (fun r_ u_ t_ H locs ht_ hvm_ hw_ hB_ hz_ hk_ hS => ?_)
  obtain ⟨zp, rfl, ptszp, ptzp, plzp, rfl, hzp⟩ := hw_
  obtain ⟨hP, -, hD1_⟩ := hB_
  rw [ht_] at hP
  have hP : va_P (dC, dI) vwCl (wX d h a1 a2 a3 a4 a5 L n wd wi wt ptszp ptzp plzp) H := hP
  have hD : va_D A (wX d h a1 a2 a3 a4 a5 L n wd wi wt ptszp ptzp plzp) := hD1_.weaken (fun _ q _ h => hFc q.1 h)
  clear hD1_ hz_ hk_ hFc ht_ hvm_
  obtain ⟨ep, hRp⟩ := hzp
  rw [ep] at hP hD
  have hP : va_P (dC, dI) vwCl (wX d h a1 a2 a3 a4 a5 L n wd wi wt ptszp ptzp pl) H := hP
  have hD : va_D A (wX d h a1 a2 a3 a4 a5 L n wd wi wt ptszp ptzp pl) := hD
  exact W.iret (v := jI zp) hx hb hr (fun t_ ht_ hW_ => ⟨⟨_, (n, wd, wi, wt, ptszp, ptzp, pl), rfl, ⟨zp, rfl, ⟨_, _, _, rfl, rfl, hRp⟩⟩, by rw [ht_]; exact hP, va_K.moved hW_.alike hK, hD⟩, hS.F ht_⟩) hS.2.2 dX1_cost_14
set_option maxHeartbeats 4000000 in
set_option maxRecDepth 100000 in
theorem metX1_costOf (l : Launch) (dC : Nat → ClassId) (dI : Nat → Nat → Nat) (d : ClassId) (h a1 a2 a3 a4 a5 : Nat) (L : Int) (n : Int) (wd : Int → Int) (wi : Int → Int) (wt : Int → Int) (pts : Int) (pt : Int → Int) (pl : Int → Int) (sz : Nat) (x : Int) (hok : Ok L n wd wi wt) (hx1 : -2147483648 ≤ x ∧ x < 2147483648) : Met l yX1_costOf (ws_ yX1_costOf cX1_costOf 2 (some .int)) ({ frames := 3, cells := 0, slots := 0, locals := 75 }) (zPw dC dI (wX d h a1 a2 a3 a4 a5 L n wd wi wt pts pt pl) d sz [.ref h, .int (jI x)]) (wXQi dC dI d h a1 a2 a3 a4 a5 L (va_A (wX d h a1 a2 a3 a4 a5 L n wd wi wt pts pt pl) sz) (fun z u => ∃ pts1 pt1 pl1, u = (n, wd, wi, wt, pts1, pt1, pl1) ∧ (((x < 0 ∨ n < x) ∧ z = -4) ∨ (0 ≤ x ∧ x ≤ n ∧ Res (Fi wd wi wt 0 x 0 L) z)))) 0 0 (va_A (wX d h a1 a2 a3 a4 a5 L n wd wi wt pts pt pl) sz) := by
  refine Met.ofW (cc := cX1_costOf) (maxL := 2) (ret := (some .int)) (by decide) rfl ?_
  intro p e s m args below meth c s₁ B hml hv
  obtain ⟨rfl, hsz, hP, hK, hD0⟩ := hv
  have hx := B.exec
  have hb := B.bytes
  have hr := B.returns
  have hts := atoms_spec (ws := (ws_ yX1_costOf cX1_costOf 2 (some .int))) B.pre
  have hts : ∀ w ∈ lw_all, w.before _ s = true := fun w h => hts w (List.mem_cons_of_mem _ h)
  have hown : s.vm.findClass RX1 = some m.cls := findClass_of_methodNamed B.named
  have hlocks := B.notSynchronized
  subst hsz
  have hD := hD0.self (sz := s.heap.size)
  generalize hAe : va_A (wX d h a1 a2 a3 a4 a5 L n wd wi wt pts pt pl) s.heap.size = A at hD ⊢
  have hA : ∀ q : Nat, s.heap.size ≤ q → A q := fun q h => by rw [← hAe]; exact Or.inr h
  have hS : va_S A s.heap s.heap [] := va_S.rf
  have hl := lv_entry ([.ref h, .int (jI x)]) (n := 2) (Nat.le_of_ble_eq_true rfl)
  rw [lg_entry_eq]
  generalize (lg_sl ([.ref h, .int (jI x)]) ++ List.replicate (2 - (lg_sl ([.ref h, .int (jI x)])).length) Slot.unset).toArray = ls at hl ⊢
  have hl : lv_has ls 2 [(0, .ref h), (1, .int (jI x))] := hl
  have hok2 := hok
  obtain ⟨hLn, hwd, hwi, hwt⟩ := hok2
  refine lv_iload_n hx hb dX1_costOf_0 rfl (lv_at hl 1 rfl) ?_
  refine ji_if_lt (tgt := 12) hx hb dX1_costOf_1 (by decide) (by omega) (fun c_1 => ?_) (fun c_1 => ?_)
  · refine lv_bipush (v := jI (-4)) hx hb dX1_costOf_12 (by decide) ?_
    exact W.iret (v := jI (-4)) hx hb hr (fun t_ ht_ hW_ => ⟨⟨_, (n, wd, wi, wt, pts, pt, pl), rfl, ⟨(-4), rfl, ⟨_, _, _, rfl, Or.inl (by omega)⟩⟩, by rw [ht_]; exact hP, va_K.moved hW_.alike hK, hD⟩, hS.F ht_⟩) hS.2.2 dX1_costOf_14
  · refine lv_iload_n hx hb dX1_costOf_4 rfl (lv_at hl 1 rfl) ?_
    refine lv_aload_n hx hb dX1_costOf_5 rfl (lv_at hl 0 rfl) ?_
    refine va_get (D := (dC, dI)) (ci := 0) (v := .int (jI n)) (C := RX1) (T := TX1) (N := 8) hx hb hts in_X1 hown hK hP 0 rfl rfl 1 (by decide) (hts _ q31) (fun _ h9 => h9) rfl dX1_costOf_6 ?_
    refine ji_icmp_le (tgt := 15) hx hb dX1_costOf_9 (by decide) (by omega) (by omega) (fun c_2 => ?_) (fun c_2 => ?_)
    · refine lv_aload_n hx hb dX1_costOf_15 rfl (lv_at hl 0 rfl) ?_
      refine ji_const hx hb dX1_costOf_16 ?_
      refine lv_iload_n hx hb dX1_costOf_17 rfl (lv_at hl 1 rfl) ?_
      refine ji_const hx hb dX1_costOf_18 ?_
      refine lv_aload_n hx hb dX1_costOf_19 rfl (lv_at hl 0 rfl) ?_
      refine va_get (D := (dC, dI)) (ci := 0) (v := .int (jI L)) (C := RX1) (T := TX1) (N := 8) hx hb hts in_X1 hown hK hP 0 rfl rfl 0 (by decide) (hts _ q30) (fun _ h9 => h9) rfl dX1_costOf_20 ?_
      have hFc := va_free (wc := (wX d h a1 a2 a3 a4 a5 L n wd wi wt pts pt pl)) hD hS hA [0, 1, 2, 3, 4, 5] rfl
      refine va_calli (va_runV (As := [.int (jI 0), .int (jI x), .int (jI 0), .int (jI L)]) (rest := []) ⟨hx, hb, hml, hown, hts⟩ (metX1_partCost l dC dI d h a1 a2 a3 a4 a5 L n wd wi wt pts pt pl s.heap.size 0 x 0 L hok (by omega) (by omega)) (cwV 4 hts (lw_V q84 q86 qs1 q20 q87) rfl rfl rfl (by decide +kernel) ⟨Nat.le_of_ble_eq_true rfl, Nat.le_of_ble_eq_true rfl⟩) ⟨zPw_bl, va_recv hK hP (ci := 0) (q0 := 0) rfl rfl, fun U hU hW => ⟨rfl, by rw [hU], by rw [hU]; exact hP, va_K.moved hW.alike hK, hD.weaken (fun _ _ _ _ => trivial)⟩⟩ rfl rfl hl.1 rfl (lv_room (Nat.le_of_ble_eq_true rfl)) dX1_costOf_23 ⟨Nat.le_of_ble_eq_true rfl, Nat.le_of_ble_eq_true rfl⟩) hS (fun q _ h => hFc q h) hFc (fun r_ u_ t_ H locs ht_ hvm_ hw_ hB_ hz_ hk_ hS => ?_)
      obtain ⟨zp, rfl, ptszp, ptzp, plzp, rfl, hzp⟩ := hw_
      obtain ⟨hP, -, hD1_⟩ := hB_
      rw [ht_] at hP
      have hP : va_P (dC, dI) vwCl (wX d h a1 a2 a3 a4 a5 L n wd wi wt ptszp ptzp plzp) H := hP
      have hD : va_D A (wX d h a1 a2 a3 a4 a5 L n wd wi wt ptszp ptzp plzp) := hD1_.weaken (fun _ q _ h => hFc q.1 h)
      clear hD1_ hz_ hk_ hFc ht_ hvm_
      obtain ⟨ep, hRp⟩ := hzp
      rw [ep] at hP hD
      have hP : va_P (dC, dI) vwCl (wX d h a1 a2 a3 a4 a5 L n wd wi wt ptszp ptzp pl) H := hP
      have hD : va_D A (wX d h a1 a2 a3 a4 a5 L n wd wi wt ptszp ptzp pl) := hD
      exact W.iret (v := jI zp) hx hb hr (fun t_ ht_ hW_ => ⟨⟨_, (n, wd, wi, wt, ptszp, ptzp, pl), rfl, ⟨zp, rfl, ⟨_, _, _, rfl, Or.inr ⟨by omega, by omega, hRp⟩⟩⟩, by rw [ht_]; exact hP, va_K.moved hW_.alike hK, hD⟩, hS.F ht_⟩) hS.2.2 dX1_costOf_26
    · refine lv_bipush (v := jI (-4)) hx hb dX1_costOf_12 (by decide) ?_
      exact W.iret (v := jI (-4)) hx hb hr (fun t_ ht_ hW_ => ⟨⟨_, (n, wd, wi, wt, pts, pt, pl), rfl, ⟨(-4), rfl, ⟨_, _, _, rfl, Or.inl (by omega)⟩⟩, by rw [ht_]; exact hP, va_K.moved hW_.alike hK, hD⟩, hS.F ht_⟩) hS.2.2 dX1_costOf_14
end
section
theorem Cat_of {wd wi wt : Int → Int} {n L x y a b : Int} (h1 : Lst (Upx wd wi wt x y L) a) (h2 : Lst (Fi wd wi wt (x + 1) n (y + wd x) L) b) : Res (Cat wd wi wt n L x y) (a + b) := by
  refine Or.inr ⟨⟨a, b, h1.1, h2.1, rfl⟩, fun v hv => ?_⟩
  obtain ⟨v1, v2, q1, q2, rfl⟩ := hv
  have e1 := h1.2 v1 q1
  have e2 := h2.2 v2 q2
  omega
set_option maxHeartbeats 4000000 in
set_option maxRecDepth 100000 in
theorem metX1_findPlaces (l : Launch) (dC : Nat → ClassId) (dI : Nat → Nat → Nat) (d : ClassId) (h a1 a2 a3 a4 a5 : Nat) (L : Int) (n : Int) (wd : Int → Int) (wi : Int → Int) (wt : Int → Int) (pts : Int) (pt : Int → Int) (pl : Int → Int) (sz : Nat) (hok : Ok L n wd wi wt) (hfe : ∃ v, Fi wd wi wt 0 n 0 L v) : Met l yX1_findPlaces (ws_ yX1_findPlaces cX1_findPlaces 5 none) ({ frames := 4, cells := 0, slots := 0, locals := 99 }) (zPw dC dI (wX d h a1 a2 a3 a4 a5 L n wd wi wt pts pt pl) d sz [.ref h]) (wXQv dC dI d h a1 a2 a3 a4 a5 L (va_A (wX d h a1 a2 a3 a4 a5 L n wd wi wt pts pt pl) sz) (fun u => ∃ pts1 pt1 pl1, u = (n, wd, wi, wt, pts1, pt1, pl1) ∧ Plc wd wi wt n L 0 pl1)) 0 0 (va_A (wX d h a1 a2 a3 a4 a5 L n wd wi wt pts pt pl) sz) := by
  refine Met.ofW (cc := cX1_findPlaces) (maxL := 5) (ret := none) (by decide) rfl ?_
  intro p e s m args below meth c s₁ B hml hv
  obtain ⟨rfl, hsz, hP, hK, hD0⟩ := hv
  have hx := B.exec
  have hb := B.bytes
  have hr := B.returns
  have hts := atoms_spec (ws := (ws_ yX1_findPlaces cX1_findPlaces 5 none)) B.pre
  have hts : ∀ w ∈ lw_all, w.before _ s = true := fun w h => hts w (List.mem_cons_of_mem _ h)
  have hown : s.vm.findClass RX1 = some m.cls := findClass_of_methodNamed B.named
  have hlocks := B.notSynchronized
  subst hsz
  have hD := hD0.self (sz := s.heap.size)
  generalize hAe : va_A (wX d h a1 a2 a3 a4 a5 L n wd wi wt pts pt pl) s.heap.size = A at hD ⊢
  have hA : ∀ q : Nat, s.heap.size ≤ q → A q := fun q h => by rw [← hAe]; exact Or.inr h
  have hS : va_S A s.heap s.heap [] := va_S.rf
  have hl := lv_entry ([.ref h]) (n := 5) (Nat.le_of_ble_eq_true rfl)
  rw [lg_entry_eq]
  generalize (lg_sl ([.ref h]) ++ List.replicate (5 - (lg_sl ([.ref h])).length) Slot.unset).toArray = ls at hl ⊢
  have hl : lv_has ls 5 [(0, .ref h)] := hl
  have hok2 := hok
  obtain ⟨hLn, hwd, hwi, hwt⟩ := hok2
  refine lv_aload_n hx hb dX1_findPlaces_0 rfl (lv_at hl 0 rfl) ?_
  refine va_get (D := (dC, dI)) (ci := 0) (v := .int (jI L)) (C := RX1) (T := TX1) (N := 8) hx hb hts in_X1 hown hK hP 0 rfl rfl 0 (by decide) (hts _ q30) (fun _ h9 => h9) rfl dX1_findPlaces_1 ?_
  refine lv_istore_n (lv' := [(1, .int (jI L)), (0, .ref h)]) hx hb dX1_findPlaces_4 rfl hl (by decide) rfl (fun ls hl => ?_)
  refine lv_aload_n hx hb dX1_findPlaces_5 rfl (lv_at hl 1 rfl) ?_
  refine va_get (D := (dC, dI)) (ci := 0) (v := .int (jI n)) (C := RX1) (T := TX1) (N := 8) hx hb hts in_X1 hown hK hP 0 rfl rfl 1 (by decide) (hts _ q31) (fun _ h9 => h9) rfl dX1_findPlaces_6 ?_
  refine ji_const hx hb dX1_findPlaces_9 ?_
  refine ji_sub hx hb dX1_findPlaces_10 ?_
  refine lv_istore_n (lv' := [(2, .int (jI (n - 1))), (1, .int (jI L)), (0, .ref h)]) hx hb dX1_findPlaces_11 rfl hl (by decide) rfl (fun ls hl => ?_)
  have lo1 : ∀ (n_ : Nat) (rt : Int) (k : Int) (ps : Int) (g : Int → Int) (q : Int → Int) (hk : -1 ≤ k ∧ k < n) (hrt : 0 ≤ rt ∧ rt ≤ L) (hfk : ∃ v, Fi wd wi wt 0 (k + 1) 0 rt v) (hnx : rt = nx n L q k) (hpl : Plc wd wi wt n L (k + 1) q) (hm_ : (k + 1).toNat < n_) (H : Heap) (locs : List Loc) (hP : va_P (dC, dI) vwCl (wX d h a1 a2 a3 a4 a5 L n wd wi wt ps g q) H) (hD : va_D A (wX d h a1 a2 a3 a4 a5 L n wd wi wt ps g q)) (hS : va_S A s.heap H locs) (ls : Array Slot) (hl : lv_has ls 5 [(0, .ref h), (1, .int (jI rt)), (2, .int (jI k))]), W p l e (headSpec (ws_ yX1_findPlaces cX1_findPlaces 5 none) ({ frames := 4, cells := 0, slots := 0, locals := 99 })).room s m ([.ref h] : List Value).toArray below meth c H locs 0 0 (MQ below (wXQv dC dI d h a1 a2 a3 a4 a5 L A (fun u => ∃ pts1 pt1 pl1, u = (n, wd, wi, wt, pts1, pt1, pl1) ∧ Plc wd wi wt n L 0 pl1)) ([.ref h] : List Value).toArray s 0 0 A) (F0 m 12 ls []) := by
    intro n_
    induction n_ with
    | zero => intro rt k ps g q hk hrt hfk hnx hpl hm_; exact absurd hm_ (by omega)
    | succ n_ ih_lo1 =>
      intro rt k ps g q hk hrt hfk hnx hpl hm_ H locs hP hD hS ls hl
      refine lv_iload_n hx hb dX1_findPlaces_12 rfl (lv_at hl 2 rfl) ?_
      refine ji_if_lt (tgt := 70) hx hb dX1_findPlaces_13 (by decide) (by omega) (fun c_1 => ?_) (fun c_1 => ?_)
      · exact W.vret hx hb hr (fun t_ ht_ hW_ => ⟨⟨(n, wd, wi, wt, ps, g, q), rfl, ⟨_, _, _, rfl, (show k + 1 = 0 by omega) ▸ hpl⟩, by rw [ht_]; exact hP, va_K.moved hW_.alike hK, hD⟩, hS.F ht_⟩) hS.2.2 dX1_findPlaces_70
      · refine lv_aload_n hx hb dX1_findPlaces_16 rfl (lv_at hl 0 rfl) ?_
        refine lv_iload_n hx hb dX1_findPlaces_17 rfl (lv_at hl 2 rfl) ?_
        refine lv_iload_n hx hb dX1_findPlaces_18 rfl (lv_at hl 1 rfl) ?_
        have hFc := va_free (wc := (wX d h a1 a2 a3 a4 a5 L n wd wi wt ps g q)) hD hS hA [0, 1, 2, 3, 4, 5] rfl
        refine va_calli (va_runV (As := [.int (jI k), .int (jI rt)]) (rest := []) ⟨hx, hb, hml, hown, hts⟩ (metX1_bestUpTo l dC dI d h a1 a2 a3 a4 a5 L n wd wi wt ps g q H.size k rt hok (by omega) (by omega)) (cwV 2 hts (lw_V q116 q118 qs6 q20 q119) rfl rfl rfl (by decide +kernel) ⟨Nat.le_of_ble_eq_true rfl, Nat.le_of_ble_eq_true rfl⟩) ⟨zPw_bl, va_recv hK hP (ci := 0) (q0 := 0) rfl rfl, fun U hU hW => ⟨rfl, by rw [hU], by rw [hU]; exact hP, va_K.moved hW.alike hK, hD.weaken (fun _ _ _ _ => trivial)⟩⟩ rfl rfl hl.1 rfl (lv_room (Nat.le_of_ble_eq_true rfl)) dX1_findPlaces_19 ⟨Nat.le_of_ble_eq_true rfl, Nat.le_of_ble_eq_true rfl⟩) hS (fun q _ h => hFc q h) hFc (fun r_ u_ t_ H locs ht_ hvm_ hw_ hB_ hz_ hk_ hS => ?_)
        obtain ⟨zb, rfl, ptszb, ptzb, plzb, rfl, hzb⟩ := hw_
        obtain ⟨hP, -, hD1_⟩ := hB_
        rw [ht_] at hP
        have hP : va_P (dC, dI) vwCl (wX d h a1 a2 a3 a4 a5 L n wd wi wt ptszb ptzb plzb) H := hP
        have hD : va_D A (wX d h a1 a2 a3 a4 a5 L n wd wi wt ptszb ptzb plzb) := hD1_.weaken (fun _ q _ h => hFc q.1 h)
        clear hD1_ hz_ hk_ hFc ht_ hvm_
        obtain ⟨eb, hRb⟩ := hzb
        have hLb : Lst (Fi wd wi wt 0 (k + 1) 0 rt) zb := by
          obtain ⟨v9, hv9⟩ := hfk
          rcases hRb with ⟨-, q9⟩ | q9
          · exact absurd hv9 (q9 v9)
          · exact q9
        have hb9 := Fi_bd hok (a := 0) (b := k + 1) (lf := 0) (rt := rt) (by omega) (by omega) (by omega) hLb.1
        have hsk := sWi_rng wd (a := 0) (b := k) (lo := 1) (hi := 5) (by omega) (fun j q1 q2 => hwd j (by omega) (by omega))
        have hwk := hwd k (by omega) (by omega)
        obtain ⟨xs, hxs0, hxs1, hxs2⟩ := Lm_ex (c := k) (by omega) (by omega) hLb
        rw [eb] at hP hD
        have hP : va_P (dC, dI) vwCl (wX d h a1 a2 a3 a4 a5 L n wd wi wt ptszb ptzb q) H := hP
        have hD : va_D A (wX d h a1 a2 a3 a4 a5 L n wd wi wt ptszb ptzb q) := hD
        refine lv_istore_n (lv' := [(3, .int (jI zb)), (0, .ref h), (1, .int (jI rt)), (2, .int (jI k))]) hx hb dX1_findPlaces_22 rfl hl (by decide) rfl (fun ls hl => ?_)
        refine ji_const hx hb dX1_findPlaces_23 ?_
        refine lv_istore (lv' := [(4, .int (jI 0)), (3, .int (jI zb)), (0, .ref h), (1, .int (jI rt)), (2, .int (jI k))]) hx hb dX1_findPlaces_24 hl (by decide) rfl (fun ls hl => ?_)
        have lo2 : ∀ (n_ : Nat) (x : Int) (ps2 : Int) (g2 : Int → Int) (hx2 : 0 ≤ x ∧ x ≤ L) (hno : ∀ x', 0 ≤ x' → x' < x → ¬ Res (Upx wd wi wt k x' rt) zb) (hm_ : (L - x).toNat < n_) (H : Heap) (locs : List Loc) (hP : va_P (dC, dI) vwCl (wX d h a1 a2 a3 a4 a5 L n wd wi wt ps2 g2 q) H) (hD : va_D A (wX d h a1 a2 a3 a4 a5 L n wd wi wt ps2 g2 q)) (hS : va_S A s.heap H locs) (ls : Array Slot) (hl : lv_has ls 5 [(0, .ref h), (1, .int (jI rt)), (2, .int (jI k)), (3, .int (jI zb)), (4, .int (jI x))]), W p l e (headSpec (ws_ yX1_findPlaces cX1_findPlaces 5 none) ({ frames := 4, cells := 0, slots := 0, locals := 99 })).room s m ([.ref h] : List Value).toArray below meth c H locs 0 0 (MQ below (wXQv dC dI d h a1 a2 a3 a4 a5 L A (fun u => ∃ pts1 pt1 pl1, u = (n, wd, wi, wt, pts1, pt1, pl1) ∧ Plc wd wi wt n L 0 pl1)) ([.ref h] : List Value).toArray s 0 0 A) (F0 m 26 ls []) := by
          intro n_
          induction n_ with
          | zero => intro x ps2 g2 hx2 hno hm_; exact absurd hm_ (by omega)
          | succ n_ ih_lo2 =>
            intro x ps2 g2 hx2 hno hm_ H locs hP hD hS ls hl
            have hxs3 : x ≤ xs := Int.not_lt.mp (fun q9 => hno xs hxs0 q9 hxs2)
            refine lv_iload hx hb dX1_findPlaces_26 (lv_at hl 4 rfl) ?_
            refine lv_aload_n hx hb dX1_findPlaces_28 rfl (lv_at hl 0 rfl) ?_
            refine va_get (D := (dC, dI)) (ci := 0) (v := .int (jI L)) (C := RX1) (T := TX1) (N := 8) hx hb hts in_X1 hown hK hP 0 rfl rfl 0 (by decide) (hts _ q30) (fun _ h9 => h9) rfl dX1_findPlaces_29 ?_
            refine ji_icmp_ge (tgt := 53) hx hb dX1_findPlaces_32 (by decide) (by omega) (by omega) (fun c_2 => absurd c_2 (by omega)) (fun c_2 => ?_)
            refine lv_aload_n hx hb dX1_findPlaces_35 rfl (lv_at hl 0 rfl) ?_
            refine lv_iload_n hx hb dX1_findPlaces_36 rfl (lv_at hl 2 rfl) ?_
            refine lv_iload hx hb dX1_findPlaces_37 (lv_at hl 4 rfl) ?_
            refine lv_iload_n hx hb dX1_findPlaces_39 rfl (lv_at hl 1 rfl) ?_
            have hFc := va_free (wc := (wX d h a1 a2 a3 a4 a5 L n wd wi wt ps2 g2 q)) hD hS hA [0, 1, 2, 3, 4, 5] rfl
            refine va_calli (va_runV (As := [.int (jI k), .int (jI x), .int (jI rt)]) (rest := []) ⟨hx, hb, hml, hown, hts⟩ (metX1_upTo l dC dI d h a1 a2 a3 a4 a5 L n wd wi wt ps2 g2 q H.size k x rt hok (by omega) (by omega) (by omega)) (cwV 3 hts (lw_V q120 q122 qs7 q20 q123) rfl rfl rfl (by decide +kernel) ⟨Nat.le_of_ble_eq_true rfl, Nat.le_of_ble_eq_true rfl⟩) ⟨zPw_bl, va_recv hK hP (ci := 0) (q0 := 0) rfl rfl, fun U hU hW => ⟨rfl, by rw [hU], by rw [hU]; exact hP, va_K.moved hW.alike hK, hD.weaken (fun _ _ _ _ => trivial)⟩⟩ rfl rfl hl.1 rfl (lv_room (Nat.le_of_ble_eq_true rfl)) dX1_findPlaces_40 ⟨Nat.le_of_ble_eq_true rfl, Nat.le_of_ble_eq_true rfl⟩) hS (fun q _ h => hFc q h) hFc (fun r_ u_ t_ H locs ht_ hvm_ hw_ hB_ hz_ hk_ hS => ?_)
            obtain ⟨zu, rfl, ptszu, ptzu, plzu, rfl, hzu⟩ := hw_
            obtain ⟨hP, -, hD1_⟩ := hB_
            rw [ht_] at hP
            have hP : va_P (dC, dI) vwCl (wX d h a1 a2 a3 a4 a5 L n wd wi wt ptszu ptzu plzu) H := hP
            have hD : va_D A (wX d h a1 a2 a3 a4 a5 L n wd wi wt ptszu ptzu plzu) := hD1_.weaken (fun _ q _ h => hFc q.1 h)
            clear hD1_ hz_ hk_ hFc ht_ hvm_
            obtain ⟨eu, hRu⟩ := hzu
            have hbu := Res_bd hRu (fun v hv => Upx_bd hok (by omega) (by omega) hv)
            rw [eu] at hP hD
            have hP : va_P (dC, dI) vwCl (wX d h a1 a2 a3 a4 a5 L n wd wi wt ptszu ptzu q) H := hP
            have hD : va_D A (wX d h a1 a2 a3 a4 a5 L n wd wi wt ptszu ptzu q) := hD
            refine lv_iload_n hx hb dX1_findPlaces_43 rfl (lv_at hl 3 rfl) ?_
            refine ji_icmp_eq (tgt := 53) hx hb dX1_findPlaces_44 (by decide) (by omega) (by omega) (fun ce => ?_) (fun ce => ?_)
            · refine lv_aload_n hx hb dX1_findPlaces_53 rfl (lv_at hl 0 rfl) ?_
              refine va_get (D := (dC, dI)) (ci := 0) (v := .ref a5) (C := RX1) (T := TX1) (N := 8) hx hb hts in_X1 hown hK hP 0 rfl rfl 7 (by decide) (hts _ q37) (fun _ h9 => h9) rfl dX1_findPlaces_54 ?_
              refine lv_iload_n hx hb dX1_findPlaces_57 rfl (lv_at hl 2 rfl) ?_
              refine lv_iload hx hb dX1_findPlaces_58 (lv_at hl 4 rfl) ?_
              refine ji_st (f := q) (n := 10) (cA := d) (i := k) (x := x) hx hb hK hP hD hS 5 0 rfl rfl (by omega) (by decide) dX1_findPlaces_60 (fun H locs hP hD hS => ?_)
              have hP : va_P (dC, dI) vwCl (wX d h a1 a2 a3 a4 a5 L n wd wi wt ptszu ptzu (uI q k x)) H := hP
              have hD : va_D A (wX d h a1 a2 a3 a4 a5 L n wd wi wt ptszu ptzu (uI q k x)) := hD
              refine lv_iload hx hb dX1_findPlaces_61 (lv_at hl 4 rfl) ?_
              refine lv_istore_n (lv' := [(1, .int (jI x)), (0, .ref h), (2, .int (jI k)), (3, .int (jI zb)), (4, .int (jI x))]) hx hb dX1_findPlaces_63 rfl hl (by decide) rfl (fun ls hl => ?_)
              refine ji_iinc (v := k - 1) (lv' := [(2, .int (jI (k - 1))), (1, .int (jI x)), (0, .ref h), (3, .int (jI zb)), (4, .int (jI x))]) hx hb dX1_findPlaces_64 hl (k := 2) rfl (by omega) (by decide) rfl (fun ls hl => ?_)
              refine lv_goto (tgt := 12) hx hb dX1_findPlaces_67 (by decide) ?_
              rw [ce] at hRu
              have hLm : Lm wd wi wt k rt x := ⟨hx2.1, zb, hLb, hRu, hno⟩
              have hst := Plc_step (q := q) ⟨by omega, hk.2⟩ hpl hnx hLm
              have hux : Upx wd wi wt k x rt zb := by
                rcases hRu with ⟨q8, -⟩ | q9
                · omega
                · exact q9.1
              obtain ⟨hu1, v9, hu2, hu3, hu4⟩ := hux
              exact ih_lo1 x (k - 1) ptszu ptzu (uI q k x) (by omega) (by omega) (⟨v9, by rw [show k - 1 + 1 = k by omega]; exact hu2⟩) hst.2 hst.1 (by omega) _ _ hP hD hS ls (lv_sub hl [2, 1, 0] rfl)
            · refine ji_iinc (v := x + 1) (lv' := [(4, .int (jI (x + 1))), (0, .ref h), (1, .int (jI rt)), (2, .int (jI k)), (3, .int (jI zb))]) hx hb dX1_findPlaces_47 hl (k := 4) rfl (by omega) (by decide) rfl (fun ls hl => ?_)
              refine lv_goto (tgt := 26) hx hb dX1_findPlaces_50 (by decide) ?_
              exact ih_lo2 (x + 1) ptszu ptzu (by omega) (fun x' q1 q2 hR => by
                by_cases q3 : x' = x
                · rw [q3] at hR; exact ce (Res_u hRu hR)
                · exact hno x' q1 (by omega) hR) (by omega) _ _ hP hD hS ls (lv_sub hl [1, 2, 3, 4, 0] rfl)
        exact lo2 _ 0 ptszb ptzb (by omega) (fun x' q1 q2 => absurd q2 (by omega)) (Nat.lt_succ_self _) _ _ hP hD hS ls (lv_sub hl [2, 3, 4, 1, 0] rfl)
  exact lo1 _ L (n - 1) pts pt pl (by omega) (by omega) (by rw [show n - 1 + 1 = n by omega]; exact hfe) (by unfold nx; rw [if_pos (by omega)]) (fun j q1 q2 => absurd q1 (by omega)) (Nat.lt_succ_self _) _ _ hP hD hS ls (lv_sub hl [2, 1, 0] rfl)
set_option maxHeartbeats 4000000 in
set_option maxRecDepth 100000 in
theorem metX1_leftmost (l : Launch) (dC : Nat → ClassId) (dI : Nat → Nat → Nat) (d : ClassId) (h a1 a2 a3 a4 a5 : Nat) (L : Int) (n : Int) (wd : Int → Int) (wi : Int → Int) (wt : Int → Int) (pts : Int) (pt : Int → Int) (pl : Int → Int) (sz : Nat) (x : Int) (hok : Ok L n wd wi wt) (hx1 : -2147483648 ≤ x ∧ x < 2147483648) : Met l yX1_leftmost (ws_ yX1_leftmost cX1_leftmost 3 (some .int)) ({ frames := 5, cells := 0, slots := 0, locals := 123 }) (zPw dC dI (wX d h a1 a2 a3 a4 a5 L n wd wi wt pts pt pl) d sz [.ref h, .int (jI x)]) (wXQi dC dI d h a1 a2 a3 a4 a5 L (va_A (wX d h a1 a2 a3 a4 a5 L n wd wi wt pts pt pl) sz) (fun z u => ∃ pts1 pt1 pl1, u = (n, wd, wi, wt, pts1, pt1, pl1) ∧ (((x < 0 ∨ n ≤ x) ∧ z = -4) ∨ (0 ≤ x ∧ x < n ∧ Lmo wd wi wt n L x z)))) 0 0 (va_A (wX d h a1 a2 a3 a4 a5 L n wd wi wt pts pt pl) sz) := by
  refine Met.ofW (cc := cX1_leftmost) (maxL := 3) (ret := (some .int)) (by decide) rfl ?_
  intro p e s m args below meth c s₁ B hml hv
  obtain ⟨rfl, hsz, hP, hK, hD0⟩ := hv
  have hx := B.exec
  have hb := B.bytes
  have hr := B.returns
  have hts := atoms_spec (ws := (ws_ yX1_leftmost cX1_leftmost 3 (some .int))) B.pre
  have hts : ∀ w ∈ lw_all, w.before _ s = true := fun w h => hts w (List.mem_cons_of_mem _ h)
  have hown : s.vm.findClass RX1 = some m.cls := findClass_of_methodNamed B.named
  have hlocks := B.notSynchronized
  subst hsz
  have hD := hD0.self (sz := s.heap.size)
  generalize hAe : va_A (wX d h a1 a2 a3 a4 a5 L n wd wi wt pts pt pl) s.heap.size = A at hD ⊢
  have hA : ∀ q : Nat, s.heap.size ≤ q → A q := fun q h => by rw [← hAe]; exact Or.inr h
  have hS : va_S A s.heap s.heap [] := va_S.rf
  have hl := lv_entry ([.ref h, .int (jI x)]) (n := 3) (Nat.le_of_ble_eq_true rfl)
  rw [lg_entry_eq]
  generalize (lg_sl ([.ref h, .int (jI x)]) ++ List.replicate (3 - (lg_sl ([.ref h, .int (jI x)])).length) Slot.unset).toArray = ls at hl ⊢
  have hl : lv_has ls 3 [(0, .ref h), (1, .int (jI x))] := hl
  have hok2 := hok
  obtain ⟨hLn, hwd, hwi, hwt⟩ := hok2
  refine lv_aload_n hx hb dX1_leftmost_0 rfl (lv_at hl 0 rfl) ?_
  refine lv_iload_n hx hb dX1_leftmost_1 rfl (lv_at hl 1 rfl) ?_
  refine vp_callSi (W.runV (As := [.int (jI x)]) (rest := []) ⟨hx, hb, hml, hown, hts⟩ (metX1_noCell l dC dI d h a1 a2 a3 a4 a5 L n wd wi wt pts pt pl x (by omega) hx1) (cwV 1 hts (lw_V q64 q66 qs0 q20 q67) rfl rfl rfl (by decide +kernel) ⟨Nat.le_of_ble_eq_true rfl, Nat.le_of_ble_eq_true rfl⟩) ⟨zPp_bl, va_recv hK hP (ci := 0) (q0 := 0) rfl rfl, fun U hU hW => ⟨rfl, by rw [hU]; exact hP, va_K.moved hW.alike hK⟩⟩ rfl rfl hl.1 rfl (lv_room (Nat.le_of_ble_eq_true rfl)) dX1_leftmost_2 ⟨Nat.le_of_ble_eq_true rfl, Nat.le_of_ble_eq_true rfl⟩) (fun r_ hr_ => ?_)
  obtain ⟨z_1, rfl, hz_1⟩ := hr_
  refine ji_if_eq (tgt := 11) hx hb dX1_leftmost_5 (by decide) (by omega) (fun c_2 => ?_) (fun c_2 => ?_)
  · refine lv_aload_n hx hb dX1_leftmost_11 rfl (lv_at hl 0 rfl) ?_
    have hFc := va_free (wc := (wX d h a1 a2 a3 a4 a5 L n wd wi wt pts pt pl)) hD hS hA [0, 1, 2, 3, 4, 5] rfl
    refine va_calli (va_runV (As := []) (rest := []) ⟨hx, hb, hml, hown, hts⟩ (metX1_cost l dC dI d h a1 a2 a3 a4 a5 L n wd wi wt pts pt pl s.heap.size hok) (cwV 0 hts (lw_V q111 q81 q82 q20 q83) rfl rfl rfl (by decide +kernel) ⟨Nat.le_of_ble_eq_true rfl, Nat.le_of_ble_eq_true rfl⟩) ⟨zPw_bl, va_recv hK hP (ci := 0) (q0 := 0) rfl rfl, fun U hU hW => ⟨rfl, by rw [hU], by rw [hU]; exact hP, va_K.moved hW.alike hK, hD.weaken (fun _ _ _ _ => trivial)⟩⟩ rfl rfl hl.1 rfl (lv_room (Nat.le_of_ble_eq_true rfl)) dX1_leftmost_12 ⟨Nat.le_of_ble_eq_true rfl, Nat.le_of_ble_eq_true rfl⟩) hS (fun q _ h => hFc q h) hFc (fun r_ u_ t_ H locs ht_ hvm_ hw_ hB_ hz_ hk_ hS => ?_)
    obtain ⟨zc, rfl, ptszc, ptzc, plzc, rfl, hzc⟩ := hw_
    obtain ⟨hP, -, hD1_⟩ := hB_
    rw [ht_] at hP
    have hP : va_P (dC, dI) vwCl (wX d h a1 a2 a3 a4 a5 L n wd wi wt ptszc ptzc plzc) H := hP
    have hD : va_D A (wX d h a1 a2 a3 a4 a5 L n wd wi wt ptszc ptzc plzc) := hD1_.weaken (fun _ q _ h => hFc q.1 h)
    clear hD1_ hz_ hk_ hFc ht_ hvm_
    obtain ⟨ec, hRc⟩ := hzc
    have hbdc := Res_bd hRc (fun v hv => Fi_bd hok (a := 0) (b := n) (lf := 0) (rt := L) (by omega) (by omega) (by omega) hv)
    rw [ec] at hP hD
    have hP : va_P (dC, dI) vwCl (wX d h a1 a2 a3 a4 a5 L n wd wi wt ptszc ptzc pl) H := hP
    have hD : va_D A (wX d h a1 a2 a3 a4 a5 L n wd wi wt ptszc ptzc pl) := hD
    refine lv_istore_n (lv' := [(2, .int (jI zc)), (0, .ref h), (1, .int (jI x))]) hx hb dX1_leftmost_15 rfl hl (by decide) rfl (fun ls hl => ?_)
    refine lv_iload_n hx hb dX1_leftmost_16 rfl (lv_at hl 0 rfl) ?_
    refine lv_bipush (v := jI (-6)) hx hb dX1_leftmost_17 (by decide) ?_
    refine ji_icmp_ne (tgt := 25) hx hb dX1_leftmost_19 (by decide) (by omega) (by omega) (fun cz => ?_) (fun cz => ?_)
    · refine lv_aload_n hx hb dX1_leftmost_25 rfl (lv_at hl 1 rfl) ?_
      have hFc := va_free (wc := (wX d h a1 a2 a3 a4 a5 L n wd wi wt ptszc ptzc pl)) hD hS hA [0, 1, 2, 3, 4, 5] rfl
      refine va_callv (va_runV (As := []) (rest := []) ⟨hx, hb, hml, hown, hts⟩ (metX1_findPlaces l dC dI d h a1 a2 a3 a4 a5 L n wd wi wt ptszc ptzc pl H.size hok (⟨_, (hbdc.2.2.2 cz).1.1⟩)) (cwV 0 hts (lw_V q112 q114 qs5 q20 q115) rfl rfl rfl (by decide +kernel) ⟨Nat.le_of_ble_eq_true rfl, Nat.le_of_ble_eq_true rfl⟩) ⟨zPw_bl, va_recv hK hP (ci := 0) (q0 := 0) rfl rfl, fun U hU hW => ⟨rfl, by rw [hU], by rw [hU]; exact hP, va_K.moved hW.alike hK, hD.weaken (fun _ _ _ _ => trivial)⟩⟩ rfl rfl hl.1 rfl (lv_room (Nat.le_of_ble_eq_true rfl)) dX1_leftmost_26 ⟨Nat.le_of_ble_eq_true rfl, Nat.le_of_ble_eq_true rfl⟩) hS (fun q _ h => hFc q h) hFc (fun u_ t_ H locs ht_ hvm_ hw_ hB_ hz_ hk_ hS => ?_)
      obtain ⟨ptszf, ptzf, plzf, rfl, hzf⟩ := hw_
      obtain ⟨hP, -, hD1_⟩ := hB_
      rw [ht_] at hP
      have hP : va_P (dC, dI) vwCl (wX d h a1 a2 a3 a4 a5 L n wd wi wt ptszf ptzf plzf) H := hP
      have hD : va_D A (wX d h a1 a2 a3 a4 a5 L n wd wi wt ptszf ptzf plzf) := hD1_.weaken (fun _ q _ h => hFc q.1 h)
      clear hD1_ hz_ hk_ hFc ht_ hvm_
      refine lv_aload_n hx hb dX1_leftmost_29 rfl (lv_at hl 1 rfl) ?_
      refine va_get (D := (dC, dI)) (ci := 0) (v := .ref a5) (C := RX1) (T := TX1) (N := 8) hx hb hts in_X1 hown hK hP 0 rfl rfl 7 (by decide) (hts _ q37) (fun _ h9 => h9) rfl dX1_leftmost_30 ?_
      refine lv_iload_n hx hb dX1_leftmost_33 rfl (lv_at hl 2 rfl) ?_
      refine ji_ld (f := plzf) (n := 10) (cA := d) hx hb hK hP 5 0 rfl rfl (by omega) (by decide) dX1_leftmost_34 ?_
      exact W.iret (v := jI (plzf x)) hx hb hr (fun t_ ht_ hW_ => ⟨⟨_, (n, wd, wi, wt, ptszf, ptzf, plzf), rfl, ⟨plzf x, rfl, ⟨_, _, _, rfl, Or.inr ⟨by omega, by omega, Or.inr ⟨⟨_, (hbdc.2.2.2 cz).1.1⟩, plzf, fun j q1 q2 => hzf j (by omega) q2, rfl⟩⟩⟩⟩, by rw [ht_]; exact hP, va_K.moved hW_.alike hK, hD⟩, hS.F ht_⟩) hS.2.2 dX1_leftmost_35
    · refine lv_bipush (v := jI (-6)) hx hb dX1_leftmost_22 (by decide) ?_
      exact W.iret (v := jI (-6)) hx hb hr (fun t_ ht_ hW_ => ⟨⟨_, (n, wd, wi, wt, ptszc, ptzc, pl), rfl, ⟨(-6), rfl, ⟨_, _, _, rfl, Or.inr ⟨by omega, by omega, Or.inl ⟨hbdc.2.2.1 cz, rfl⟩⟩⟩⟩, by rw [ht_]; exact hP, va_K.moved hW_.alike hK, hD⟩, hS.F ht_⟩) hS.2.2 dX1_leftmost_24
  · refine lv_bipush (v := jI (-4)) hx hb dX1_leftmost_8 (by decide) ?_
    exact W.iret (v := jI (-4)) hx hb hr (fun t_ ht_ hW_ => ⟨⟨_, (n, wd, wi, wt, pts, pt, pl), rfl, ⟨(-4), rfl, ⟨_, _, _, rfl, Or.inl (by omega)⟩⟩, by rw [ht_]; exact hP, va_K.moved hW_.alike hK, hD⟩, hS.F ht_⟩) hS.2.2 dX1_leftmost_10
set_option maxHeartbeats 4000000 in
set_option maxRecDepth 100000 in
theorem metX1_costAt (l : Launch) (dC : Nat → ClassId) (dI : Nat → Nat → Nat) (d : ClassId) (h a1 a2 a3 a4 a5 : Nat) (L : Int) (n : Int) (wd : Int → Int) (wi : Int → Int) (wt : Int → Int) (pts : Int) (pt : Int → Int) (pl : Int → Int) (sz : Nat) (x : Int) (y : Int) (hok : Ok L n wd wi wt) (hx1 : -2147483648 ≤ x ∧ x < 2147483648) (hy1 : -2147483648 ≤ y ∧ y < 2147483648) : Met l yX1_costAt (ws_ yX1_costAt cX1_costAt 5 (some .int)) ({ frames := 4, cells := 0, slots := 0, locals := 99 }) (zPw dC dI (wX d h a1 a2 a3 a4 a5 L n wd wi wt pts pt pl) d sz [.ref h, .int (jI x), .int (jI y)]) (wXQi dC dI d h a1 a2 a3 a4 a5 L (va_A (wX d h a1 a2 a3 a4 a5 L n wd wi wt pts pt pl) sz) (fun z u => ∃ pts1 pt1 pl1, u = (n, wd, wi, wt, pts1, pt1, pl1) ∧ (((x < 0 ∨ n ≤ x) ∧ z = -4) ∨ (0 ≤ x ∧ x < n ∧ Res (Cat wd wi wt n L x y) z)))) 0 0 (va_A (wX d h a1 a2 a3 a4 a5 L n wd wi wt pts pt pl) sz) := by
  refine Met.ofW (cc := cX1_costAt) (maxL := 5) (ret := (some .int)) (by decide) rfl ?_
  intro p e s m args below meth c s₁ B hml hv
  obtain ⟨rfl, hsz, hP, hK, hD0⟩ := hv
  have hx := B.exec
  have hb := B.bytes
  have hr := B.returns
  have hts := atoms_spec (ws := (ws_ yX1_costAt cX1_costAt 5 (some .int))) B.pre
  have hts : ∀ w ∈ lw_all, w.before _ s = true := fun w h => hts w (List.mem_cons_of_mem _ h)
  have hown : s.vm.findClass RX1 = some m.cls := findClass_of_methodNamed B.named
  have hlocks := B.notSynchronized
  subst hsz
  have hD := hD0.self (sz := s.heap.size)
  generalize hAe : va_A (wX d h a1 a2 a3 a4 a5 L n wd wi wt pts pt pl) s.heap.size = A at hD ⊢
  have hA : ∀ q : Nat, s.heap.size ≤ q → A q := fun q h => by rw [← hAe]; exact Or.inr h
  have hS : va_S A s.heap s.heap [] := va_S.rf
  have hl := lv_entry ([.ref h, .int (jI x), .int (jI y)]) (n := 5) (Nat.le_of_ble_eq_true rfl)
  rw [lg_entry_eq]
  generalize (lg_sl ([.ref h, .int (jI x), .int (jI y)]) ++ List.replicate (5 - (lg_sl ([.ref h, .int (jI x), .int (jI y)])).length) Slot.unset).toArray = ls at hl ⊢
  have hl : lv_has ls 5 [(0, .ref h), (1, .int (jI x)), (2, .int (jI y))] := hl
  have hok2 := hok
  obtain ⟨hLn, hwd, hwi, hwt⟩ := hok2
  refine lv_aload_n hx hb dX1_costAt_0 rfl (lv_at hl 0 rfl) ?_
  refine lv_iload_n hx hb dX1_costAt_1 rfl (lv_at hl 1 rfl) ?_
  refine vp_callSi (W.runV (As := [.int (jI x)]) (rest := []) ⟨hx, hb, hml, hown, hts⟩ (metX1_noCell l dC dI d h a1 a2 a3 a4 a5 L n wd wi wt pts pt pl x (by omega) hx1) (cwV 1 hts (lw_V q64 q66 qs0 q20 q67) rfl rfl rfl (by decide +kernel) ⟨Nat.le_of_ble_eq_true rfl, Nat.le_of_ble_eq_true rfl⟩) ⟨zPp_bl, va_recv hK hP (ci := 0) (q0 := 0) rfl rfl, fun U hU hW => ⟨rfl, by rw [hU]; exact hP, va_K.moved hW.alike hK⟩⟩ rfl rfl hl.1 rfl (lv_room (Nat.le_of_ble_eq_true rfl)) dX1_costAt_2 ⟨Nat.le_of_ble_eq_true rfl, Nat.le_of_ble_eq_true rfl⟩) (fun r_ hr_ => ?_)
  obtain ⟨z_1, rfl, hz_1⟩ := hr_
  refine ji_if_eq (tgt := 11) hx hb dX1_costAt_5 (by decide) (by omega) (fun c_2 => ?_) (fun c_2 => ?_)
  · refine lv_aload_n hx hb dX1_costAt_11 rfl (lv_at hl 0 rfl) ?_
    refine lv_iload_n hx hb dX1_costAt_12 rfl (lv_at hl 1 rfl) ?_
    refine lv_iload_n hx hb dX1_costAt_13 rfl (lv_at hl 2 rfl) ?_
    refine lv_aload_n hx hb dX1_costAt_14 rfl (lv_at hl 0 rfl) ?_
    refine va_get (D := (dC, dI)) (ci := 0) (v := .int (jI L)) (C := RX1) (T := TX1) (N := 8) hx hb hts in_X1 hown hK hP 0 rfl rfl 0 (by decide) (hts _ q30) (fun _ h9 => h9) rfl dX1_costAt_15 ?_
    have hFc := va_free (wc := (wX d h a1 a2 a3 a4 a5 L n wd wi wt pts pt pl)) hD hS hA [0, 1, 2, 3, 4, 5] rfl
    refine va_calli (va_runV (As := [.int (jI x), .int (jI y), .int (jI L)]) (rest := []) ⟨hx, hb, hml, hown, hts⟩ (metX1_upTo l dC dI d h a1 a2 a3 a4 a5 L n wd wi wt pts pt pl s.heap.size x y L hok (by omega) hy1 (by omega)) (cwV 3 hts (lw_V q120 q122 qs7 q20 q123) rfl rfl rfl (by decide +kernel) ⟨Nat.le_of_ble_eq_true rfl, Nat.le_of_ble_eq_true rfl⟩) ⟨zPw_bl, va_recv hK hP (ci := 0) (q0 := 0) rfl rfl, fun U hU hW => ⟨rfl, by rw [hU], by rw [hU]; exact hP, va_K.moved hW.alike hK, hD.weaken (fun _ _ _ _ => trivial)⟩⟩ rfl rfl hl.1 rfl (lv_room (Nat.le_of_ble_eq_true rfl)) dX1_costAt_18 ⟨Nat.le_of_ble_eq_true rfl, Nat.le_of_ble_eq_true rfl⟩) hS (fun q _ h => hFc q h) hFc (fun r_ u_ t_ H locs ht_ hvm_ hw_ hB_ hz_ hk_ hS => ?_)
    obtain ⟨zu, rfl, ptszu, ptzu, plzu, rfl, hzu⟩ := hw_
    obtain ⟨hP, -, hD1_⟩ := hB_
    rw [ht_] at hP
    have hP : va_P (dC, dI) vwCl (wX d h a1 a2 a3 a4 a5 L n wd wi wt ptszu ptzu plzu) H := hP
    have hD : va_D A (wX d h a1 a2 a3 a4 a5 L n wd wi wt ptszu ptzu plzu) := hD1_.weaken (fun _ q _ h => hFc q.1 h)
    clear hD1_ hz_ hk_ hFc ht_ hvm_
    obtain ⟨eu, hRu⟩ := hzu
    have hbu := Res_bd hRu (fun v hv => Upx_bd hok (by omega) (by omega) hv)
    rw [eu] at hP hD
    have hP : va_P (dC, dI) vwCl (wX d h a1 a2 a3 a4 a5 L n wd wi wt ptszu ptzu pl) H := hP
    have hD : va_D A (wX d h a1 a2 a3 a4 a5 L n wd wi wt ptszu ptzu pl) := hD
    refine lv_istore_n (lv' := [(3, .int (jI zu)), (0, .ref h), (1, .int (jI x)), (2, .int (jI y))]) hx hb dX1_costAt_21 rfl hl (by decide) rfl (fun ls hl => ?_)
    refine lv_iload_n hx hb dX1_costAt_22 rfl (lv_at hl 0 rfl) ?_
    refine lv_bipush (v := jI (-6)) hx hb dX1_costAt_23 (by decide) ?_
    refine ji_icmp_ne (tgt := 31) hx hb dX1_costAt_25 (by decide) (by omega) (by omega) (fun cz => ?_) (fun cz => ?_)
    · refine lv_aload_n hx hb dX1_costAt_31 rfl (lv_at hl 1 rfl) ?_
      refine lv_iload_n hx hb dX1_costAt_32 rfl (lv_at hl 2 rfl) ?_
      refine ji_const hx hb dX1_costAt_33 ?_
      refine ji_add hx hb dX1_costAt_34 ?_
      refine lv_aload_n hx hb dX1_costAt_35 rfl (lv_at hl 1 rfl) ?_
      refine va_get (D := (dC, dI)) (ci := 0) (v := .int (jI n)) (C := RX1) (T := TX1) (N := 8) hx hb hts in_X1 hown hK hP 0 rfl rfl 1 (by decide) (hts _ q31) (fun _ h9 => h9) rfl dX1_costAt_36 ?_
      refine lv_iload_n hx hb dX1_costAt_39 rfl (lv_at hl 3 rfl) ?_
      refine lv_aload_n hx hb dX1_costAt_40 rfl (lv_at hl 1 rfl) ?_
      refine va_get (D := (dC, dI)) (ci := 0) (v := .ref a1) (C := RX1) (T := TX1) (N := 8) hx hb hts in_X1 hown hK hP 0 rfl rfl 2 (by decide) (hts _ q32) (fun _ h9 => h9) rfl dX1_costAt_41 ?_
      refine lv_iload_n hx hb dX1_costAt_44 rfl (lv_at hl 2 rfl) ?_
      refine ji_ld (f := wd) (n := 10) (cA := d) hx hb hK hP 1 0 rfl rfl (by omega) (by decide) dX1_costAt_45 ?_
      have f_3 := hwd x (by omega) (by omega)
      refine ji_add hx hb dX1_costAt_46 ?_
      refine lv_aload_n hx hb dX1_costAt_47 rfl (lv_at hl 1 rfl) ?_
      refine va_get (D := (dC, dI)) (ci := 0) (v := .int (jI L)) (C := RX1) (T := TX1) (N := 8) hx hb hts in_X1 hown hK hP 0 rfl rfl 0 (by decide) (hts _ q30) (fun _ h9 => h9) rfl dX1_costAt_48 ?_
      have hux := (hbu.2.2.2 cz).1.1
      have hy0 := hux.1
      have hy2 : y + wd x ≤ L := by obtain ⟨-, v9, -, q9, -⟩ := hux; exact q9
      have hFc := va_free (wc := (wX d h a1 a2 a3 a4 a5 L n wd wi wt ptszu ptzu pl)) hD hS hA [0, 1, 2, 3, 4, 5] rfl
      refine va_calli (va_runV (As := [.int (jI (x + 1)), .int (jI n), .int (jI (y + (wd x))), .int (jI L)]) (rest := []) ⟨hx, hb, hml, hown, hts⟩ (metX1_partCost l dC dI d h a1 a2 a3 a4 a5 L n wd wi wt ptszu ptzu pl H.size (x + 1) n (y + (wd x)) L hok (by omega) (by omega)) (cwV 4 hts (lw_V q84 q86 qs1 q20 q87) rfl rfl rfl (by decide +kernel) ⟨Nat.le_of_ble_eq_true rfl, Nat.le_of_ble_eq_true rfl⟩) ⟨zPw_bl, va_recv hK hP (ci := 0) (q0 := 0) rfl rfl, fun U hU hW => ⟨rfl, by rw [hU], by rw [hU]; exact hP, va_K.moved hW.alike hK, hD.weaken (fun _ _ _ _ => trivial)⟩⟩ rfl rfl hl.1 rfl (lv_room (Nat.le_of_ble_eq_true rfl)) dX1_costAt_51 ⟨Nat.le_of_ble_eq_true rfl, Nat.le_of_ble_eq_true rfl⟩) hS (fun q _ h => hFc q h) hFc (fun r_ u_ t_ H locs ht_ hvm_ hw_ hB_ hz_ hk_ hS => ?_)
      obtain ⟨zp, rfl, ptszp, ptzp, plzp, rfl, hzp⟩ := hw_
      obtain ⟨hP, -, hD1_⟩ := hB_
      rw [ht_] at hP
      have hP : va_P (dC, dI) vwCl (wX d h a1 a2 a3 a4 a5 L n wd wi wt ptszp ptzp plzp) H := hP
      have hD : va_D A (wX d h a1 a2 a3 a4 a5 L n wd wi wt ptszp ptzp plzp) := hD1_.weaken (fun _ q _ h => hFc q.1 h)
      clear hD1_ hz_ hk_ hFc ht_ hvm_
      obtain ⟨ep, hRp⟩ := hzp
      have hbdp := Res_bd hRp (fun v hv => Fi_bd hok (a := x + 1) (b := n) (lf := y + wd x) (rt := L) (by omega) (by omega) (by omega) hv)
      rw [ep] at hP hD
      have hP : va_P (dC, dI) vwCl (wX d h a1 a2 a3 a4 a5 L n wd wi wt ptszp ptzp pl) H := hP
      have hD : va_D A (wX d h a1 a2 a3 a4 a5 L n wd wi wt ptszp ptzp pl) := hD
      refine lv_istore (lv' := [(4, .int (jI zp)), (3, .int (jI zu)), (0, .ref h), (1, .int (jI x)), (2, .int (jI y))]) hx hb dX1_costAt_54 hl (by decide) rfl (fun ls hl => ?_)
      refine lv_iload hx hb dX1_costAt_56 (lv_at hl 0 rfl) ?_
      refine lv_bipush (v := jI (-6)) hx hb dX1_costAt_58 (by decide) ?_
      refine ji_icmp_ne (tgt := 68) hx hb dX1_costAt_60 (by decide) (by omega) (by omega) (fun cy => ?_) (fun cy => ?_)
      · refine lv_iload_n hx hb dX1_costAt_68 rfl (lv_at hl 1 rfl) ?_
        refine lv_iload hx hb dX1_costAt_69 (lv_at hl 0 rfl) ?_
        refine ji_add hx hb dX1_costAt_71 ?_
        exact W.iret (v := jI (zu + zp)) hx hb hr (fun t_ ht_ hW_ => ⟨⟨_, (n, wd, wi, wt, ptszp, ptzp, pl), rfl, ⟨zu + zp, rfl, ⟨_, _, _, rfl, Or.inr ⟨by omega, by omega, by first | exact Or.inl ⟨rfl, fun v hv => by obtain ⟨v1, v2, -, q2, -⟩ := hv; exact hbdp.2.2.1 cy v2 q2⟩ | exact Cat_of (hbu.2.2.2 cz).1 (hbdp.2.2.2 cy).1⟩⟩⟩, by rw [ht_]; exact hP, va_K.moved hW_.alike hK, hD⟩, hS.F ht_⟩) hS.2.2 dX1_costAt_72
      · refine lv_bipush (v := jI (-6)) hx hb dX1_costAt_63 (by decide) ?_
        refine lv_goto (tgt := 72) hx hb dX1_costAt_65 (by decide) ?_
        exact W.iret (v := jI (-6)) hx hb hr (fun t_ ht_ hW_ => ⟨⟨_, (n, wd, wi, wt, ptszp, ptzp, pl), rfl, ⟨(-6), rfl, ⟨_, _, _, rfl, Or.inr ⟨by omega, by omega, by first | exact Or.inl ⟨rfl, fun v hv => by obtain ⟨v1, v2, -, q2, -⟩ := hv; exact hbdp.2.2.1 cy v2 q2⟩ | exact Cat_of (hbu.2.2.2 cz).1 (hbdp.2.2.2 cy).1⟩⟩⟩, by rw [ht_]; exact hP, va_K.moved hW_.alike hK, hD⟩, hS.F ht_⟩) hS.2.2 dX1_costAt_72
    · refine lv_bipush (v := jI (-6)) hx hb dX1_costAt_28 (by decide) ?_
      exact W.iret (v := jI (-6)) hx hb hr (fun t_ ht_ hW_ => ⟨⟨_, (n, wd, wi, wt, ptszu, ptzu, pl), rfl, ⟨(-6), rfl, ⟨_, _, _, rfl, Or.inr ⟨by omega, by omega, Or.inl ⟨rfl, fun v hv => by obtain ⟨v1, v2, q1, -, -⟩ := hv; exact hbu.2.2.1 cz v1 q1⟩⟩⟩⟩, by rw [ht_]; exact hP, va_K.moved hW_.alike hK, hD⟩, hS.F ht_⟩) hS.2.2 dX1_costAt_30
  · refine lv_bipush (v := jI (-4)) hx hb dX1_costAt_8 (by decide) ?_
    exact W.iret (v := jI (-4)) hx hb hr (fun t_ ht_ hW_ => ⟨⟨_, (n, wd, wi, wt, pts, pt, pl), rfl, ⟨(-4), rfl, ⟨_, _, _, rfl, Or.inl (by omega)⟩⟩, by rw [ht_]; exact hP, va_K.moved hW_.alike hK, hD⟩, hS.F ht_⟩) hS.2.2 dX1_costAt_10
end
section
set_option maxHeartbeats 4000000 in
set_option maxRecDepth 100000 in
theorem metX1_content (l : Launch) (dC : Nat → ClassId) (dI : Nat → Nat → Nat) (d : ClassId) (h a1 a2 a3 a4 a5 : Nat) (L : Int) (n : Int) (wd : Int → Int) (wi : Int → Int) (wt : Int → Int) (pts : Int) (pt : Int → Int) (pl : Int → Int) (sz : Nat) (hok : Ok L n wd wi wt) : Met l yX1_content (ws_ yX1_content cX1_content 6 (some .int)) ({ frames := 1, cells := 0, slots := 0, locals := 21 }) (zPw dC dI (wX d h a1 a2 a3 a4 a5 L n wd wi wt pts pt pl) d sz [.ref h]) (wXQi dC dI d h a1 a2 a3 a4 a5 L (va_A (wX d h a1 a2 a3 a4 a5 L n wd wi wt pts pt pl) sz) (fun z u => ∃ pts1 pt1 pl1, u = (n, wd, wi, wt, pts1, pt1, pl1) ∧ Mx wd wi L n L z)) 0 0 (va_A (wX d h a1 a2 a3 a4 a5 L n wd wi wt pts pt pl) sz) := by
  refine Met.ofW (cc := cX1_content) (maxL := 6) (ret := (some .int)) (by decide) rfl ?_
  intro p e s m args below meth c s₁ B hml hv
  obtain ⟨rfl, hsz, hP, hK, hD0⟩ := hv
  have hx := B.exec
  have hb := B.bytes
  have hr := B.returns
  have hts := atoms_spec (ws := (ws_ yX1_content cX1_content 6 (some .int))) B.pre
  have hts : ∀ w ∈ lw_all, w.before _ s = true := fun w h => hts w (List.mem_cons_of_mem _ h)
  have hown : s.vm.findClass RX1 = some m.cls := findClass_of_methodNamed B.named
  have hlocks := B.notSynchronized
  subst hsz
  have hD := hD0.self (sz := s.heap.size)
  generalize hAe : va_A (wX d h a1 a2 a3 a4 a5 L n wd wi wt pts pt pl) s.heap.size = A at hD ⊢
  have hA : ∀ q : Nat, s.heap.size ≤ q → A q := fun q h => by rw [← hAe]; exact Or.inr h
  have hS : va_S A s.heap s.heap [] := va_S.rf
  have hl := lv_entry ([.ref h]) (n := 6) (Nat.le_of_ble_eq_true rfl)
  rw [lg_entry_eq]
  generalize (lg_sl ([.ref h]) ++ List.replicate (6 - (lg_sl ([.ref h])).length) Slot.unset).toArray = ls at hl ⊢
  have hl : lv_has ls 6 [(0, .ref h)] := hl
  have hok2 := hok
  obtain ⟨hLn, hwd, hwi, hwt⟩ := hok2
  refine ji_const hx hb dX1_content_0 ?_
  refine lv_istore_n (lv' := [(1, .int (jI 0)), (0, .ref h)]) hx hb dX1_content_1 rfl hl (by decide) rfl (fun ls hl => ?_)
  refine ji_const hx hb dX1_content_2 ?_
  refine lv_istore_n (lv' := [(2, .int (jI 0)), (1, .int (jI 0)), (0, .ref h)]) hx hb dX1_content_3 rfl hl (by decide) rfl (fun ls hl => ?_)
  have lo1 : ∀ (n_ : Nat) (mo : Int) (k : Int) (q : Int → Int) (hk : 0 ≤ k ∧ k ≤ n) (hmo : Mx wd wi L k L mo) (hpl : ∀ b, 0 ≤ b → b < k → Pl1 wd wi L b (q b)) (hm_ : (n - k).toNat < n_) (H : Heap) (locs : List Loc) (hP : va_P (dC, dI) vwCl (wX d h a1 a2 a3 a4 a5 L n wd wi wt pts pt q) H) (hD : va_D A (wX d h a1 a2 a3 a4 a5 L n wd wi wt pts pt q)) (hS : va_S A s.heap H locs) (ls : Array Slot) (hl : lv_has ls 6 [(0, .ref h), (1, .int (jI mo)), (2, .int (jI k))]), W p l e (headSpec (ws_ yX1_content cX1_content 6 (some .int)) ({ frames := 1, cells := 0, slots := 0, locals := 21 })).room s m ([.ref h] : List Value).toArray below meth c H locs 0 0 (MQ below (wXQi dC dI d h a1 a2 a3 a4 a5 L A (fun z u => ∃ pts1 pt1 pl1, u = (n, wd, wi, wt, pts1, pt1, pl1) ∧ Mx wd wi L n L z)) ([.ref h] : List Value).toArray s 0 0 A) (F0 m 4 ls []) := by
    intro n_
    induction n_ with
    | zero => intro mo k q hk hmo hpl hm_; exact absurd hm_ (by omega)
    | succ n_ ih_lo1 =>
      intro mo k q hk hmo hpl hm_ H locs hP hD hS ls hl
      have hbmo := Mx_bd hk.1 hmo
      refine lv_iload_n hx hb dX1_content_4 rfl (lv_at hl 2 rfl) ?_
      refine lv_aload_n hx hb dX1_content_5 rfl (lv_at hl 0 rfl) ?_
      refine va_get (D := (dC, dI)) (ci := 0) (v := .int (jI n)) (C := RX1) (T := TX1) (N := 8) hx hb hts in_X1 hown hK hP 0 rfl rfl 1 (by decide) (hts _ q31) (fun _ h9 => h9) rfl dX1_content_6 ?_
      refine ji_icmp_ge (tgt := 126) hx hb dX1_content_9 (by decide) (by omega) (by omega) (fun c_1 => ?_) (fun c_1 => ?_)
      · refine lv_iload_n hx hb dX1_content_126 rfl (lv_at hl 1 rfl) ?_
        exact W.iret (v := jI mo) hx hb hr (fun t_ ht_ hW_ => ⟨⟨_, (n, wd, wi, wt, pts, pt, q), rfl, ⟨mo, rfl, ⟨_, _, _, rfl, (show k = n by omega) ▸ hmo⟩⟩, by rw [ht_]; exact hP, va_K.moved hW_.alike hK, hD⟩, hS.F ht_⟩) hS.2.2 dX1_content_127
      · refine lv_aload_n hx hb dX1_content_12 rfl (lv_at hl 0 rfl) ?_
        refine lv_iload_n hx hb dX1_content_13 rfl (lv_at hl 2 rfl) ?_
        refine vp_callSi (W.runV (As := [.int (jI k)]) (rest := []) ⟨hx, hb, hml, hown, hts⟩ (metX1_fitsAtWish l dC dI d h a1 a2 a3 a4 a5 L n wd wi wt pts pt q k hok (by omega)) (cwV 1 hts (lw_V q136 q138 qs8 q20 q139) rfl rfl rfl (by decide +kernel) ⟨Nat.le_of_ble_eq_true rfl, Nat.le_of_ble_eq_true rfl⟩) ⟨zPp_bl, va_recv hK hP (ci := 0) (q0 := 0) rfl rfl, fun U hU hW => ⟨rfl, by rw [hU]; exact hP, va_K.moved hW.alike hK⟩⟩ rfl rfl hl.1 rfl (lv_room (Nat.le_of_ble_eq_true rfl)) dX1_content_14 ⟨Nat.le_of_ble_eq_true rfl, Nat.le_of_ble_eq_true rfl⟩) (fun r_ hr_ => ?_)
        obtain ⟨zg, rfl, hzg⟩ := hr_
        refine lv_istore_n (lv' := [(3, .int (jI zg)), (0, .ref h), (1, .int (jI mo)), (2, .int (jI k))]) hx hb dX1_content_17 rfl hl (by decide) rfl (fun ls hl => ?_)
        refine ji_const hx hb dX1_content_18 ?_
        refine lv_istore (lv' := [(4, .int (jI 0)), (3, .int (jI zg)), (0, .ref h), (1, .int (jI mo)), (2, .int (jI k))]) hx hb dX1_content_19 hl (by decide) rfl (fun ls hl => ?_)
        refine ji_const hx hb dX1_content_21 ?_
        refine lv_istore (lv' := [(5, .int (jI 0)), (4, .int (jI 0)), (3, .int (jI zg)), (0, .ref h), (1, .int (jI mo)), (2, .int (jI k))]) hx hb dX1_content_22 hl (by decide) rfl (fun ls hl => ?_)
        have ex : ∀ (bf : Int) (hex : (zg = 1 ∧ Mx wd wi L k (wi k) bf) ∨ zg = 0) (H : Heap) (locs : List Loc) (hP : va_P (dC, dI) vwCl (wX d h a1 a2 a3 a4 a5 L n wd wi wt pts pt q) H) (hD : va_D A (wX d h a1 a2 a3 a4 a5 L n wd wi wt pts pt q)) (hS : va_S A s.heap H locs) (ls : Array Slot) (hl : lv_has ls 6 [(0, .ref h), (1, .int (jI mo)), (2, .int (jI k)), (3, .int (jI zg)), (4, .int (jI bf))]), W p l e (headSpec (ws_ yX1_content cX1_content 6 (some .int)) ({ frames := 1, cells := 0, slots := 0, locals := 21 })).room s m ([.ref h] : List Value).toArray below meth c H locs 0 0 (MQ below (wXQi dC dI d h a1 a2 a3 a4 a5 L A (fun z u => ∃ pts1 pt1 pl1, u = (n, wd, wi, wt, pts1, pt1, pl1) ∧ Mx wd wi L n L z)) ([.ref h] : List Value).toArray s 0 0 A) (F0 m 85 ls []) := by
          intro bf hex H locs hP hD hS ls hl
          have st : ∀ (v : Int) (hv : Pl1 wd wi L k v) (H : Heap) (locs : List Loc) (hP : va_P (dC, dI) vwCl (wX d h a1 a2 a3 a4 a5 L n wd wi wt pts pt q) H) (hD : va_D A (wX d h a1 a2 a3 a4 a5 L n wd wi wt pts pt q)) (hS : va_S A s.heap H locs) (ls : Array Slot) (hl : lv_has ls 6 [(0, .ref h), (1, .int (jI mo)), (2, .int (jI k)), (3, .int (jI zg)), (4, .int (jI bf))]), W p l e (headSpec (ws_ yX1_content cX1_content 6 (some .int)) ({ frames := 1, cells := 0, slots := 0, locals := 21 })).room s m ([.ref h] : List Value).toArray below meth c H locs 0 0 (MQ below (wXQi dC dI d h a1 a2 a3 a4 a5 L A (fun z u => ∃ pts1 pt1 pl1, u = (n, wd, wi, wt, pts1, pt1, pl1) ∧ Mx wd wi L n L z)) ([.ref h] : List Value).toArray s 0 0 A) (F0 m 102 ls [.int (jI v), .int (jI k), .ref a5]) := by
            intro v hv H locs hP hD hS ls hl
            have hbv := Pl1_bd hk.1 hv
            refine ji_st (f := q) (n := 10) (cA := d) (i := k) (x := v) hx hb hK hP hD hS 5 0 rfl rfl (by omega) (by decide) dX1_content_102 (fun H locs hP hD hS => ?_)
            have hP : va_P (dC, dI) vwCl (wX d h a1 a2 a3 a4 a5 L n wd wi wt pts pt (uI q k v)) H := hP
            have hD : va_D A (wX d h a1 a2 a3 a4 a5 L n wd wi wt pts pt (uI q k v)) := hD
            have mg : ∀ (mo2 : Int) (hmo2 : Mx wd wi L (k + 1) L mo2) (H : Heap) (locs : List Loc) (hP : va_P (dC, dI) vwCl (wX d h a1 a2 a3 a4 a5 L n wd wi wt pts pt (uI q k v)) H) (hD : va_D A (wX d h a1 a2 a3 a4 a5 L n wd wi wt pts pt (uI q k v))) (hS : va_S A s.heap H locs) (ls : Array Slot) (hl : lv_has ls 6 [(0, .ref h), (1, .int (jI mo2)), (2, .int (jI k))]), W p l e (headSpec (ws_ yX1_content cX1_content 6 (some .int)) ({ frames := 1, cells := 0, slots := 0, locals := 21 })).room s m ([.ref h] : List Value).toArray below meth c H locs 0 0 (MQ below (wXQi dC dI d h a1 a2 a3 a4 a5 L A (fun z u => ∃ pts1 pt1 pl1, u = (n, wd, wi, wt, pts1, pt1, pl1) ∧ Mx wd wi L n L z)) ([.ref h] : List Value).toArray s 0 0 A) (F0 m 120 ls []) := by
              intro mo2 hmo2 H locs hP hD hS ls hl
              refine ji_iinc (v := k + 1) (lv' := [(2, .int (jI (k + 1))), (0, .ref h), (1, .int (jI mo2))]) hx hb dX1_content_120 hl (k := 2) rfl (by omega) (by decide) rfl (fun ls hl => ?_)
              refine lv_goto (tgt := 4) hx hb dX1_content_123 (by decide) ?_
              exact ih_lo1 mo2 (k + 1) (uI q k v) (by omega) hmo2 (fun b q1 q2 => by
                by_cases q3 : b = k
                · rw [q3, uI_s]; exact hv
                · rw [uI_n q3]; exact hpl b q1 (by omega)) (by omega) _ _ hP hD hS ls (lv_sub hl [1, 2, 0] rfl)
            refine lv_aload_n hx hb dX1_content_103 rfl (lv_at hl 0 rfl) ?_
            refine va_get (D := (dC, dI)) (ci := 0) (v := .ref a5) (C := RX1) (T := TX1) (N := 8) hx hb hts in_X1 hown hK hP 0 rfl rfl 7 (by decide) (hts _ q37) (fun _ h9 => h9) rfl dX1_content_104 ?_
            refine lv_iload_n hx hb dX1_content_107 rfl (lv_at hl 2 rfl) ?_
            refine ji_ld (f := (uI q k v)) (n := 10) (cA := d) hx hb hK hP 5 0 rfl rfl (by omega) (by decide) dX1_content_108 ?_
            refine ji_top (b := v) (uI_s) ?_
            refine lv_iload_n hx hb dX1_content_109 rfl (lv_at hl 1 rfl) ?_
            refine ji_icmp_le (tgt := 120) hx hb dX1_content_110 (by decide) (by omega) (by omega) (fun c_2 => ?_) (fun c_2 => ?_)
            · exact mg mo (Mx_keep hk.1 hmo hv (by omega)) _ _ hP hD hS ls (lv_sub hl [0, 1, 2] rfl)
            · refine lv_aload_n hx hb dX1_content_113 rfl (lv_at hl 0 rfl) ?_
              refine va_get (D := (dC, dI)) (ci := 0) (v := .ref a5) (C := RX1) (T := TX1) (N := 8) hx hb hts in_X1 hown hK hP 0 rfl rfl 7 (by decide) (hts _ q37) (fun _ h9 => h9) rfl dX1_content_114 ?_
              refine lv_iload_n hx hb dX1_content_117 rfl (lv_at hl 2 rfl) ?_
              refine ji_ld (f := (uI q k v)) (n := 10) (cA := d) hx hb hK hP 5 0 rfl rfl (by omega) (by decide) dX1_content_118 ?_
              refine ji_top (b := v) (uI_s) ?_
              refine lv_istore_n (lv' := [(1, .int (jI v)), (0, .ref h), (2, .int (jI k)), (3, .int (jI zg)), (4, .int (jI bf))]) hx hb dX1_content_119 rfl hl (by decide) rfl (fun ls hl => ?_)
              exact mg v (by
                rcases hv with q9 | q9
                · omega
                · exact Mx_new hk.1 hmo (Or.inr q9) q9.1 q9.1 (by omega)) _ _ hP hD hS ls (lv_sub hl [1, 0, 2] rfl)
          refine lv_aload_n hx hb dX1_content_85 rfl (lv_at hl 0 rfl) ?_
          refine va_get (D := (dC, dI)) (ci := 0) (v := .ref a5) (C := RX1) (T := TX1) (N := 8) hx hb hts in_X1 hown hK hP 0 rfl rfl 7 (by decide) (hts _ q37) (fun _ h9 => h9) rfl dX1_content_86 ?_
          refine lv_iload_n hx hb dX1_content_89 rfl (lv_at hl 2 rfl) ?_
          refine lv_iload_n hx hb dX1_content_90 rfl (lv_at hl 3 rfl) ?_
          refine ji_if_eq (tgt := 101) hx hb dX1_content_91 (by decide) (by omega) (fun c_3 => ?_) (fun c_3 => ?_)
          · refine ji_const hx hb dX1_content_101 ?_
            exact st 0 (Or.inl ⟨by omega, rfl⟩) _ _ hP hD hS ls (lv_sub hl [0, 1, 2, 3, 4] rfl)
          · refine lv_iload hx hb dX1_content_94 (lv_at hl 4 rfl) ?_
            refine ji_const hx hb dX1_content_96 ?_
            refine ji_add hx hb dX1_content_97 ?_
            refine lv_goto (tgt := 102) hx hb dX1_content_98 (by decide) ?_
            exact st (bf + 1) (by
              rcases hex with q9 | q9
              · exact Or.inr ⟨by omega, (show bf + 1 - 1 = bf by omega).symm ▸ q9.2⟩
              · omega) _ _ hP hD hS ls (lv_sub hl [0, 1, 2, 3, 4] rfl)
        have lo2 : ∀ (n_ : Nat) (bf : Int) (b : Int) (hb2 : 0 ≤ b ∧ b ≤ k) (hbf : Mx wd wi L b (wi k) bf) (hm_ : (k - b).toNat < n_) (H : Heap) (locs : List Loc) (hP : va_P (dC, dI) vwCl (wX d h a1 a2 a3 a4 a5 L n wd wi wt pts pt q) H) (hD : va_D A (wX d h a1 a2 a3 a4 a5 L n wd wi wt pts pt q)) (hS : va_S A s.heap H locs) (ls : Array Slot) (hl : lv_has ls 6 [(0, .ref h), (1, .int (jI mo)), (2, .int (jI k)), (3, .int (jI zg)), (4, .int (jI bf)), (5, .int (jI b))]), W p l e (headSpec (ws_ yX1_content cX1_content 6 (some .int)) ({ frames := 1, cells := 0, slots := 0, locals := 21 })).room s m ([.ref h] : List Value).toArray below meth c H locs 0 0 (MQ below (wXQi dC dI d h a1 a2 a3 a4 a5 L A (fun z u => ∃ pts1 pt1 pl1, u = (n, wd, wi, wt, pts1, pt1, pl1) ∧ Mx wd wi L n L z)) ([.ref h] : List Value).toArray s 0 0 A) (F0 m 24 ls []) := by
          intro n_
          induction n_ with
          | zero => intro bf b hb2 hbf hm_; exact absurd hm_ (by omega)
          | succ n_ ih_lo2 =>
            intro bf b hb2 hbf hm_ H locs hP hD hS ls hl
            have hbbf := Mx_bd hb2.1 hbf
            refine lv_iload hx hb dX1_content_24 (lv_at hl 5 rfl) ?_
            refine lv_iload_n hx hb dX1_content_26 rfl (lv_at hl 2 rfl) ?_
            refine ji_icmp_ge (tgt := 85) hx hb dX1_content_27 (by decide) (by omega) (by omega) (fun c_4 => ?_) (fun c_4 => ?_)
            · have st : ∀ (v : Int) (hv : Pl1 wd wi L k v) (H : Heap) (locs : List Loc) (hP : va_P (dC, dI) vwCl (wX d h a1 a2 a3 a4 a5 L n wd wi wt pts pt q) H) (hD : va_D A (wX d h a1 a2 a3 a4 a5 L n wd wi wt pts pt q)) (hS : va_S A s.heap H locs) (ls : Array Slot) (hl : lv_has ls 6 [(0, .ref h), (1, .int (jI mo)), (2, .int (jI k)), (3, .int (jI zg)), (4, .int (jI bf))]), W p l e (headSpec (ws_ yX1_content cX1_content 6 (some .int)) ({ frames := 1, cells := 0, slots := 0, locals := 21 })).room s m ([.ref h] : List Value).toArray below meth c H locs 0 0 (MQ below (wXQi dC dI d h a1 a2 a3 a4 a5 L A (fun z u => ∃ pts1 pt1 pl1, u = (n, wd, wi, wt, pts1, pt1, pl1) ∧ Mx wd wi L n L z)) ([.ref h] : List Value).toArray s 0 0 A) (F0 m 102 ls [.int (jI v), .int (jI k), .ref a5]) := by
                intro v hv H locs hP hD hS ls hl
                have hbv := Pl1_bd hk.1 hv
                refine ji_st (f := q) (n := 10) (cA := d) (i := k) (x := v) hx hb hK hP hD hS 5 0 rfl rfl (by omega) (by decide) dX1_content_102 (fun H locs hP hD hS => ?_)
                have hP : va_P (dC, dI) vwCl (wX d h a1 a2 a3 a4 a5 L n wd wi wt pts pt (uI q k v)) H := hP
                have hD : va_D A (wX d h a1 a2 a3 a4 a5 L n wd wi wt pts pt (uI q k v)) := hD
                have mg : ∀ (mo2 : Int) (hmo2 : Mx wd wi L (k + 1) L mo2) (H : Heap) (locs : List Loc) (hP : va_P (dC, dI) vwCl (wX d h a1 a2 a3 a4 a5 L n wd wi wt pts pt (uI q k v)) H) (hD : va_D A (wX d h a1 a2 a3 a4 a5 L n wd wi wt pts pt (uI q k v))) (hS : va_S A s.heap H locs) (ls : Array Slot) (hl : lv_has ls 6 [(0, .ref h), (1, .int (jI mo2)), (2, .int (jI k))]), W p l e (headSpec (ws_ yX1_content cX1_content 6 (some .int)) ({ frames := 1, cells := 0, slots := 0, locals := 21 })).room s m ([.ref h] : List Value).toArray below meth c H locs 0 0 (MQ below (wXQi dC dI d h a1 a2 a3 a4 a5 L A (fun z u => ∃ pts1 pt1 pl1, u = (n, wd, wi, wt, pts1, pt1, pl1) ∧ Mx wd wi L n L z)) ([.ref h] : List Value).toArray s 0 0 A) (F0 m 120 ls []) := by
                  intro mo2 hmo2 H locs hP hD hS ls hl
                  refine ji_iinc (v := k + 1) (lv' := [(2, .int (jI (k + 1))), (0, .ref h), (1, .int (jI mo2))]) hx hb dX1_content_120 hl (k := 2) rfl (by omega) (by decide) rfl (fun ls hl => ?_)
                  refine lv_goto (tgt := 4) hx hb dX1_content_123 (by decide) ?_
                  exact ih_lo1 mo2 (k + 1) (uI q k v) (by omega) hmo2 (fun b q1 q2 => by
                    by_cases q3 : b = k
                    · rw [q3, uI_s]; exact hv
                    · rw [uI_n q3]; exact hpl b q1 (by omega)) (by omega) _ _ hP hD hS ls (lv_sub hl [1, 2, 0] rfl)
                refine lv_aload_n hx hb dX1_content_103 rfl (lv_at hl 0 rfl) ?_
                refine va_get (D := (dC, dI)) (ci := 0) (v := .ref a5) (C := RX1) (T := TX1) (N := 8) hx hb hts in_X1 hown hK hP 0 rfl rfl 7 (by decide) (hts _ q37) (fun _ h9 => h9) rfl dX1_content_104 ?_
                refine lv_iload_n hx hb dX1_content_107 rfl (lv_at hl 2 rfl) ?_
                refine ji_ld (f := (uI q k v)) (n := 10) (cA := d) hx hb hK hP 5 0 rfl rfl (by omega) (by decide) dX1_content_108 ?_
                refine ji_top (b := v) (uI_s) ?_
                refine lv_iload_n hx hb dX1_content_109 rfl (lv_at hl 1 rfl) ?_
                refine ji_icmp_le (tgt := 120) hx hb dX1_content_110 (by decide) (by omega) (by omega) (fun c_5 => ?_) (fun c_5 => ?_)
                · exact mg mo (Mx_keep hk.1 hmo hv (by omega)) _ _ hP hD hS ls (lv_sub hl [0, 1, 2] rfl)
                · refine lv_aload_n hx hb dX1_content_113 rfl (lv_at hl 0 rfl) ?_
                  refine va_get (D := (dC, dI)) (ci := 0) (v := .ref a5) (C := RX1) (T := TX1) (N := 8) hx hb hts in_X1 hown hK hP 0 rfl rfl 7 (by decide) (hts _ q37) (fun _ h9 => h9) rfl dX1_content_114 ?_
                  refine lv_iload_n hx hb dX1_content_117 rfl (lv_at hl 2 rfl) ?_
                  refine ji_ld (f := (uI q k v)) (n := 10) (cA := d) hx hb hK hP 5 0 rfl rfl (by omega) (by decide) dX1_content_118 ?_
                  refine ji_top (b := v) (uI_s) ?_
                  refine lv_istore_n (lv' := [(1, .int (jI v)), (0, .ref h), (2, .int (jI k)), (3, .int (jI zg)), (4, .int (jI bf))]) hx hb dX1_content_119 rfl hl (by decide) rfl (fun ls hl => ?_)
                  exact mg v (by
                    rcases hv with q9 | q9
                    · omega
                    · exact Mx_new hk.1 hmo (Or.inr q9) q9.1 q9.1 (by omega)) _ _ hP hD hS ls (lv_sub hl [1, 0, 2] rfl)
              exact ex bf (by
                have e9 : b = k := by omega
                rw [e9] at hbf
                rcases hzg with q9 | q9
                · exact Or.inl ⟨q9.1, hbf⟩
                · exact Or.inr q9.1) _ _ hP hD hS ls (lv_sub hl [0, 1, 2, 3, 4] rfl)
            · refine lv_iload_n hx hb dX1_content_30 rfl (lv_at hl 3 rfl) ?_
              refine ji_if_eq (tgt := 85) hx hb dX1_content_31 (by decide) (by omega) (fun c_6 => ?_) (fun c_6 => ?_)
              · have st : ∀ (v : Int) (hv : Pl1 wd wi L k v) (H : Heap) (locs : List Loc) (hP : va_P (dC, dI) vwCl (wX d h a1 a2 a3 a4 a5 L n wd wi wt pts pt q) H) (hD : va_D A (wX d h a1 a2 a3 a4 a5 L n wd wi wt pts pt q)) (hS : va_S A s.heap H locs) (ls : Array Slot) (hl : lv_has ls 6 [(0, .ref h), (1, .int (jI mo)), (2, .int (jI k)), (3, .int (jI zg)), (4, .int (jI bf))]), W p l e (headSpec (ws_ yX1_content cX1_content 6 (some .int)) ({ frames := 1, cells := 0, slots := 0, locals := 21 })).room s m ([.ref h] : List Value).toArray below meth c H locs 0 0 (MQ below (wXQi dC dI d h a1 a2 a3 a4 a5 L A (fun z u => ∃ pts1 pt1 pl1, u = (n, wd, wi, wt, pts1, pt1, pl1) ∧ Mx wd wi L n L z)) ([.ref h] : List Value).toArray s 0 0 A) (F0 m 102 ls [.int (jI v), .int (jI k), .ref a5]) := by
                  intro v hv H locs hP hD hS ls hl
                  have hbv := Pl1_bd hk.1 hv
                  refine ji_st (f := q) (n := 10) (cA := d) (i := k) (x := v) hx hb hK hP hD hS 5 0 rfl rfl (by omega) (by decide) dX1_content_102 (fun H locs hP hD hS => ?_)
                  have hP : va_P (dC, dI) vwCl (wX d h a1 a2 a3 a4 a5 L n wd wi wt pts pt (uI q k v)) H := hP
                  have hD : va_D A (wX d h a1 a2 a3 a4 a5 L n wd wi wt pts pt (uI q k v)) := hD
                  have mg : ∀ (mo2 : Int) (hmo2 : Mx wd wi L (k + 1) L mo2) (H : Heap) (locs : List Loc) (hP : va_P (dC, dI) vwCl (wX d h a1 a2 a3 a4 a5 L n wd wi wt pts pt (uI q k v)) H) (hD : va_D A (wX d h a1 a2 a3 a4 a5 L n wd wi wt pts pt (uI q k v))) (hS : va_S A s.heap H locs) (ls : Array Slot) (hl : lv_has ls 6 [(0, .ref h), (1, .int (jI mo2)), (2, .int (jI k))]), W p l e (headSpec (ws_ yX1_content cX1_content 6 (some .int)) ({ frames := 1, cells := 0, slots := 0, locals := 21 })).room s m ([.ref h] : List Value).toArray below meth c H locs 0 0 (MQ below (wXQi dC dI d h a1 a2 a3 a4 a5 L A (fun z u => ∃ pts1 pt1 pl1, u = (n, wd, wi, wt, pts1, pt1, pl1) ∧ Mx wd wi L n L z)) ([.ref h] : List Value).toArray s 0 0 A) (F0 m 120 ls []) := by
                    intro mo2 hmo2 H locs hP hD hS ls hl
                    refine ji_iinc (v := k + 1) (lv' := [(2, .int (jI (k + 1))), (0, .ref h), (1, .int (jI mo2))]) hx hb dX1_content_120 hl (k := 2) rfl (by omega) (by decide) rfl (fun ls hl => ?_)
                    refine lv_goto (tgt := 4) hx hb dX1_content_123 (by decide) ?_
                    exact ih_lo1 mo2 (k + 1) (uI q k v) (by omega) hmo2 (fun b q1 q2 => by
                      by_cases q3 : b = k
                      · rw [q3, uI_s]; exact hv
                      · rw [uI_n q3]; exact hpl b q1 (by omega)) (by omega) _ _ hP hD hS ls (lv_sub hl [1, 2, 0] rfl)
                  refine lv_aload_n hx hb dX1_content_103 rfl (lv_at hl 0 rfl) ?_
                  refine va_get (D := (dC, dI)) (ci := 0) (v := .ref a5) (C := RX1) (T := TX1) (N := 8) hx hb hts in_X1 hown hK hP 0 rfl rfl 7 (by decide) (hts _ q37) (fun _ h9 => h9) rfl dX1_content_104 ?_
                  refine lv_iload_n hx hb dX1_content_107 rfl (lv_at hl 2 rfl) ?_
                  refine ji_ld (f := (uI q k v)) (n := 10) (cA := d) hx hb hK hP 5 0 rfl rfl (by omega) (by decide) dX1_content_108 ?_
                  refine ji_top (b := v) (uI_s) ?_
                  refine lv_iload_n hx hb dX1_content_109 rfl (lv_at hl 1 rfl) ?_
                  refine ji_icmp_le (tgt := 120) hx hb dX1_content_110 (by decide) (by omega) (by omega) (fun c_7 => ?_) (fun c_7 => ?_)
                  · exact mg mo (Mx_keep hk.1 hmo hv (by omega)) _ _ hP hD hS ls (lv_sub hl [0, 1, 2] rfl)
                  · refine lv_aload_n hx hb dX1_content_113 rfl (lv_at hl 0 rfl) ?_
                    refine va_get (D := (dC, dI)) (ci := 0) (v := .ref a5) (C := RX1) (T := TX1) (N := 8) hx hb hts in_X1 hown hK hP 0 rfl rfl 7 (by decide) (hts _ q37) (fun _ h9 => h9) rfl dX1_content_114 ?_
                    refine lv_iload_n hx hb dX1_content_117 rfl (lv_at hl 2 rfl) ?_
                    refine ji_ld (f := (uI q k v)) (n := 10) (cA := d) hx hb hK hP 5 0 rfl rfl (by omega) (by decide) dX1_content_118 ?_
                    refine ji_top (b := v) (uI_s) ?_
                    refine lv_istore_n (lv' := [(1, .int (jI v)), (0, .ref h), (2, .int (jI k)), (3, .int (jI zg)), (4, .int (jI bf))]) hx hb dX1_content_119 rfl hl (by decide) rfl (fun ls hl => ?_)
                    exact mg v (by
                      rcases hv with q9 | q9
                      · omega
                      · exact Mx_new hk.1 hmo (Or.inr q9) q9.1 q9.1 (by omega)) _ _ hP hD hS ls (lv_sub hl [1, 0, 2] rfl)
                exact ex bf (Or.inr (by omega)) _ _ hP hD hS ls (lv_sub hl [0, 1, 2, 3, 4] rfl)
              · have nxt : ∀ (bf2 : Int) (hbf2 : Mx wd wi L (b + 1) (wi k) bf2) (H : Heap) (locs : List Loc) (hP : va_P (dC, dI) vwCl (wX d h a1 a2 a3 a4 a5 L n wd wi wt pts pt q) H) (hD : va_D A (wX d h a1 a2 a3 a4 a5 L n wd wi wt pts pt q)) (hS : va_S A s.heap H locs) (ls : Array Slot) (hl : lv_has ls 6 [(0, .ref h), (1, .int (jI mo)), (2, .int (jI k)), (3, .int (jI zg)), (4, .int (jI bf2)), (5, .int (jI b))]), W p l e (headSpec (ws_ yX1_content cX1_content 6 (some .int)) ({ frames := 1, cells := 0, slots := 0, locals := 21 })).room s m ([.ref h] : List Value).toArray below meth c H locs 0 0 (MQ below (wXQi dC dI d h a1 a2 a3 a4 a5 L A (fun z u => ∃ pts1 pt1 pl1, u = (n, wd, wi, wt, pts1, pt1, pl1) ∧ Mx wd wi L n L z)) ([.ref h] : List Value).toArray s 0 0 A) (F0 m 79 ls []) := by
                  intro bf2 hbf2 H locs hP hD hS ls hl
                  refine ji_iinc (v := b + 1) (lv' := [(5, .int (jI (b + 1))), (0, .ref h), (1, .int (jI mo)), (2, .int (jI k)), (3, .int (jI zg)), (4, .int (jI bf2))]) hx hb dX1_content_79 hl (k := 5) rfl (by omega) (by decide) rfl (fun ls hl => ?_)
                  refine lv_goto (tgt := 24) hx hb dX1_content_82 (by decide) ?_
                  exact ih_lo2 bf2 (b + 1) (by omega) hbf2 (by omega) _ _ hP hD hS ls (lv_sub hl [1, 2, 3, 4, 5, 0] rfl)
                have hfk := hwi k (by omega) (by omega)
                have hgd : wi k + wd k ≤ L := by omega
                have hdk := hwd k (by omega) (by omega)
                refine lv_aload_n hx hb dX1_content_34 rfl (lv_at hl 0 rfl) ?_
                refine va_get (D := (dC, dI)) (ci := 0) (v := .ref a2) (C := RX1) (T := TX1) (N := 8) hx hb hts in_X1 hown hK hP 0 rfl rfl 3 (by decide) (hts _ q33) (fun _ h9 => h9) rfl dX1_content_35 ?_
                refine lv_iload hx hb dX1_content_38 (lv_at hl 5 rfl) ?_
                refine ji_ld (f := wi) (n := 10) (cA := d) hx hb hK hP 2 0 rfl rfl (by omega) (by decide) dX1_content_40 ?_
                have f_8 := hwi b (by omega) (by omega)
                refine lv_aload_n hx hb dX1_content_41 rfl (lv_at hl 0 rfl) ?_
                refine va_get (D := (dC, dI)) (ci := 0) (v := .ref a1) (C := RX1) (T := TX1) (N := 8) hx hb hts in_X1 hown hK hP 0 rfl rfl 2 (by decide) (hts _ q32) (fun _ h9 => h9) rfl dX1_content_42 ?_
                refine lv_iload hx hb dX1_content_45 (lv_at hl 5 rfl) ?_
                refine ji_ld (f := wd) (n := 10) (cA := d) hx hb hK hP 1 0 rfl rfl (by omega) (by decide) dX1_content_47 ?_
                have f_9 := hwd b (by omega) (by omega)
                refine ji_add hx hb dX1_content_48 ?_
                refine lv_aload_n hx hb dX1_content_49 rfl (lv_at hl 0 rfl) ?_
                refine va_get (D := (dC, dI)) (ci := 0) (v := .ref a2) (C := RX1) (T := TX1) (N := 8) hx hb hts in_X1 hown hK hP 0 rfl rfl 3 (by decide) (hts _ q33) (fun _ h9 => h9) rfl dX1_content_50 ?_
                refine lv_iload_n hx hb dX1_content_53 rfl (lv_at hl 2 rfl) ?_
                refine ji_ld (f := wi) (n := 10) (cA := d) hx hb hK hP 2 0 rfl rfl (by omega) (by decide) dX1_content_54 ?_
                have f_10 := hwi k (by omega) (by omega)
                refine ji_icmp_gt (tgt := 79) hx hb dX1_content_55 (by decide) (by omega) (by omega) (fun c_11 => ?_) (fun c_11 => ?_)
                · exact nxt bf (Mx_skip hb2.1 hbf (by omega)) _ _ hP hD hS ls (lv_sub hl [0, 1, 2, 3, 4, 5] rfl)
                · have hpb := hpl b (by omega) (by omega)
                  have hpb2 := Pl1_bd hb2.1 hpb
                  refine lv_aload_n hx hb dX1_content_58 rfl (lv_at hl 0 rfl) ?_
                  refine va_get (D := (dC, dI)) (ci := 0) (v := .ref a5) (C := RX1) (T := TX1) (N := 8) hx hb hts in_X1 hown hK hP 0 rfl rfl 7 (by decide) (hts _ q37) (fun _ h9 => h9) rfl dX1_content_59 ?_
                  refine lv_iload hx hb dX1_content_62 (lv_at hl 5 rfl) ?_
                  refine ji_ld (f := q) (n := 10) (cA := d) hx hb hK hP 5 0 rfl rfl (by omega) (by decide) dX1_content_64 ?_
                  refine lv_iload hx hb dX1_content_65 (lv_at hl 4 rfl) ?_
                  refine ji_icmp_le (tgt := 79) hx hb dX1_content_67 (by decide) (by omega) (by omega) (fun c_12 => ?_) (fun c_12 => ?_)
                  · exact nxt bf (Mx_keep hb2.1 hbf hpb (by omega)) _ _ hP hD hS ls (lv_sub hl [0, 1, 2, 3, 4, 5] rfl)
                  · refine lv_aload_n hx hb dX1_content_70 rfl (lv_at hl 0 rfl) ?_
                    refine va_get (D := (dC, dI)) (ci := 0) (v := .ref a5) (C := RX1) (T := TX1) (N := 8) hx hb hts in_X1 hown hK hP 0 rfl rfl 7 (by decide) (hts _ q37) (fun _ h9 => h9) rfl dX1_content_71 ?_
                    refine lv_iload hx hb dX1_content_74 (lv_at hl 5 rfl) ?_
                    refine ji_ld (f := q) (n := 10) (cA := d) hx hb hK hP 5 0 rfl rfl (by omega) (by decide) dX1_content_76 ?_
                    refine lv_istore (lv' := [(4, .int (jI (q b))), (0, .ref h), (1, .int (jI mo)), (2, .int (jI k)), (3, .int (jI zg)), (5, .int (jI b))]) hx hb dX1_content_77 hl (by decide) rfl (fun ls hl => ?_)
                    exact nxt (q b) (Mx_new hb2.1 hbf hpb (by omega) (by omega) (by omega)) _ _ hP hD hS ls (lv_sub hl [1, 2, 3, 4, 0, 5] rfl)
        exact lo2 _ 0 0 (by omega) (Mx_0 wd wi L (wi k)) (Nat.lt_succ_self _) _ _ hP hD hS ls (lv_sub hl [3, 4, 5, 2, 1, 0] rfl)
  exact lo1 _ 0 0 pl (by omega) (Mx_0 wd wi L L) (fun b q1 q2 => absurd q2 (by omega)) (Nat.lt_succ_self _) _ _ hP hD hS ls (lv_sub hl [2, 1, 0] rfl)
end
section
/-! THE MODEL'S TABLES, in plain numbers -/
theorem ResN_bd {P : Int → Prop} {z : Int} (h : ResN P z) (hb : ∀ v, P v → 0 ≤ v ∧ v ≤ 3000) : 0 ≤ z ∧ z ≤ 1000000 ∧ (z = 1000000 → ∀ v, ¬ P v) ∧ (z ≠ 1000000 → Lst P z ∧ z ≤ 3000) := by
  rcases h with ⟨rfl, h⟩ | ⟨hz, h⟩
  · exact ⟨by omega, by omega, fun _ => h, fun q => absurd rfl q⟩
  · have h1 := hb _ h.1
    exact ⟨by omega, by omega, fun q => by omega, fun _ => ⟨h, by omega⟩⟩
theorem ResN_iff {P Q : Int → Prop} {z : Int} (h : ResN P z) (e : ∀ v, P v ↔ Q v) : ResN Q z := by
  rcases h with ⟨rfl, h⟩ | ⟨hz, h1, h2⟩
  · exact Or.inl ⟨rfl, fun v hv => h v ((e v).mpr hv)⟩
  · exact Or.inr ⟨hz, (e z).mp h1, fun v hv => h2 v ((e v).mpr hv)⟩
theorem ResN_none {P : Int → Prop} (h : ∀ v, ¬ P v) : ResN P 1000000 := Or.inl ⟨rfl, h⟩
theorem ResN_or {P Q R : Int → Prop} {a b z : Int} (h1 : ResN P a) (h2 : ResN Q b) (e : ∀ v, (P v ∨ Q v) ↔ R v) (hz : (a < b ∧ z = a) ∨ (b ≤ a ∧ z = b)) : ResN R z := by
  refine ResN_iff (P := fun v => P v ∨ Q v) ?_ e
  rcases h1 with ⟨e1, n1⟩ | ⟨e1, p1, l1⟩ <;> rcases h2 with ⟨e2, n2⟩ | ⟨e2, p2, l2⟩
  · refine Or.inl ⟨by omega, fun v hv => ?_⟩
    rcases hv with q | q
    · exact n1 v q
    · exact n2 v q
  · have e3 : z = b := by omega
    subst e3
    refine Or.inr ⟨e2, Or.inr p2, fun v hv => ?_⟩
    rcases hv with q | q
    · exact absurd q (n1 v)
    · exact l2 v q
  · have e3 : z = a := by omega
    subst e3
    refine Or.inr ⟨e1, Or.inl p1, fun v hv => ?_⟩
    rcases hv with q | q
    · exact l1 v q
    · exact absurd q (n2 v)
  · rcases hz with ⟨c, rfl⟩ | ⟨c, rfl⟩
    · refine Or.inr ⟨e1, Or.inl p1, fun v hv => ?_⟩
      rcases hv with q | q
      · exact l1 v q
      · have := l2 v q
        omega
    · refine Or.inr ⟨e2, Or.inr p2, fun v hv => ?_⟩
      rcases hv with q | q
      · have := l1 v q
        omega
      · exact l2 v q
theorem ResN_Res {P : Int → Prop} {z : Int} (h : ResN P z) (hb : ∀ v, P v → 0 ≤ v ∧ v ≤ 3000) : (z = 1000000 → Res P (-6)) ∧ (z ≠ 1000000 → Res P z) := by
  have h1 := ResN_bd h hb
  exact ⟨fun q => Or.inl ⟨rfl, h1.2.2.1 q⟩, fun q => Or.inr (h1.2.2.2 q).1⟩
/-- what own and sum make of the best so far -/
theorem ResN_sum {P Q : Int → Prop} {b o z : Int} (h : ResN P b) (hb : ∀ v, P v → 0 ≤ v ∧ v ≤ 3000) (ho : 0 ≤ o ∧ o ≤ 300) (e : ∀ v, Q v ↔ ∃ v', P v' ∧ v = v' + o) (hz : (b + o < 1000000 ∧ z = b + o) ∨ (1000000 ≤ b + o ∧ z = 1000000)) : ResN Q z := by
  have h1 := ResN_bd h hb
  by_cases q : b = 1000000
  · have h2 := h1.2.2.1 q
    have e3 : z = 1000000 := by omega
    rw [e3]
    exact ResN_none (fun v hv => by obtain ⟨v', a, -⟩ := (e v).mp hv; exact h2 v' a)
  · have h2 := h1.2.2.2 q
    have e3 : z = b + o := by omega
    rw [e3]
    refine Or.inr ⟨by omega, (e _).mpr ⟨b, h2.1.1, rfl⟩, fun v hv => ?_⟩
    obtain ⟨v', a, rfl⟩ := (e v).mp hv
    have := h2.1.2 v' a
    omega
def UpT (wd wi wt : Int → Int) (L k : Int) (g : Int → Int) : Prop := ∀ i x, 0 ≤ i → i < k → 0 ≤ x → x ≤ 60 → ResN (Upx wd wi wt i x L) (g (i * 61 + x))
def UpR (wd wi wt : Int → Int) (L i x : Int) (g : Int → Int) : Prop := ∀ x', 0 ≤ x' → x' < x → ResN (Upx wd wi wt i x' L) (g (i * 61 + x'))
/-- the best of fillUp: the cells before i, right edge up to r -/
def BU (wd wi wt : Int → Int) (L i r b : Int) : Prop := (i = 0 ∧ b = 0) ∨ (0 < i ∧ ResN (Fi wd wi wt 0 i 0 (min r L)) b)
theorem BU_start {L n : Int} {wd wi wt : Int → Int} (hok : Ok L n wd wi wt) {i : Int} (hi : 0 < i ∧ i ≤ n) : BU wd wi wt L i (-1) 1000000 := by
  obtain ⟨hLn, hwd, -, -⟩ := hok
  refine Or.inr ⟨hi.1, ResN_none (fun v hv => ?_)⟩
  have f1 := Fi_fit hv
  have f2 := sWi_rng wd (a := 0) (b := i) (lo := 1) (hi := 5) (by omega) (fun j q1 q2 => hwd j (by omega) (by omega))
  omega
theorem BU_bd {L n : Int} {wd wi wt : Int → Int} (hok : Ok L n wd wi wt) {i r b : Int} (hi : 0 ≤ i ∧ i ≤ n) (h : BU wd wi wt L i r b) : 0 ≤ b ∧ b ≤ 1000000 := by
  have hok2 := hok
  obtain ⟨hLn, -, -, -⟩ := hok2
  rcases h with h | h
  · omega
  · have := ResN_bd h.2 (fun v hv => Fi_bd hok (a := 0) (b := i) (lf := 0) (rt := min r L) ⟨by omega, by omega, by omega⟩ (by omega) (by omega) hv)
    omega
theorem Fi_nn {L n : Int} {wd wi wt : Int → Int} (hok : Ok L n wd wi wt) {a b lf x v : Int} (ha : 0 ≤ a ∧ a ≤ b ∧ b ≤ n) (h : Fi wd wi wt a b lf x v) : lf ≤ x := by
  obtain ⟨hLn, hwd, -, -⟩ := hok
  have f1 := Fi_fit h
  have f2 := sWi_rng wd (a := a) (b := b) (lo := 1) (hi := 5) (by omega) (fun j q1 q2 => hwd j (by omega) (by omega))
  omega
theorem BU_skip {L n : Int} {wd wi wt : Int → Int} (hok : Ok L n wd wi wt) {i x b bv : Int} (hi : 0 ≤ i ∧ i ≤ n) (h : BU wd wi wt L i (x - 1) b) (hbv : (i = 0 ∧ bv = -1) ∨ (0 < i ∧ bv = x - wd (i - 1))) (hn : bv < 0) : BU wd wi wt L i x b := by
  rcases h with h | ⟨hi0, h⟩
  · exact Or.inl h
  · refine Or.inr ⟨hi0, ResN_iff h (fun v => ⟨fun hv => ?_, fun hv => ?_⟩)⟩ <;>
    · rw [show i = i - 1 + 1 by omega] at hv
      obtain ⟨x', v', h1, h2, -⟩ := (Fi_s (by omega)).mp hv
      have f1 := Fi_nn hok ⟨by omega, by omega, by omega⟩ h1
      omega
theorem BU_step {L n : Int} {wd wi wt : Int → Int} (hok : Ok L n wd wi wt) {i x b bv t z : Int} (hi : 0 ≤ i ∧ i ≤ n) (h : BU wd wi wt L i (x - 1) b) (hbv : (i = 0 ∧ bv = -1) ∨ (0 < i ∧ bv = x - wd (i - 1))) (hn : 0 ≤ bv) (ht : ResN (Upx wd wi wt (i - 1) bv L) t) (hz : (b < t ∧ z = b) ∨ (t ≤ b ∧ z = t)) : BU wd wi wt L i x z := by
  rcases h with h | ⟨hi0, h⟩
  · omega
  · refine Or.inr ⟨hi0, ResN_or h ht (fun v => ?_) hz⟩
    rw [show Fi wd wi wt 0 i 0 (min (x - 1) L) v = Fi wd wi wt 0 (i - 1 + 1) 0 (min (x - 1) L) v by rw [show i - 1 + 1 = i by omega], show Fi wd wi wt 0 i 0 (min x L) v = Fi wd wi wt 0 (i - 1 + 1) 0 (min x L) v by rw [show i - 1 + 1 = i by omega], Fi_s (by omega), Fi_s (by omega)]
    constructor
    · intro hv
      rcases hv with ⟨x', v', h1, h2, h3⟩ | ⟨x0, v', h1, h2, h3⟩
      · exact ⟨x', v', h1, by omega, h3⟩
      · exact ⟨bv, v', h1, by omega, h3⟩
    · rintro ⟨x', v', h1, h2, h3⟩
      by_cases q : x' + wd (i - 1) ≤ min (x - 1) L
      · exact Or.inl ⟨x', v', h1, q, h3⟩
      · have e : x' = bv := by omega
        subst e
        exact Or.inr ⟨hn, v', h1, by omega, h3⟩
theorem own_bd {L n : Int} {wd wi wt : Int → Int} (hok : Ok L n wd wi wt) {i x o : Int} (hi : 0 ≤ i ∧ i < n) (ho : ((x < 0 ∨ L < x + wd i) ∧ o = 1000000) ∨ (0 ≤ x ∧ x + wd i ≤ L ∧ o = wt i * dst x (wi i))) : 0 ≤ o ∧ o ≤ 1000000 ∧ (o ≠ 1000000 → o ≤ 300) ∧ (0 ≤ x → x + wd i ≤ L → o ≤ 300 ∧ o = wt i * dst x (wi i)) := by
  obtain ⟨hLn, hwd, hwi, hwt⟩ := hok
  have w1 := hwd i hi.1 hi.2
  have w2 := hwi i hi.1 hi.2
  have w3 := hwt i hi.1 hi.2
  have f3 := dst_spec x (wi i)
  rcases ho with ho | ho
  · omega
  · have f4 := mul_bd w3 (show 0 ≤ dst x (wi i) ∧ dst x (wi i) ≤ 60 by omega)
    omega
theorem Up_cell {L n : Int} {wd wi wt : Int → Int} (hok : Ok L n wd wi wt) {i x b o z : Int} (hi : 0 ≤ i ∧ i < n) (hx : 0 ≤ x) (h : BU wd wi wt L i x b) (ho : ((x < 0 ∨ L < x + wd i) ∧ o = 1000000) ∨ (0 ≤ x ∧ x + wd i ≤ L ∧ o = wt i * dst x (wi i))) (hz : (b + o < 1000000 ∧ z = b + o) ∨ (1000000 ≤ b + o ∧ z = 1000000)) : ResN (Upx wd wi wt i x L) z := by
  have hob := own_bd hok hi ho
  have hbb := BU_bd hok ⟨hi.1, by omega⟩ h
  have hok2 := hok
  obtain ⟨hLn, hwd, -, -⟩ := hok2
  have w1 := hwd i hi.1 hi.2
  by_cases q : x + wd i ≤ L
  · have o1 := hob.2.2.2 hx q
    have hP : ResN (Fi wd wi wt 0 i 0 x) b := by
      rcases h with ⟨rfl, rfl⟩ | ⟨h1, h2⟩
      · exact Or.inr ⟨by omega, Fi_0.mpr ⟨hx, rfl⟩, fun v hv => by have := (Fi_0.mp hv).2; omega⟩
      · rw [show min x L = x by omega] at h2
        exact h2
    refine ResN_sum hP (fun v hv => Fi_bd hok (a := 0) (b := i) (lf := 0) (rt := x) ⟨by omega, by omega, by omega⟩ (by omega) (by omega) hv) ⟨hob.1, o1.1⟩ (fun v => ?_) hz
    rw [o1.2]
    constructor
    · rintro ⟨-, v', h1, -, h3⟩
      exact ⟨v', h1, h3⟩
    · rintro ⟨v', h1, h3⟩
      exact ⟨hx, v', h1, q, h3⟩
  · have e3 : z = 1000000 := by omega
    rw [e3]
    exact ResN_none (fun v hv => by obtain ⟨-, v', -, h2, -⟩ := hv; exact q h2)
theorem UpT_put {wd wi wt : Int → Int} {L k i x z : Int} {g : Int → Int} (h : UpT wd wi wt L i g) (hx : 0 ≤ x) (hR : UpR wd wi wt L i x g) (hz : ResN (Upx wd wi wt i x L) z) : UpT wd wi wt L i (uI g (i * 61 + x) z) ∧ UpR wd wi wt L i (x + 1) (uI g (i * 61 + x) z) := by
  refine ⟨fun j y h1 h2 h3 h4 => ?_, fun y h1 h2 => ?_⟩
  · rw [uI_n (by omega)]
    exact h j y h1 h2 h3 h4
  · by_cases q : y = x
    · rw [q, uI_s]; exact hz
    · rw [uI_n (by omega)]
      exact hR y h1 (by omega)
theorem UpT_next {wd wi wt : Int → Int} {L i : Int} {g : Int → Int} (h : UpT wd wi wt L i g) (hR : UpR wd wi wt L i 61 g) : UpT wd wi wt L (i + 1) g := by
  intro j y h1 h2 h3 h4
  by_cases q : j = i
  · rw [q]; exact hR y h3 (by omega)
  · exact h j y h1 (by omega) h3 h4
/-- the first cell taken off instead of the last -/
theorem Fi_f0 {wd wi wt : Int → Int} {a lf : Int} : ∀ (k : Nat) (rt v : Int), Fi wd wi wt a (a + 1 + k) lf rt v ↔ ∃ x v', lf ≤ x ∧ Fi wd wi wt (a + 1) (a + 1 + k) (x + wd a) rt v' ∧ v = v' + wt a * dst x (wi a)
  | 0, rt, v => by
    rw [show a + 1 + ((0 : Nat) : Int) = a + 1 by omega, Fi_s (Int.le_refl a)]
    constructor
    · rintro ⟨x, v', h1, h2, h3⟩
      have h1 := Fi_0.mp h1
      exact ⟨x, 0, h1.1, Fi_0.mpr ⟨h2, rfl⟩, by omega⟩
    · rintro ⟨x, v', h1, h2, h3⟩
      have h2 := Fi_0.mp h2
      exact ⟨x, 0, Fi_0.mpr ⟨h1, rfl⟩, h2.1, by omega⟩
  | k + 1, rt, v => by
    rw [show a + 1 + ((k + 1 : Nat) : Int) = a + 1 + k + 1 by omega, Fi_s (by omega)]
    constructor
    · rintro ⟨y, u, h1, h2, h3⟩
      obtain ⟨x, v', g1, g2, g3⟩ := (Fi_f0 k y u).mp h1
      exact ⟨x, v' + wt (a + 1 + k) * dst y (wi (a + 1 + k)), g1, (Fi_s (by omega)).mpr ⟨y, v', g2, h2, rfl⟩, by omega⟩
    · rintro ⟨x, w, g1, g2, g3⟩
      obtain ⟨y, v', h1, h2, h3⟩ := (Fi_s (by omega)).mp g2
      exact ⟨y, v' + wt a * dst x (wi a), (Fi_f0 k y _).mpr ⟨x, v', g1, h1, rfl⟩, h2, by omega⟩
theorem Fi_f {wd wi wt : Int → Int} {a b lf rt v : Int} (h : a < b) : Fi wd wi wt a b lf rt v ↔ ∃ x v', lf ≤ x ∧ Fi wd wi wt (a + 1) b (x + wd a) rt v' ∧ v = v' + wt a * dst x (wi a) := by
  have h1 := Fi_f0 (wd := wd) (wi := wi) (wt := wt) (a := a) (lf := lf) (b - (a + 1)).toNat rt v
  rw [show a + 1 + ((b - (a + 1)).toNat : Int) = b by omega] at h1
  exact h1
/-- v is what some placing of cell i at x, and of the cells behind it, costs -/
def Dnx (wd wi wt : Int → Int) (n L i x v : Int) : Prop := 0 ≤ x ∧ ∃ v', Fi wd wi wt (i + 1) n (x + wd i) L v' ∧ v = v' + wt i * dst x (wi i)
def DnT (wd wi wt : Int → Int) (n L k : Int) (g : Int → Int) : Prop := ∀ i x, k ≤ i → i < n → 0 ≤ x → x ≤ 60 → ResN (Dnx wd wi wt n L i x) (g (i * 61 + x))
def DnR (wd wi wt : Int → Int) (n L i x : Int) (g : Int → Int) : Prop := ∀ x', x < x' → x' ≤ 60 → ResN (Dnx wd wi wt n L i x') (g (i * 61 + x'))
/-- the best of fillDown: the cells behind i, from r on -/
def BD (wd wi wt : Int → Int) (n L i r b : Int) : Prop := (i + 1 = n ∧ b = 0) ∨ (i + 1 < n ∧ ResN (Fi wd wi wt (i + 1) n r L) b)
theorem BD_start {L n : Int} {wd wi wt : Int → Int} (hok : Ok L n wd wi wt) {i r : Int} (hi : 0 ≤ i ∧ i + 1 < n) (hr : 61 ≤ r) : BD wd wi wt n L i r 1000000 := by
  have hok2 := hok
  obtain ⟨hLn, -, -, -⟩ := hok2
  exact Or.inr ⟨hi.2, ResN_none (fun v hv => by have := Fi_nn hok ⟨by omega, by omega, by omega⟩ hv; omega)⟩
theorem BD_bd {L n : Int} {wd wi wt : Int → Int} (hok : Ok L n wd wi wt) {i r b : Int} (hi : 0 ≤ i ∧ i < n) (hr : 0 ≤ r) (h : BD wd wi wt n L i r b) : 0 ≤ b ∧ b ≤ 1000000 := by
  have hok2 := hok
  obtain ⟨hLn, -, -, -⟩ := hok2
  rcases h with h | h
  · omega
  · have := ResN_bd h.2 (fun v hv => Fi_bd hok (a := i + 1) (b := n) (lf := r) (rt := L) ⟨by omega, by omega, by omega⟩ (by omega) (by omega) hv)
    omega
theorem BD_last {wd wi wt : Int → Int} {n L i r r' b : Int} (hi : n ≤ i + 1) (h : BD wd wi wt n L i r b) : BD wd wi wt n L i r' b := by
  rcases h with h | h
  · exact Or.inl h
  · omega
theorem BD_far {L n : Int} {wd wi wt : Int → Int} (hok : Ok L n wd wi wt) {i r r' b : Int} (hi : 0 ≤ i ∧ i + 1 < n) (hr : 61 ≤ r) (hr' : 61 ≤ r') (h : BD wd wi wt n L i r b) : BD wd wi wt n L i r' b := by
  have hok2 := hok
  obtain ⟨hLn, -, -, -⟩ := hok2
  rcases h with h | h
  · omega
  · refine Or.inr ⟨h.1, ResN_iff h.2 (fun v => ⟨fun hv => ?_, fun hv => ?_⟩)⟩ <;>
    · have := Fi_nn hok ⟨by omega, by omega, by omega⟩ hv
      omega
theorem BD_step {wd wi wt : Int → Int} {n L i r b t z : Int} (hi : i + 1 < n) (hr : 0 ≤ r) (h : BD wd wi wt n L i (r + 1) b) (ht : ResN (Dnx wd wi wt n L (i + 1) r) t) (hz : (b < t ∧ z = b) ∨ (t ≤ b ∧ z = t)) : BD wd wi wt n L i r z := by
  rcases h with h | ⟨hi0, h⟩
  · omega
  · refine Or.inr ⟨hi0, ResN_or h ht (fun v => ?_) hz⟩
    rw [Fi_f hi, Fi_f hi]
    constructor
    · intro hv
      rcases hv with ⟨x', v', h1, h2, h3⟩ | ⟨x0, v', h1, h3⟩
      · exact ⟨x', v', by omega, h2, h3⟩
      · exact ⟨r, v', by omega, h1, h3⟩
    · rintro ⟨x', v', h1, h2, h3⟩
      by_cases q : r + 1 ≤ x'
      · exact Or.inl ⟨x', v', q, h2, h3⟩
      · have e : x' = r := by omega
        subst e
        exact Or.inr ⟨hr, v', h2, h3⟩
theorem Dn_cell {L n : Int} {wd wi wt : Int → Int} (hok : Ok L n wd wi wt) {i x b o z : Int} (hi : 0 ≤ i ∧ i < n) (hx : 0 ≤ x) (h : BD wd wi wt n L i (x + wd i) b) (ho : ((x < 0 ∨ L < x + wd i) ∧ o = 1000000) ∨ (0 ≤ x ∧ x + wd i ≤ L ∧ o = wt i * dst x (wi i))) (hz : (b + o < 1000000 ∧ z = b + o) ∨ (1000000 ≤ b + o ∧ z = 1000000)) : ResN (Dnx wd wi wt n L i x) z := by
  have hob := own_bd hok hi ho
  have hok2 := hok
  obtain ⟨hLn, hwd, -, -⟩ := hok2
  have w1 := hwd i hi.1 hi.2
  have hbb := BD_bd hok hi (by omega) h
  by_cases q : x + wd i ≤ L
  · have o1 := hob.2.2.2 hx q
    have hP : ResN (Fi wd wi wt (i + 1) n (x + wd i) L) b := by
      rcases h with ⟨h1, rfl⟩ | ⟨h1, h2⟩
      · rw [h1]
        exact Or.inr ⟨by omega, Fi_0.mpr ⟨q, rfl⟩, fun v hv => by have := (Fi_0.mp hv).2; omega⟩
      · exact h2
    refine ResN_sum hP (fun v hv => Fi_bd hok (a := i + 1) (b := n) (lf := x + wd i) (rt := L) ⟨by omega, by omega, by omega⟩ (by omega) (by omega) hv) ⟨hob.1, o1.1⟩ (fun v => ?_) hz
    rw [o1.2]
    constructor
    · rintro ⟨-, v', h1, h3⟩
      exact ⟨v', h1, h3⟩
    · rintro ⟨v', h1, h3⟩
      exact ⟨hx, v', h1, h3⟩
  · have e3 : z = 1000000 := by omega
    rw [e3]
    exact ResN_none (fun v hv => by
      obtain ⟨-, v', h2, -⟩ := hv
      have := Fi_nn hok ⟨by omega, by omega, by omega⟩ h2
      exact q this)
theorem DnT_put {wd wi wt : Int → Int} {n L i x z : Int} {g : Int → Int} (h : DnT wd wi wt n L (i + 1) g) (hx : 0 ≤ x ∧ x ≤ 60) (hR : DnR wd wi wt n L i x g) (hz : ResN (Dnx wd wi wt n L i x) z) : DnT wd wi wt n L (i + 1) (uI g (i * 61 + x) z) ∧ DnR wd wi wt n L i (x - 1) (uI g (i * 61 + x) z) := by
  refine ⟨fun j y h1 h2 h3 h4 => ?_, fun y h1 h2 => ?_⟩
  · rw [uI_n (by omega)]
    exact h j y h1 h2 h3 h4
  · by_cases q : y = x
    · rw [q, uI_s]; exact hz
    · rw [uI_n (by omega)]
      exact hR y (by omega) h2
theorem DnT_next {wd wi wt : Int → Int} {n L i : Int} {g : Int → Int} (h : DnT wd wi wt n L (i + 1) g) (hR : DnR wd wi wt n L i (-1) g) : DnT wd wi wt n L (i - 1 + 1) g := by
  intro j y h1 h2 h3 h4
  by_cases q : j = i
  · rw [q]; exact hR y (by omega) h4
  · exact h j y (by omega) h2 h3 h4
/-- leastUp's loop -/
def LU (wd wi wt : Int → Int) (L i x v : Int) : Prop := ∃ x', 0 ≤ x' ∧ x' < x ∧ Upx wd wi wt i x' L v
theorem LU_0 (wd wi wt : Int → Int) (L i : Int) : ResN (LU wd wi wt L i 0) 1000000 := ResN_none (fun v hv => by obtain ⟨x', h1, h2, -⟩ := hv; omega)
theorem LU_step {wd wi wt : Int → Int} {L i x b t z : Int} (hx : 0 ≤ x) (h : ResN (LU wd wi wt L i x) b) (ht : ResN (Upx wd wi wt i x L) t) (hz : (b < t ∧ z = b) ∨ (t ≤ b ∧ z = t)) : ResN (LU wd wi wt L i (x + 1)) z := by
  refine ResN_or h ht (fun v => ⟨fun hv => ?_, fun hv => ?_⟩) hz
  · rcases hv with ⟨x', h1, h2, h3⟩ | h3
    · exact ⟨x', h1, by omega, h3⟩
    · exact ⟨x, hx, by omega, h3⟩
  · obtain ⟨x', h1, h2, h3⟩ := hv
    by_cases q : x' = x
    · rw [q] at h3; exact Or.inr h3
    · exact Or.inl ⟨x', h1, by omega, h3⟩
theorem LU_end {L n : Int} {wd wi wt : Int → Int} (hok : Ok L n wd wi wt) {i b : Int} (hi : 0 ≤ i ∧ i < n) (h : ResN (LU wd wi wt L i 61) b) : ResN (Fi wd wi wt 0 (i + 1) 0 L) b := by
  have hok2 := hok
  obtain ⟨hLn, hwd, -, -⟩ := hok2
  have w1 := hwd i hi.1 hi.2
  refine ResN_iff h (fun v => ?_)
  rw [Fi_s hi.1]
  constructor
  · rintro ⟨x', h1, h2, h3, v', h4, h5, h6⟩
    exact ⟨x', v', h4, h5, h6⟩
  · rintro ⟨x', v', h4, h5, h6⟩
    have f1 := Fi_nn hok ⟨by omega, by omega, by omega⟩ h4
    exact ⟨x', f1, by omega, f1, v', h4, h5, h6⟩
theorem LU_bd {L n : Int} {wd wi wt : Int → Int} (hok : Ok L n wd wi wt) {i x b : Int} (hi : 0 ≤ i ∧ i < n) (h : ResN (LU wd wi wt L i x) b) : 0 ≤ b ∧ b ≤ 1000000 := by
  have hok2 := hok
  obtain ⟨hLn, -, -, -⟩ := hok2
  have := ResN_bd h (fun v hv => by obtain ⟨x', -, -, h3⟩ := hv; exact Upx_bd hok hi (by omega) h3)
  omega
end
section
set_option maxHeartbeats 4000000 in
set_option maxRecDepth 100000 in
theorem metX2_badWish (l : Launch) (dC : Nat → ClassId) (dI : Nat → Nat → Nat) (d : ClassId) (h b1 b2 b3 b4 b5 b6 : Nat) (L : Int) (n : Int) (wd : Int → Int) (wi : Int → Int) (wt : Int → Int) (up : Int → Int) (dn : Int → Int) (ch : Int → Int) (x : Int) (hx1 : -2147483648 ≤ x ∧ x < 2147483648) : Met l yX2_badWish (ws_ yX2_badWish cX2_badWish 2 (some .boolean)) ({ frames := 0, cells := 0, slots := 0, locals := 0 }) (zPp dC dI (wM d h b1 b2 b3 b4 b5 b6 L n wd wi wt up dn ch) d [.ref h, .int (jI x)]) (vp_Si (fun r => ∃ z : Int, r = jI z ∧ ((z = 1 ∧ (x < 0 ∨ 60 < x)) ∨ (z = 0 ∧ 0 ≤ x ∧ x ≤ 60)))) 0 0 (fun _ => False) := by
  refine Met.ofW (cc := cX2_badWish) (maxL := 2) (ret := (some .boolean)) (by decide) rfl ?_
  intro p e s m args below meth c s₁ B hml hv
  obtain ⟨rfl, hP, hK⟩ := hv
  have hx := B.exec
  have hb := B.bytes
  have hr := B.returns
  have hts := atoms_spec (ws := (ws_ yX2_badWish cX2_badWish 2 (some .boolean))) B.pre
  have hts : ∀ w ∈ lw_all, w.before _ s = true := fun w h => hts w (List.mem_cons_of_mem _ h)
  have hown : s.vm.findClass RX2 = some m.cls := findClass_of_methodNamed B.named
  have hlocks := B.notSynchronized
  have hl := lv_entry ([.ref h, .int (jI x)]) (n := 2) (Nat.le_of_ble_eq_true rfl)
  rw [lg_entry_eq]
  generalize (lg_sl ([.ref h, .int (jI x)]) ++ List.replicate (2 - (lg_sl ([.ref h, .int (jI x)])).length) Slot.unset).toArray = ls at hl ⊢
  have hl : lv_has ls 2 [(0, .ref h), (1, .int (jI x))] := hl
  refine lv_iload_n hx hb dX2_badWish_0 rfl (lv_at hl 1 rfl) ?_
  refine ji_if_lt (tgt := 10) hx hb dX2_badWish_1 (by decide) (by omega) (fun c_1 => ?_) (fun c_1 => ?_)
  · refine ji_const hx hb dX2_badWish_10 ?_
    refine lv_goto (tgt := 15) hx hb dX2_badWish_11 (by decide) ?_
    exact W.zret (v := jI 1) hx hb hr rfl (fun t_ ht_ hW_ => ⟨_, rfl, ⟨1, rfl, by omega⟩, ht_⟩) (fun q hq => by cases hq) dX2_badWish_15
  · refine lv_iload_n hx hb dX2_badWish_4 rfl (lv_at hl 1 rfl) ?_
    refine lv_bipush (v := jI 60) hx hb dX2_badWish_5 (by decide) ?_
    refine ji_icmp_le (tgt := 14) hx hb dX2_badWish_7 (by decide) (by omega) (by omega) (fun c_2 => ?_) (fun c_2 => ?_)
    · refine ji_const hx hb dX2_badWish_14 ?_
      exact W.zret (v := jI 0) hx hb hr rfl (fun t_ ht_ hW_ => ⟨_, rfl, ⟨0, rfl, by omega⟩, ht_⟩) (fun q hq => by cases hq) dX2_badWish_15
    · refine ji_const hx hb dX2_badWish_10 ?_
      refine lv_goto (tgt := 15) hx hb dX2_badWish_11 (by decide) ?_
      exact W.zret (v := jI 1) hx hb hr rfl (fun t_ ht_ hW_ => ⟨_, rfl, ⟨1, rfl, by omega⟩, ht_⟩) (fun q hq => by cases hq) dX2_badWish_15
set_option maxHeartbeats 4000000 in
set_option maxRecDepth 100000 in
theorem metX2_badWeight (l : Launch) (dC : Nat → ClassId) (dI : Nat → Nat → Nat) (d : ClassId) (h b1 b2 b3 b4 b5 b6 : Nat) (L : Int) (n : Int) (wd : Int → Int) (wi : Int → Int) (wt : Int → Int) (up : Int → Int) (dn : Int → Int) (ch : Int → Int) (x : Int) (hx1 : -2147483648 ≤ x ∧ x < 2147483648) : Met l yX2_badWeight (ws_ yX2_badWeight cX2_badWeight 2 (some .boolean)) ({ frames := 0, cells := 0, slots := 0, locals := 0 }) (zPp dC dI (wM d h b1 b2 b3 b4 b5 b6 L n wd wi wt up dn ch) d [.ref h, .int (jI x)]) (vp_Si (fun r => ∃ z : Int, r = jI z ∧ ((z = 1 ∧ (x < 1 ∨ 5 < x)) ∨ (z = 0 ∧ 1 ≤ x ∧ x ≤ 5)))) 0 0 (fun _ => False) := by
  refine Met.ofW (cc := cX2_badWeight) (maxL := 2) (ret := (some .boolean)) (by decide) rfl ?_
  intro p e s m args below meth c s₁ B hml hv
  obtain ⟨rfl, hP, hK⟩ := hv
  have hx := B.exec
  have hb := B.bytes
  have hr := B.returns
  have hts := atoms_spec (ws := (ws_ yX2_badWeight cX2_badWeight 2 (some .boolean))) B.pre
  have hts : ∀ w ∈ lw_all, w.before _ s = true := fun w h => hts w (List.mem_cons_of_mem _ h)
  have hown : s.vm.findClass RX2 = some m.cls := findClass_of_methodNamed B.named
  have hlocks := B.notSynchronized
  have hl := lv_entry ([.ref h, .int (jI x)]) (n := 2) (Nat.le_of_ble_eq_true rfl)
  rw [lg_entry_eq]
  generalize (lg_sl ([.ref h, .int (jI x)]) ++ List.replicate (2 - (lg_sl ([.ref h, .int (jI x)])).length) Slot.unset).toArray = ls at hl ⊢
  have hl : lv_has ls 2 [(0, .ref h), (1, .int (jI x))] := hl
  refine lv_iload_n hx hb dX2_badWeight_0 rfl (lv_at hl 1 rfl) ?_
  refine ji_const hx hb dX2_badWeight_1 ?_
  refine ji_icmp_lt (tgt := 10) hx hb dX2_badWeight_2 (by decide) (by omega) (by omega) (fun c_1 => ?_) (fun c_1 => ?_)
  · refine ji_const hx hb dX2_badWeight_10 ?_
    refine lv_goto (tgt := 15) hx hb dX2_badWeight_11 (by decide) ?_
    exact W.zret (v := jI 1) hx hb hr rfl (fun t_ ht_ hW_ => ⟨_, rfl, ⟨1, rfl, by omega⟩, ht_⟩) (fun q hq => by cases hq) dX2_badWeight_15
  · refine lv_iload_n hx hb dX2_badWeight_5 rfl (lv_at hl 1 rfl) ?_
    refine ji_const hx hb dX2_badWeight_6 ?_
    refine ji_icmp_le (tgt := 14) hx hb dX2_badWeight_7 (by decide) (by omega) (by omega) (fun c_2 => ?_) (fun c_2 => ?_)
    · refine ji_const hx hb dX2_badWeight_14 ?_
      exact W.zret (v := jI 0) hx hb hr rfl (fun t_ ht_ hW_ => ⟨_, rfl, ⟨0, rfl, by omega⟩, ht_⟩) (fun q hq => by cases hq) dX2_badWeight_15
    · refine ji_const hx hb dX2_badWeight_10 ?_
      refine lv_goto (tgt := 15) hx hb dX2_badWeight_11 (by decide) ?_
      exact W.zret (v := jI 1) hx hb hr rfl (fun t_ ht_ hW_ => ⟨_, rfl, ⟨1, rfl, by omega⟩, ht_⟩) (fun q hq => by cases hq) dX2_badWeight_15
set_option maxHeartbeats 4000000 in
set_option maxRecDepth 100000 in
theorem metX2_badCell (l : Launch) (dC : Nat → ClassId) (dI : Nat → Nat → Nat) (d : ClassId) (h b1 b2 b3 b4 b5 b6 : Nat) (L : Int) (n : Int) (wd : Int → Int) (wi : Int → Int) (wt : Int → Int) (up : Int → Int) (dn : Int → Int) (ch : Int → Int) (x : Int) (hn : 0 ≤ n ∧ n ≤ 10) (hx1 : -2147483648 ≤ x ∧ x < 2147483648) : Met l yX2_badCell (ws_ yX2_badCell cX2_badCell 2 (some .boolean)) ({ frames := 0, cells := 0, slots := 0, locals := 0 }) (zPp dC dI (wM d h b1 b2 b3 b4 b5 b6 L n wd wi wt up dn ch) d [.ref h, .int (jI x)]) (vp_Si (fun r => ∃ z : Int, r = jI z ∧ ((z = 1 ∧ (x < 0 ∨ n ≤ x)) ∨ (z = 0 ∧ 0 ≤ x ∧ x < n)))) 0 0 (fun _ => False) := by
  refine Met.ofW (cc := cX2_badCell) (maxL := 2) (ret := (some .boolean)) (by decide) rfl ?_
  intro p e s m args below meth c s₁ B hml hv
  obtain ⟨rfl, hP, hK⟩ := hv
  have hx := B.exec
  have hb := B.bytes
  have hr := B.returns
  have hts := atoms_spec (ws := (ws_ yX2_badCell cX2_badCell 2 (some .boolean))) B.pre
  have hts : ∀ w ∈ lw_all, w.before _ s = true := fun w h => hts w (List.mem_cons_of_mem _ h)
  have hown : s.vm.findClass RX2 = some m.cls := findClass_of_methodNamed B.named
  have hlocks := B.notSynchronized
  have hl := lv_entry ([.ref h, .int (jI x)]) (n := 2) (Nat.le_of_ble_eq_true rfl)
  rw [lg_entry_eq]
  generalize (lg_sl ([.ref h, .int (jI x)]) ++ List.replicate (2 - (lg_sl ([.ref h, .int (jI x)])).length) Slot.unset).toArray = ls at hl ⊢
  have hl : lv_has ls 2 [(0, .ref h), (1, .int (jI x))] := hl
  refine lv_iload_n hx hb dX2_badCell_0 rfl (lv_at hl 1 rfl) ?_
  refine ji_if_lt (tgt := 12) hx hb dX2_badCell_1 (by decide) (by omega) (fun c_1 => ?_) (fun c_1 => ?_)
  · refine ji_const hx hb dX2_badCell_12 ?_
    refine lv_goto (tgt := 17) hx hb dX2_badCell_13 (by decide) ?_
    exact W.zret (v := jI 1) hx hb hr rfl (fun t_ ht_ hW_ => ⟨_, rfl, ⟨1, rfl, by omega⟩, ht_⟩) (fun q hq => by cases hq) dX2_badCell_17
  · refine lv_iload_n hx hb dX2_badCell_4 rfl (lv_at hl 1 rfl) ?_
    refine lv_aload_n hx hb dX2_badCell_5 rfl (lv_at hl 0 rfl) ?_
    refine va_get (D := (dC, dI)) (ci := 1) (v := .int (jI n)) (C := RX2) (T := TX2) (N := 8) hx hb hts in_X2 hown hK hP 0 rfl rfl 1 (by decide) (hts _ q150) (fun _ h9 => h9) rfl dX2_badCell_6 ?_
    refine ji_icmp_lt (tgt := 16) hx hb dX2_badCell_9 (by decide) (by omega) (by omega) (fun c_2 => ?_) (fun c_2 => ?_)
    · refine ji_const hx hb dX2_badCell_16 ?_
      exact W.zret (v := jI 0) hx hb hr rfl (fun t_ ht_ hW_ => ⟨_, rfl, ⟨0, rfl, by omega⟩, ht_⟩) (fun q hq => by cases hq) dX2_badCell_17
    · refine ji_const hx hb dX2_badCell_12 ?_
      refine lv_goto (tgt := 17) hx hb dX2_badCell_13 (by decide) ?_
      exact W.zret (v := jI 1) hx hb hr rfl (fun t_ ht_ hW_ => ⟨_, rfl, ⟨1, rfl, by omega⟩, ht_⟩) (fun q hq => by cases hq) dX2_badCell_17
set_option maxHeartbeats 4000000 in
set_option maxRecDepth 100000 in
theorem metX2_least (l : Launch) (dC : Nat → ClassId) (dI : Nat → Nat → Nat) (d : ClassId) (h b1 b2 b3 b4 b5 b6 : Nat) (L : Int) (n : Int) (wd : Int → Int) (wi : Int → Int) (wt : Int → Int) (up : Int → Int) (dn : Int → Int) (ch : Int → Int) (x : Int) (y : Int) (hx1 : -2147483648 ≤ x ∧ x < 2147483648) (hy1 : -2147483648 ≤ y ∧ y < 2147483648) : Met l yX2_least (ws_ yX2_least cX2_least 3 (some .int)) ({ frames := 0, cells := 0, slots := 0, locals := 0 }) (zPp dC dI (wM d h b1 b2 b3 b4 b5 b6 L n wd wi wt up dn ch) d [.ref h, .int (jI x), .int (jI y)]) (vp_Si (fun r => ∃ z : Int, r = jI z ∧ ((x < y ∧ z = x) ∨ (y ≤ x ∧ z = y)))) 0 0 (fun _ => False) := by
  refine Met.ofW (cc := cX2_least) (maxL := 3) (ret := (some .int)) (by decide) rfl ?_
  intro p e s m args below meth c s₁ B hml hv
  obtain ⟨rfl, hP, hK⟩ := hv
  have hx := B.exec
  have hb := B.bytes
  have hr := B.returns
  have hts := atoms_spec (ws := (ws_ yX2_least cX2_least 3 (some .int))) B.pre
  have hts : ∀ w ∈ lw_all, w.before _ s = true := fun w h => hts w (List.mem_cons_of_mem _ h)
  have hown : s.vm.findClass RX2 = some m.cls := findClass_of_methodNamed B.named
  have hlocks := B.notSynchronized
  have hl := lv_entry ([.ref h, .int (jI x), .int (jI y)]) (n := 3) (Nat.le_of_ble_eq_true rfl)
  rw [lg_entry_eq]
  generalize (lg_sl ([.ref h, .int (jI x), .int (jI y)]) ++ List.replicate (3 - (lg_sl ([.ref h, .int (jI x), .int (jI y)])).length) Slot.unset).toArray = ls at hl ⊢
  have hl : lv_has ls 3 [(0, .ref h), (1, .int (jI x)), (2, .int (jI y))] := hl
  refine lv_iload_n hx hb dX2_least_0 rfl (lv_at hl 1 rfl) ?_
  refine lv_iload_n hx hb dX2_least_1 rfl (lv_at hl 2 rfl) ?_
  refine ji_icmp_ge (tgt := 9) hx hb dX2_least_2 (by decide) (by omega) (by omega) (fun c_1 => ?_) (fun c_1 => ?_)
  · refine lv_iload_n hx hb dX2_least_9 rfl (lv_at hl 2 rfl) ?_
    exact W.iret (v := jI y) hx hb hr (fun t_ ht_ hW_ => ⟨_, rfl, ⟨y, rfl, by omega⟩, ht_⟩) (fun q hq => by cases hq) dX2_least_10
  · refine lv_iload_n hx hb dX2_least_5 rfl (lv_at hl 1 rfl) ?_
    refine lv_goto (tgt := 10) hx hb dX2_least_6 (by decide) ?_
    exact W.iret (v := jI x) hx hb hr (fun t_ ht_ hW_ => ⟨_, rfl, ⟨x, rfl, by omega⟩, ht_⟩) (fun q hq => by cases hq) dX2_least_10
set_option maxHeartbeats 4000000 in
set_option maxRecDepth 100000 in
theorem metX2_sum (l : Launch) (dC : Nat → ClassId) (dI : Nat → Nat → Nat) (d : ClassId) (h b1 b2 b3 b4 b5 b6 : Nat) (L : Int) (n : Int) (wd : Int → Int) (wi : Int → Int) (wt : Int → Int) (up : Int → Int) (dn : Int → Int) (ch : Int → Int) (x : Int) (y : Int) (hx1 : 0 ≤ x ∧ x ≤ 1000000) (hy1 : 0 ≤ y ∧ y ≤ 1000000) : Met l yX2_sum (ws_ yX2_sum cX2_sum 3 (some .int)) ({ frames := 1, cells := 0, slots := 0, locals := 22 }) (zPp dC dI (wM d h b1 b2 b3 b4 b5 b6 L n wd wi wt up dn ch) d [.ref h, .int (jI x), .int (jI y)]) (vp_Si (fun r => ∃ z : Int, r = jI z ∧ ((x + y < 1000000 ∧ z = x + y) ∨ (1000000 ≤ x + y ∧ z = 1000000)))) 0 0 (fun _ => False) := by
  refine Met.ofW (cc := cX2_sum) (maxL := 3) (ret := (some .int)) (by decide) rfl ?_
  intro p e s m args below meth c s₁ B hml hv
  obtain ⟨rfl, hP, hK⟩ := hv
  have hx := B.exec
  have hb := B.bytes
  have hr := B.returns
  have hts := atoms_spec (ws := (ws_ yX2_sum cX2_sum 3 (some .int))) B.pre
  have hts : ∀ w ∈ lw_all, w.before _ s = true := fun w h => hts w (List.mem_cons_of_mem _ h)
  have hown : s.vm.findClass RX2 = some m.cls := findClass_of_methodNamed B.named
  have hlocks := B.notSynchronized
  have hl := lv_entry ([.ref h, .int (jI x), .int (jI y)]) (n := 3) (Nat.le_of_ble_eq_true rfl)
  rw [lg_entry_eq]
  generalize (lg_sl ([.ref h, .int (jI x), .int (jI y)]) ++ List.replicate (3 - (lg_sl ([.ref h, .int (jI x), .int (jI y)])).length) Slot.unset).toArray = ls at hl ⊢
  have hl : lv_has ls 3 [(0, .ref h), (1, .int (jI x)), (2, .int (jI y))] := hl
  refine lv_aload_n hx hb dX2_sum_0 rfl (lv_at hl 0 rfl) ?_
  refine lv_iload_n hx hb dX2_sum_1 rfl (lv_at hl 1 rfl) ?_
  refine lv_iload_n hx hb dX2_sum_2 rfl (lv_at hl 2 rfl) ?_
  refine ji_add hx hb dX2_sum_3 ?_
  refine ji_ldc (z := 1000000) hx hb hown (hts _ q218) (by decide) dX2_sum_4 ?_
  refine vp_callSi (W.runV (As := [.int (jI (x + y)), .int (jI 1000000)]) (rest := []) ⟨hx, hb, hml, hown, hts⟩ (metX2_least l dC dI d h b1 b2 b3 b4 b5 b6 L n wd wi wt up dn ch (x + y) 1000000 (by omega) (by omega)) (cwV 2 hts (lw_V q219 q221 qs13 q21 q222) rfl rfl rfl (by decide +kernel) ⟨Nat.le_of_ble_eq_true rfl, Nat.le_of_ble_eq_true rfl⟩) ⟨zPp_bl, va_recv hK hP (ci := 1) (q0 := 0) rfl rfl, fun U hU hW => ⟨rfl, by rw [hU]; exact hP, va_K.moved hW.alike hK⟩⟩ rfl rfl hl.1 rfl (lv_room (Nat.le_of_ble_eq_true rfl)) dX2_sum_6 ⟨Nat.le_of_ble_eq_true rfl, Nat.le_of_ble_eq_true rfl⟩) (fun r_ hr_ => ?_)
  obtain ⟨z_1, rfl, hz_1⟩ := hr_
  exact W.iret (v := jI z_1) hx hb hr (fun t_ ht_ hW_ => ⟨_, rfl, ⟨z_1, rfl, by omega⟩, ht_⟩) (fun q hq => by cases hq) dX2_sum_9
set_option maxHeartbeats 4000000 in
set_option maxRecDepth 100000 in
theorem metX2_own (l : Launch) (dC : Nat → ClassId) (dI : Nat → Nat → Nat) (d : ClassId) (h b1 b2 b3 b4 b5 b6 : Nat) (L : Int) (n : Int) (wd : Int → Int) (wi : Int → Int) (wt : Int → Int) (up : Int → Int) (dn : Int → Int) (ch : Int → Int) (cl : Int) (x : Int) (hok : Ok L n wd wi wt) (hc : 0 ≤ cl ∧ cl < n) (hx1 : -1000 ≤ x ∧ x ≤ 1000) : Met l yX2_own (ws_ yX2_own cX2_own 4 (some .int)) ({ frames := 0, cells := 0, slots := 0, locals := 0 }) (zPp dC dI (wM d h b1 b2 b3 b4 b5 b6 L n wd wi wt up dn ch) d [.ref h, .int (jI cl), .int (jI x)]) (vp_Si (fun r => ∃ z : Int, r = jI z ∧ (((x < 0 ∨ L < x + wd cl) ∧ z = 1000000) ∨ (0 ≤ x ∧ x + wd cl ≤ L ∧ z = wt cl * dst x (wi cl))))) 0 0 (fun _ => False) := by
  refine Met.ofW (cc := cX2_own) (maxL := 4) (ret := (some .int)) (by decide) rfl ?_
  intro p e s m args below meth c s₁ B hml hv
  obtain ⟨rfl, hP, hK⟩ := hv
  have hx := B.exec
  have hb := B.bytes
  have hr := B.returns
  have hts := atoms_spec (ws := (ws_ yX2_own cX2_own 4 (some .int))) B.pre
  have hts : ∀ w ∈ lw_all, w.before _ s = true := fun w h => hts w (List.mem_cons_of_mem _ h)
  have hown : s.vm.findClass RX2 = some m.cls := findClass_of_methodNamed B.named
  have hlocks := B.notSynchronized
  have hl := lv_entry ([.ref h, .int (jI cl), .int (jI x)]) (n := 4) (Nat.le_of_ble_eq_true rfl)
  rw [lg_entry_eq]
  generalize (lg_sl ([.ref h, .int (jI cl), .int (jI x)]) ++ List.replicate (4 - (lg_sl ([.ref h, .int (jI cl), .int (jI x)])).length) Slot.unset).toArray = ls at hl ⊢
  have hl : lv_has ls 4 [(0, .ref h), (1, .int (jI cl)), (2, .int (jI x))] := hl
  have hok2 := hok
  obtain ⟨hLn, hwd, hwi, hwt⟩ := hok2
  refine lv_iload_n hx hb dX2_own_0 rfl (lv_at hl 2 rfl) ?_
  refine ji_if_lt (tgt := 19) hx hb dX2_own_1 (by decide) (by omega) (fun c_1 => ?_) (fun c_1 => ?_)
  · refine ji_ldc (z := 1000000) hx hb hown (hts _ q218) (by decide) dX2_own_19 ?_
    exact W.iret (v := jI 1000000) hx hb hr (fun t_ ht_ hW_ => ⟨_, rfl, ⟨1000000, rfl, by omega⟩, ht_⟩) (fun q hq => by cases hq) dX2_own_21
  · refine lv_iload_n hx hb dX2_own_4 rfl (lv_at hl 2 rfl) ?_
    refine lv_aload_n hx hb dX2_own_5 rfl (lv_at hl 0 rfl) ?_
    refine va_get (D := (dC, dI)) (ci := 1) (v := .ref b1) (C := RX2) (T := TX2) (N := 8) hx hb hts in_X2 hown hK hP 0 rfl rfl 2 (by decide) (hts _ q151) (fun _ h9 => h9) rfl dX2_own_6 ?_
    refine lv_iload_n hx hb dX2_own_9 rfl (lv_at hl 1 rfl) ?_
    refine ji_ld (f := wd) (n := 10) (cA := d) hx hb hK hP 1 0 rfl rfl (by omega) (by decide) dX2_own_10 ?_
    have f_2 := hwd cl (by omega) (by omega)
    refine ji_add hx hb dX2_own_11 ?_
    refine lv_aload_n hx hb dX2_own_12 rfl (lv_at hl 0 rfl) ?_
    refine va_get (D := (dC, dI)) (ci := 1) (v := .int (jI L)) (C := RX2) (T := TX2) (N := 8) hx hb hts in_X2 hown hK hP 0 rfl rfl 0 (by decide) (hts _ q149) (fun _ h9 => h9) rfl dX2_own_13 ?_
    refine ji_icmp_le (tgt := 22) hx hb dX2_own_16 (by decide) (by omega) (by omega) (fun c_3 => ?_) (fun c_3 => ?_)
    · have mg : ∀ (aw : Int) (haw : aw = dst x (wi cl)) (ls : Array Slot) (hl : lv_has ls 4 [(0, .ref h), (1, .int (jI cl)), (2, .int (jI x))]), W p l e (headSpec (ws_ yX2_own cX2_own 4 (some .int)) ({ frames := 0, cells := 0, slots := 0, locals := 0 })).room s m ([.ref h, .int (jI cl), .int (jI x)] : List Value).toArray below meth c s.heap [] 0 0 (MQ below (vp_Si (fun r => ∃ z : Int, r = jI z ∧ (((x < 0 ∨ L < x + wd cl) ∧ z = 1000000) ∨ (0 ≤ x ∧ x + wd cl ≤ L ∧ z = wt cl * dst x (wi cl))))) ([.ref h, .int (jI cl), .int (jI x)] : List Value).toArray s 0 0 (fun _ => False)) (F0 m 51 ls [.int (jI aw)]) := by
        intro aw haw ls hl
        refine lv_istore_n (lv' := [(3, .int (jI aw)), (0, .ref h), (1, .int (jI cl)), (2, .int (jI x))]) hx hb dX2_own_51 rfl hl (by decide) rfl (fun ls hl => ?_)
        refine lv_aload_n hx hb dX2_own_52 rfl (lv_at hl 1 rfl) ?_
        refine va_get (D := (dC, dI)) (ci := 1) (v := .ref b3) (C := RX2) (T := TX2) (N := 8) hx hb hts in_X2 hown hK hP 0 rfl rfl 4 (by decide) (hts _ q153) (fun _ h9 => h9) rfl dX2_own_53 ?_
        refine lv_iload_n hx hb dX2_own_56 rfl (lv_at hl 2 rfl) ?_
        refine ji_ld (f := wt) (n := 10) (cA := d) hx hb hK hP 3 0 rfl rfl (by omega) (by decide) dX2_own_57 ?_
        have f_4 := hwt cl (by omega) (by omega)
        refine lv_iload_n hx hb dX2_own_58 rfl (lv_at hl 0 rfl) ?_
        refine ji_mul hx hb dX2_own_59 ?_
        exact W.iret (v := jI ((wt cl) * aw)) hx hb hr (fun t_ ht_ hW_ => ⟨_, rfl, ⟨(wt cl) * aw, rfl, Or.inr ⟨by omega, by omega, by rw [haw]⟩⟩, ht_⟩) (fun q hq => by cases hq) dX2_own_60
      refine lv_iload_n hx hb dX2_own_22 rfl (lv_at hl 2 rfl) ?_
      refine lv_aload_n hx hb dX2_own_23 rfl (lv_at hl 0 rfl) ?_
      refine va_get (D := (dC, dI)) (ci := 1) (v := .ref b2) (C := RX2) (T := TX2) (N := 8) hx hb hts in_X2 hown hK hP 0 rfl rfl 3 (by decide) (hts _ q152) (fun _ h9 => h9) rfl dX2_own_24 ?_
      refine lv_iload_n hx hb dX2_own_27 rfl (lv_at hl 1 rfl) ?_
      refine ji_ld (f := wi) (n := 10) (cA := d) hx hb hK hP 2 0 rfl rfl (by omega) (by decide) dX2_own_28 ?_
      have f_5 := hwi cl (by omega) (by omega)
      refine ji_icmp_ge (tgt := 43) hx hb dX2_own_29 (by decide) (by omega) (by omega) (fun c_6 => ?_) (fun c_6 => ?_)
      · refine lv_iload_n hx hb dX2_own_43 rfl (lv_at hl 2 rfl) ?_
        refine lv_aload_n hx hb dX2_own_44 rfl (lv_at hl 0 rfl) ?_
        refine va_get (D := (dC, dI)) (ci := 1) (v := .ref b2) (C := RX2) (T := TX2) (N := 8) hx hb hts in_X2 hown hK hP 0 rfl rfl 3 (by decide) (hts _ q152) (fun _ h9 => h9) rfl dX2_own_45 ?_
        refine lv_iload_n hx hb dX2_own_48 rfl (lv_at hl 1 rfl) ?_
        refine ji_ld (f := wi) (n := 10) (cA := d) hx hb hK hP 2 0 rfl rfl (by omega) (by decide) dX2_own_49 ?_
        have f_7 := hwi cl (by omega) (by omega)
        refine ji_sub hx hb dX2_own_50 ?_
        exact mg (x - (wi cl)) (by have h9 := dst_spec x (wi cl); omega) ls (lv_sub hl [0, 1, 2] rfl)
      · refine lv_aload_n hx hb dX2_own_32 rfl (lv_at hl 0 rfl) ?_
        refine va_get (D := (dC, dI)) (ci := 1) (v := .ref b2) (C := RX2) (T := TX2) (N := 8) hx hb hts in_X2 hown hK hP 0 rfl rfl 3 (by decide) (hts _ q152) (fun _ h9 => h9) rfl dX2_own_33 ?_
        refine lv_iload_n hx hb dX2_own_36 rfl (lv_at hl 1 rfl) ?_
        refine ji_ld (f := wi) (n := 10) (cA := d) hx hb hK hP 2 0 rfl rfl (by omega) (by decide) dX2_own_37 ?_
        have f_8 := hwi cl (by omega) (by omega)
        refine lv_iload_n hx hb dX2_own_38 rfl (lv_at hl 2 rfl) ?_
        refine ji_sub hx hb dX2_own_39 ?_
        refine lv_goto (tgt := 51) hx hb dX2_own_40 (by decide) ?_
        exact mg ((wi cl) - x) (by have h9 := dst_spec x (wi cl); omega) ls (lv_sub hl [0, 1, 2] rfl)
    · refine ji_ldc (z := 1000000) hx hb hown (hts _ q218) (by decide) dX2_own_19 ?_
      exact W.iret (v := jI 1000000) hx hb hr (fun t_ ht_ hW_ => ⟨_, rfl, ⟨1000000, rfl, by omega⟩, ht_⟩) (fun q hq => by cases hq) dX2_own_21
set_option maxHeartbeats 4000000 in
set_option maxRecDepth 100000 in
theorem metX2_room (l : Launch) (dC : Nat → ClassId) (dI : Nat → Nat → Nat) (d : ClassId) (h b1 b2 b3 b4 b5 b6 : Nat) (L : Int) (n : Int) (wd : Int → Int) (wi : Int → Int) (wt : Int → Int) (up : Int → Int) (dn : Int → Int) (ch : Int → Int) (hok : Ok L n wd wi wt) : Met l yX2_room (ws_ yX2_room cX2_room 3 (some .int)) ({ frames := 0, cells := 0, slots := 0, locals := 0 }) (zPp dC dI (wM d h b1 b2 b3 b4 b5 b6 L n wd wi wt up dn ch) d [.ref h]) (vp_Si (fun r => ∃ z : Int, r = jI z ∧ (z = L - sWi wd 0 n))) 0 0 (fun _ => False) := by
  refine Met.ofW (cc := cX2_room) (maxL := 3) (ret := (some .int)) (by decide) rfl ?_
  intro p e s m args below meth c s₁ B hml hv
  obtain ⟨rfl, hP, hK⟩ := hv
  have hx := B.exec
  have hb := B.bytes
  have hr := B.returns
  have hts := atoms_spec (ws := (ws_ yX2_room cX2_room 3 (some .int))) B.pre
  have hts : ∀ w ∈ lw_all, w.before _ s = true := fun w h => hts w (List.mem_cons_of_mem _ h)
  have hown : s.vm.findClass RX2 = some m.cls := findClass_of_methodNamed B.named
  have hlocks := B.notSynchronized
  have hl := lv_entry ([.ref h]) (n := 3) (Nat.le_of_ble_eq_true rfl)
  rw [lg_entry_eq]
  generalize (lg_sl ([.ref h]) ++ List.replicate (3 - (lg_sl ([.ref h])).length) Slot.unset).toArray = ls at hl ⊢
  have hl : lv_has ls 3 [(0, .ref h)] := hl
  have hok2 := hok
  obtain ⟨hLn, hwd, hwi, hwt⟩ := hok2
  refine lv_aload_n hx hb dX2_room_0 rfl (lv_at hl 0 rfl) ?_
  refine va_get (D := (dC, dI)) (ci := 1) (v := .int (jI L)) (C := RX2) (T := TX2) (N := 8) hx hb hts in_X2 hown hK hP 0 rfl rfl 0 (by decide) (hts _ q149) (fun _ h9 => h9) rfl dX2_room_1 ?_
  refine lv_istore_n (lv' := [(1, .int (jI L)), (0, .ref h)]) hx hb dX2_room_4 rfl hl (by decide) rfl (fun ls hl => ?_)
  refine ji_const hx hb dX2_room_5 ?_
  refine lv_istore_n (lv' := [(2, .int (jI 0)), (1, .int (jI L)), (0, .ref h)]) hx hb dX2_room_6 rfl hl (by decide) rfl (fun ls hl => ?_)
  have loop : ∀ (n_ : Nat) (lf : Int) (k : Int) (hk : 0 ≤ k ∧ k ≤ n) (hlf : lf = L - sWi wd 0 k) (hm_ : (n - k).toNat < n_) (ls : Array Slot) (hl : lv_has ls 3 [(0, .ref h), (1, .int (jI lf)), (2, .int (jI k))]), W p l e (headSpec (ws_ yX2_room cX2_room 3 (some .int)) ({ frames := 0, cells := 0, slots := 0, locals := 0 })).room s m ([.ref h] : List Value).toArray below meth c s.heap [] 0 0 (MQ below (vp_Si (fun r => ∃ z : Int, r = jI z ∧ (z = L - sWi wd 0 n))) ([.ref h] : List Value).toArray s 0 0 (fun _ => False)) (F0 m 7 ls []) := by
    intro n_
    induction n_ with
    | zero => intro lf k hk hlf hm_; exact absurd hm_ (by omega)
    | succ n_ ih_loop =>
      intro lf k hk hlf hm_ ls hl
      refine lv_iload_n hx hb dX2_room_7 rfl (lv_at hl 2 rfl) ?_
      refine lv_aload_n hx hb dX2_room_8 rfl (lv_at hl 0 rfl) ?_
      refine va_get (D := (dC, dI)) (ci := 1) (v := .int (jI n)) (C := RX2) (T := TX2) (N := 8) hx hb hts in_X2 hown hK hP 0 rfl rfl 1 (by decide) (hts _ q150) (fun _ h9 => h9) rfl dX2_room_9 ?_
      refine ji_icmp_ge (tgt := 30) hx hb dX2_room_12 (by decide) (by omega) (by omega) (fun c_1 => ?_) (fun c_1 => ?_)
      · refine lv_iload_n hx hb dX2_room_30 rfl (lv_at hl 1 rfl) ?_
        exact W.iret (v := jI lf) hx hb hr (fun t_ ht_ hW_ => ⟨_, rfl, ⟨lf, rfl, by rw [hlf, show k = n by omega]⟩, ht_⟩) (fun q hq => by cases hq) dX2_room_31
      · refine lv_iload_n hx hb dX2_room_15 rfl (lv_at hl 1 rfl) ?_
        refine lv_aload_n hx hb dX2_room_16 rfl (lv_at hl 0 rfl) ?_
        refine va_get (D := (dC, dI)) (ci := 1) (v := .ref b1) (C := RX2) (T := TX2) (N := 8) hx hb hts in_X2 hown hK hP 0 rfl rfl 2 (by decide) (hts _ q151) (fun _ h9 => h9) rfl dX2_room_17 ?_
        refine lv_iload_n hx hb dX2_room_20 rfl (lv_at hl 2 rfl) ?_
        refine ji_ld (f := wd) (n := 10) (cA := d) hx hb hK hP 1 0 rfl rfl (by omega) (by decide) dX2_room_21 ?_
        refine ji_sub hx hb dX2_room_22 ?_
        refine lv_istore_n (lv' := [(1, .int (jI (lf - (wd k)))), (0, .ref h), (2, .int (jI k))]) hx hb dX2_room_23 rfl hl (by decide) rfl (fun ls hl => ?_)
        refine ji_iinc (v := k + 1) (lv' := [(2, .int (jI (k + 1))), (1, .int (jI (lf - (wd k)))), (0, .ref h)]) hx hb dX2_room_24 hl (k := 2) rfl (by omega) (by decide) rfl (fun ls hl => ?_)
        refine lv_goto (tgt := 7) hx hb dX2_room_27 (by decide) ?_
        exact ih_loop (lf - (wd k)) (k + 1) (by omega) (by rw [sWi_s wd hk.1, hlf]; omega) (by omega) ls (lv_sub hl [2, 1, 0] rfl)
  exact loop _ L 0 (by omega) (by rw [sWi_0]; omega) (Nat.lt_succ_self _) ls (lv_sub hl [2, 1, 0] rfl)
end
section
set_option maxHeartbeats 4000000 in
set_option maxRecDepth 100000 in
theorem metX2_append (l : Launch) (dC : Nat → ClassId) (dI : Nat → Nat → Nat) (d : ClassId) (h b1 b2 b3 b4 b5 b6 : Nat) (L : Int) (n : Int) (wd : Int → Int) (wi : Int → Int) (wt : Int → Int) (up : Int → Int) (dn : Int → Int) (ch : Int → Int) (sz : Nat) (x : Int) (y : Int) (w : Int) (hok : Ok L n wd wi wt) (hx1 : -2147483648 ≤ x ∧ x < 2147483648) (hy1 : -2147483648 ≤ y ∧ y < 2147483648) (hw1 : -2147483648 ≤ w ∧ w < 2147483648) : Met l yX2_append (ws_ yX2_append cX2_append 4 (some .int)) ({ frames := 1, cells := 0, slots := 0, locals := 21 }) (zPw dC dI (wM d h b1 b2 b3 b4 b5 b6 L n wd wi wt up dn ch) d sz [.ref h, .int (jI x), .int (jI y), .int (jI w)]) (wMQi dC dI d h b1 b2 b3 b4 b5 b6 L (va_A (wM d h b1 b2 b3 b4 b5 b6 L n wd wi wt up dn ch) sz) (fun z u => ∃ n1 wd1 wi1 wt1, u = (n1, wd1, wi1, wt1, up, dn, ch) ∧ App n wd wi wt x y w z n1 wd1 wi1 wt1)) 0 0 (va_A (wM d h b1 b2 b3 b4 b5 b6 L n wd wi wt up dn ch) sz) := by
  refine Met.ofW (cc := cX2_append) (maxL := 4) (ret := (some .int)) (by decide) rfl ?_
  intro p e s m args below meth c s₁ B hml hv
  obtain ⟨rfl, hsz, hP, hK, hD0⟩ := hv
  have hx := B.exec
  have hb := B.bytes
  have hr := B.returns
  have hts := atoms_spec (ws := (ws_ yX2_append cX2_append 4 (some .int))) B.pre
  have hts : ∀ w ∈ lw_all, w.before _ s = true := fun w h => hts w (List.mem_cons_of_mem _ h)
  have hown : s.vm.findClass RX2 = some m.cls := findClass_of_methodNamed B.named
  have hlocks := B.notSynchronized
  subst hsz
  have hD := hD0.self (sz := s.heap.size)
  generalize hAe : va_A (wM d h b1 b2 b3 b4 b5 b6 L n wd wi wt up dn ch) s.heap.size = A at hD ⊢
  have hA : ∀ q : Nat, s.heap.size ≤ q → A q := fun q h => by rw [← hAe]; exact Or.inr h
  have hS : va_S A s.heap s.heap [] := va_S.rf
  have hl := lv_entry ([.ref h, .int (jI x), .int (jI y), .int (jI w)]) (n := 4) (Nat.le_of_ble_eq_true rfl)
  rw [lg_entry_eq]
  generalize (lg_sl ([.ref h, .int (jI x), .int (jI y), .int (jI w)]) ++ List.replicate (4 - (lg_sl ([.ref h, .int (jI x), .int (jI y), .int (jI w)])).length) Slot.unset).toArray = ls at hl ⊢
  have hl : lv_has ls 4 [(0, .ref h), (1, .int (jI x)), (2, .int (jI y)), (3, .int (jI w))] := hl
  have hok2 := hok
  obtain ⟨hLn, hwd, hwi, hwt⟩ := hok2
  refine lv_iload_n hx hb dX2_append_0 rfl (lv_at hl 1 rfl) ?_
  refine ji_const hx hb dX2_append_1 ?_
  refine ji_icmp_lt (tgt := 10) hx hb dX2_append_2 (by decide) (by omega) (by omega) (fun c_1 => ?_) (fun c_1 => ?_)
  · refine ji_const hx hb dX2_append_10 ?_
    exact W.iret (v := jI (-1)) hx hb hr (fun t_ ht_ hW_ => ⟨⟨_, (n, wd, wi, wt, up, dn, ch), rfl, ⟨(-1), rfl, ⟨_, _, _, _, rfl, Or.inl ⟨by omega, rfl, rfl, rfl, rfl⟩⟩⟩, by rw [ht_]; exact hP, va_K.moved hW_.alike hK, hD⟩, hS.F ht_⟩) hS.2.2 dX2_append_11
  · refine lv_iload_n hx hb dX2_append_5 rfl (lv_at hl 1 rfl) ?_
    refine ji_const hx hb dX2_append_6 ?_
    refine ji_icmp_le (tgt := 12) hx hb dX2_append_7 (by decide) (by omega) (by omega) (fun c_2 => ?_) (fun c_2 => ?_)
    · refine lv_aload_n hx hb dX2_append_12 rfl (lv_at hl 0 rfl) ?_
      refine lv_iload_n hx hb dX2_append_13 rfl (lv_at hl 2 rfl) ?_
      refine vp_callSi (W.runV (As := [.int (jI y)]) (rest := []) ⟨hx, hb, hml, hown, hts⟩ (metX2_badWish l dC dI d h b1 b2 b3 b4 b5 b6 L n wd wi wt up dn ch y (by omega)) (cwV 1 hts (lw_V q178 q180 qs9 q21 q181) rfl rfl rfl (by decide +kernel) ⟨Nat.le_of_ble_eq_true rfl, Nat.le_of_ble_eq_true rfl⟩) ⟨zPp_bl, va_recv hK hP (ci := 1) (q0 := 0) rfl rfl, fun U hU hW => ⟨rfl, by rw [hU]; exact hP, va_K.moved hW.alike hK⟩⟩ rfl rfl hl.1 rfl (lv_room (Nat.le_of_ble_eq_true rfl)) dX2_append_14 ⟨Nat.le_of_ble_eq_true rfl, Nat.le_of_ble_eq_true rfl⟩) (fun r_ hr_ => ?_)
      obtain ⟨z_3, rfl, hz_3⟩ := hr_
      refine ji_if_eq (tgt := 23) hx hb dX2_append_17 (by decide) (by omega) (fun c_4 => ?_) (fun c_4 => ?_)
      · refine lv_aload_n hx hb dX2_append_23 rfl (lv_at hl 0 rfl) ?_
        refine lv_iload_n hx hb dX2_append_24 rfl (lv_at hl 3 rfl) ?_
        refine vp_callSi (W.runV (As := [.int (jI w)]) (rest := []) ⟨hx, hb, hml, hown, hts⟩ (metX2_badWeight l dC dI d h b1 b2 b3 b4 b5 b6 L n wd wi wt up dn ch w (by omega)) (cwV 1 hts (lw_V q182 q184 qs10 q21 q185) rfl rfl rfl (by decide +kernel) ⟨Nat.le_of_ble_eq_true rfl, Nat.le_of_ble_eq_true rfl⟩) ⟨zPp_bl, va_recv hK hP (ci := 1) (q0 := 0) rfl rfl, fun U hU hW => ⟨rfl, by rw [hU]; exact hP, va_K.moved hW.alike hK⟩⟩ rfl rfl hl.1 rfl (lv_room (Nat.le_of_ble_eq_true rfl)) dX2_append_25 ⟨Nat.le_of_ble_eq_true rfl, Nat.le_of_ble_eq_true rfl⟩) (fun r_ hr_ => ?_)
        obtain ⟨z_5, rfl, hz_5⟩ := hr_
        refine ji_if_eq (tgt := 34) hx hb dX2_append_28 (by decide) (by omega) (fun c_6 => ?_) (fun c_6 => ?_)
        · refine lv_aload_n hx hb dX2_append_34 rfl (lv_at hl 0 rfl) ?_
          refine va_get (D := (dC, dI)) (ci := 1) (v := .int (jI n)) (C := RX2) (T := TX2) (N := 8) hx hb hts in_X2 hown hK hP 0 rfl rfl 1 (by decide) (hts _ q150) (fun _ h9 => h9) rfl dX2_append_35 ?_
          refine lv_bipush (v := jI 10) hx hb dX2_append_38 (by decide) ?_
          refine ji_icmp_ne (tgt := 46) hx hb dX2_append_40 (by decide) (by omega) (by omega) (fun c_7 => ?_) (fun c_7 => ?_)
          · refine lv_aload_n hx hb dX2_append_46 rfl (lv_at hl 0 rfl) ?_
            refine va_get (D := (dC, dI)) (ci := 1) (v := .ref b1) (C := RX2) (T := TX2) (N := 8) hx hb hts in_X2 hown hK hP 0 rfl rfl 2 (by decide) (hts _ q151) (fun _ h9 => h9) rfl dX2_append_47 ?_
            refine lv_aload_n hx hb dX2_append_50 rfl (lv_at hl 0 rfl) ?_
            refine va_get (D := (dC, dI)) (ci := 1) (v := .int (jI n)) (C := RX2) (T := TX2) (N := 8) hx hb hts in_X2 hown hK hP 0 rfl rfl 1 (by decide) (hts _ q150) (fun _ h9 => h9) rfl dX2_append_51 ?_
            refine lv_iload_n hx hb dX2_append_54 rfl (lv_at hl 1 rfl) ?_
            refine ji_st (f := wd) (n := 10) (cA := d) (i := n) (x := x) hx hb hK hP hD hS 1 0 rfl rfl (by omega) (by decide) dX2_append_55 (fun H locs hP hD hS => ?_)
            have hP : va_P (dC, dI) vwCl (wM d h b1 b2 b3 b4 b5 b6 L n (uI wd n x) wi wt up dn ch) H := hP
            have hD : va_D A (wM d h b1 b2 b3 b4 b5 b6 L n (uI wd n x) wi wt up dn ch) := hD
            refine lv_aload_n hx hb dX2_append_56 rfl (lv_at hl 0 rfl) ?_
            refine va_get (D := (dC, dI)) (ci := 1) (v := .ref b2) (C := RX2) (T := TX2) (N := 8) hx hb hts in_X2 hown hK hP 0 rfl rfl 3 (by decide) (hts _ q152) (fun _ h9 => h9) rfl dX2_append_57 ?_
            refine lv_aload_n hx hb dX2_append_60 rfl (lv_at hl 0 rfl) ?_
            refine va_get (D := (dC, dI)) (ci := 1) (v := .int (jI n)) (C := RX2) (T := TX2) (N := 8) hx hb hts in_X2 hown hK hP 0 rfl rfl 1 (by decide) (hts _ q150) (fun _ h9 => h9) rfl dX2_append_61 ?_
            refine lv_iload_n hx hb dX2_append_64 rfl (lv_at hl 2 rfl) ?_
            refine ji_st (f := wi) (n := 10) (cA := d) (i := n) (x := y) hx hb hK hP hD hS 2 0 rfl rfl (by omega) (by decide) dX2_append_65 (fun H locs hP hD hS => ?_)
            have hP : va_P (dC, dI) vwCl (wM d h b1 b2 b3 b4 b5 b6 L n (uI wd n x) (uI wi n y) wt up dn ch) H := hP
            have hD : va_D A (wM d h b1 b2 b3 b4 b5 b6 L n (uI wd n x) (uI wi n y) wt up dn ch) := hD
            refine lv_aload_n hx hb dX2_append_66 rfl (lv_at hl 0 rfl) ?_
            refine va_get (D := (dC, dI)) (ci := 1) (v := .ref b3) (C := RX2) (T := TX2) (N := 8) hx hb hts in_X2 hown hK hP 0 rfl rfl 4 (by decide) (hts _ q153) (fun _ h9 => h9) rfl dX2_append_67 ?_
            refine lv_aload_n hx hb dX2_append_70 rfl (lv_at hl 0 rfl) ?_
            refine va_get (D := (dC, dI)) (ci := 1) (v := .int (jI n)) (C := RX2) (T := TX2) (N := 8) hx hb hts in_X2 hown hK hP 0 rfl rfl 1 (by decide) (hts _ q150) (fun _ h9 => h9) rfl dX2_append_71 ?_
            refine lv_iload_n hx hb dX2_append_74 rfl (lv_at hl 3 rfl) ?_
            refine ji_st (f := wt) (n := 10) (cA := d) (i := n) (x := w) hx hb hK hP hD hS 3 0 rfl rfl (by omega) (by decide) dX2_append_75 (fun H locs hP hD hS => ?_)
            have hP : va_P (dC, dI) vwCl (wM d h b1 b2 b3 b4 b5 b6 L n (uI wd n x) (uI wi n y) (uI wt n w) up dn ch) H := hP
            have hD : va_D A (wM d h b1 b2 b3 b4 b5 b6 L n (uI wd n x) (uI wi n y) (uI wt n w) up dn ch) := hD
            refine lv_aload_n hx hb dX2_append_76 rfl (lv_at hl 0 rfl) ?_
            refine lv_aload_n hx hb dX2_append_77 rfl (lv_at hl 0 rfl) ?_
            refine va_get (D := (dC, dI)) (ci := 1) (v := .int (jI n)) (C := RX2) (T := TX2) (N := 8) hx hb hts in_X2 hown hK hP 0 rfl rfl 1 (by decide) (hts _ q150) (fun _ h9 => h9) rfl dX2_append_78 ?_
            refine ji_const hx hb dX2_append_81 ?_
            refine ji_add hx hb dX2_append_82 ?_
            refine va_put (D := (dC, dI)) (ci := 1) (v := .int (jI (n + 1))) (ty := .int) (C := RX2) (T := TX2) (N := 8) hx hb hts in_X2 tyX2 tyX2_ok nmX2 hown hK hP hD hS 0 rfl rfl 1 (by decide) (hts _ q150) (fun _ h9 => h9) rfl (by decide +kernel) rfl rfl (Nat.le_of_ble_eq_true rfl) dX2_append_83 (fun H locs hP hD hS => ?_)
            have hP : va_P (dC, dI) vwCl (wM d h b1 b2 b3 b4 b5 b6 L (n + 1) (uI wd n x) (uI wi n y) (uI wt n w) up dn ch) H := hP
            have hD : va_D A (wM d h b1 b2 b3 b4 b5 b6 L (n + 1) (uI wd n x) (uI wi n y) (uI wt n w) up dn ch) := hD
            refine lv_aload_n hx hb dX2_append_86 rfl (lv_at hl 0 rfl) ?_
            refine va_get (D := (dC, dI)) (ci := 1) (v := .int (jI (n + 1))) (C := RX2) (T := TX2) (N := 8) hx hb hts in_X2 hown hK hP 0 rfl rfl 1 (by decide) (hts _ q150) (fun _ h9 => h9) rfl dX2_append_87 ?_
            refine ji_const hx hb dX2_append_90 ?_
            refine ji_sub hx hb dX2_append_91 ?_
            exact W.iret (v := jI ((n + 1) - 1)) hx hb hr (fun t_ ht_ hW_ => ⟨⟨_, (n + 1, uI wd n x, uI wi n y, uI wt n w, up, dn, ch), rfl, ⟨(n + 1) - 1, rfl, ⟨_, _, _, _, rfl, Or.inr ⟨by omega, rfl, rfl, rfl, rfl⟩⟩⟩, by rw [ht_]; exact hP, va_K.moved hW_.alike hK, hD⟩, hS.F ht_⟩) hS.2.2 dX2_append_92
          · refine lv_bipush (v := jI (-5)) hx hb dX2_append_43 (by decide) ?_
            exact W.iret (v := jI (-5)) hx hb hr (fun t_ ht_ hW_ => ⟨⟨_, (n, wd, wi, wt, up, dn, ch), rfl, ⟨(-5), rfl, ⟨_, _, _, _, rfl, Or.inl ⟨by omega, rfl, rfl, rfl, rfl⟩⟩⟩, by rw [ht_]; exact hP, va_K.moved hW_.alike hK, hD⟩, hS.F ht_⟩) hS.2.2 dX2_append_45
        · refine lv_bipush (v := jI (-3)) hx hb dX2_append_31 (by decide) ?_
          exact W.iret (v := jI (-3)) hx hb hr (fun t_ ht_ hW_ => ⟨⟨_, (n, wd, wi, wt, up, dn, ch), rfl, ⟨(-3), rfl, ⟨_, _, _, _, rfl, Or.inl ⟨by omega, rfl, rfl, rfl, rfl⟩⟩⟩, by rw [ht_]; exact hP, va_K.moved hW_.alike hK, hD⟩, hS.F ht_⟩) hS.2.2 dX2_append_33
      · refine lv_bipush (v := jI (-2)) hx hb dX2_append_20 (by decide) ?_
        exact W.iret (v := jI (-2)) hx hb hr (fun t_ ht_ hW_ => ⟨⟨_, (n, wd, wi, wt, up, dn, ch), rfl, ⟨(-2), rfl, ⟨_, _, _, _, rfl, Or.inl ⟨by omega, rfl, rfl, rfl, rfl⟩⟩⟩, by rw [ht_]; exact hP, va_K.moved hW_.alike hK, hD⟩, hS.F ht_⟩) hS.2.2 dX2_append_22
    · refine ji_const hx hb dX2_append_10 ?_
      exact W.iret (v := jI (-1)) hx hb hr (fun t_ ht_ hW_ => ⟨⟨_, (n, wd, wi, wt, up, dn, ch), rfl, ⟨(-1), rfl, ⟨_, _, _, _, rfl, Or.inl ⟨by omega, rfl, rfl, rfl, rfl⟩⟩⟩, by rw [ht_]; exact hP, va_K.moved hW_.alike hK, hD⟩, hS.F ht_⟩) hS.2.2 dX2_append_11
set_option maxHeartbeats 4000000 in
set_option maxRecDepth 100000 in
theorem metX2_move (l : Launch) (dC : Nat → ClassId) (dI : Nat → Nat → Nat) (d : ClassId) (h b1 b2 b3 b4 b5 b6 : Nat) (L : Int) (n : Int) (wd : Int → Int) (wi : Int → Int) (wt : Int → Int) (up : Int → Int) (dn : Int → Int) (ch : Int → Int) (sz : Nat) (x : Int) (y : Int) (hok : Ok L n wd wi wt) (hx1 : -2147483648 ≤ x ∧ x < 2147483648) (hy1 : -2147483648 ≤ y ∧ y < 2147483648) : Met l yX2_move (ws_ yX2_move cX2_move 4 (some .int)) ({ frames := 1, cells := 0, slots := 0, locals := 21 }) (zPw dC dI (wM d h b1 b2 b3 b4 b5 b6 L n wd wi wt up dn ch) d sz [.ref h, .int (jI x), .int (jI y)]) (wMQi dC dI d h b1 b2 b3 b4 b5 b6 L (va_A (wM d h b1 b2 b3 b4 b5 b6 L n wd wi wt up dn ch) sz) (fun z u => ∃ wi1, u = (n, wd, wi1, wt, up, dn, ch) ∧ Mov n wi x y z wi1)) 0 0 (va_A (wM d h b1 b2 b3 b4 b5 b6 L n wd wi wt up dn ch) sz) := by
  refine Met.ofW (cc := cX2_move) (maxL := 4) (ret := (some .int)) (by decide) rfl ?_
  intro p e s m args below meth c s₁ B hml hv
  obtain ⟨rfl, hsz, hP, hK, hD0⟩ := hv
  have hx := B.exec
  have hb := B.bytes
  have hr := B.returns
  have hts := atoms_spec (ws := (ws_ yX2_move cX2_move 4 (some .int))) B.pre
  have hts : ∀ w ∈ lw_all, w.before _ s = true := fun w h => hts w (List.mem_cons_of_mem _ h)
  have hown : s.vm.findClass RX2 = some m.cls := findClass_of_methodNamed B.named
  have hlocks := B.notSynchronized
  subst hsz
  have hD := hD0.self (sz := s.heap.size)
  generalize hAe : va_A (wM d h b1 b2 b3 b4 b5 b6 L n wd wi wt up dn ch) s.heap.size = A at hD ⊢
  have hA : ∀ q : Nat, s.heap.size ≤ q → A q := fun q h => by rw [← hAe]; exact Or.inr h
  have hS : va_S A s.heap s.heap [] := va_S.rf
  have hl := lv_entry ([.ref h, .int (jI x), .int (jI y)]) (n := 4) (Nat.le_of_ble_eq_true rfl)
  rw [lg_entry_eq]
  generalize (lg_sl ([.ref h, .int (jI x), .int (jI y)]) ++ List.replicate (4 - (lg_sl ([.ref h, .int (jI x), .int (jI y)])).length) Slot.unset).toArray = ls at hl ⊢
  have hl : lv_has ls 4 [(0, .ref h), (1, .int (jI x)), (2, .int (jI y))] := hl
  have hok2 := hok
  obtain ⟨hLn, hwd, hwi, hwt⟩ := hok2
  refine lv_aload_n hx hb dX2_move_0 rfl (lv_at hl 0 rfl) ?_
  refine lv_iload_n hx hb dX2_move_1 rfl (lv_at hl 1 rfl) ?_
  refine vp_callSi (W.runV (As := [.int (jI x)]) (rest := []) ⟨hx, hb, hml, hown, hts⟩ (metX2_badCell l dC dI d h b1 b2 b3 b4 b5 b6 L n wd wi wt up dn ch x (by omega) (by omega)) (cwV 1 hts (lw_V q190 q192 qs11 q21 q193) rfl rfl rfl (by decide +kernel) ⟨Nat.le_of_ble_eq_true rfl, Nat.le_of_ble_eq_true rfl⟩) ⟨zPp_bl, va_recv hK hP (ci := 1) (q0 := 0) rfl rfl, fun U hU hW => ⟨rfl, by rw [hU]; exact hP, va_K.moved hW.alike hK⟩⟩ rfl rfl hl.1 rfl (lv_room (Nat.le_of_ble_eq_true rfl)) dX2_move_2 ⟨Nat.le_of_ble_eq_true rfl, Nat.le_of_ble_eq_true rfl⟩) (fun r_ hr_ => ?_)
  obtain ⟨z_1, rfl, hz_1⟩ := hr_
  refine ji_if_eq (tgt := 11) hx hb dX2_move_5 (by decide) (by omega) (fun c_2 => ?_) (fun c_2 => ?_)
  · refine lv_aload_n hx hb dX2_move_11 rfl (lv_at hl 0 rfl) ?_
    refine lv_iload_n hx hb dX2_move_12 rfl (lv_at hl 2 rfl) ?_
    refine vp_callSi (W.runV (As := [.int (jI y)]) (rest := []) ⟨hx, hb, hml, hown, hts⟩ (metX2_badWish l dC dI d h b1 b2 b3 b4 b5 b6 L n wd wi wt up dn ch y (by omega)) (cwV 1 hts (lw_V q178 q180 qs9 q21 q181) rfl rfl rfl (by decide +kernel) ⟨Nat.le_of_ble_eq_true rfl, Nat.le_of_ble_eq_true rfl⟩) ⟨zPp_bl, va_recv hK hP (ci := 1) (q0 := 0) rfl rfl, fun U hU hW => ⟨rfl, by rw [hU]; exact hP, va_K.moved hW.alike hK⟩⟩ rfl rfl hl.1 rfl (lv_room (Nat.le_of_ble_eq_true rfl)) dX2_move_13 ⟨Nat.le_of_ble_eq_true rfl, Nat.le_of_ble_eq_true rfl⟩) (fun r_ hr_ => ?_)
    obtain ⟨z_3, rfl, hz_3⟩ := hr_
    refine ji_if_eq (tgt := 22) hx hb dX2_move_16 (by decide) (by omega) (fun c_4 => ?_) (fun c_4 => ?_)
    · refine lv_aload_n hx hb dX2_move_22 rfl (lv_at hl 0 rfl) ?_
      refine va_get (D := (dC, dI)) (ci := 1) (v := .ref b2) (C := RX2) (T := TX2) (N := 8) hx hb hts in_X2 hown hK hP 0 rfl rfl 3 (by decide) (hts _ q152) (fun _ h9 => h9) rfl dX2_move_23 ?_
      refine lv_iload_n hx hb dX2_move_26 rfl (lv_at hl 1 rfl) ?_
      refine ji_ld (f := wi) (n := 10) (cA := d) hx hb hK hP 2 0 rfl rfl (by omega) (by decide) dX2_move_27 ?_
      refine lv_istore_n (lv' := [(3, .int (jI (wi x))), (0, .ref h), (1, .int (jI x)), (2, .int (jI y))]) hx hb dX2_move_28 rfl hl (by decide) rfl (fun ls hl => ?_)
      refine lv_aload_n hx hb dX2_move_29 rfl (lv_at hl 1 rfl) ?_
      refine va_get (D := (dC, dI)) (ci := 1) (v := .ref b2) (C := RX2) (T := TX2) (N := 8) hx hb hts in_X2 hown hK hP 0 rfl rfl 3 (by decide) (hts _ q152) (fun _ h9 => h9) rfl dX2_move_30 ?_
      refine lv_iload_n hx hb dX2_move_33 rfl (lv_at hl 2 rfl) ?_
      refine lv_iload_n hx hb dX2_move_34 rfl (lv_at hl 3 rfl) ?_
      refine ji_st (f := wi) (n := 10) (cA := d) (i := x) (x := y) hx hb hK hP hD hS 2 0 rfl rfl (by omega) (by decide) dX2_move_35 (fun H locs hP hD hS => ?_)
      have hP : va_P (dC, dI) vwCl (wM d h b1 b2 b3 b4 b5 b6 L n wd (uI wi x y) wt up dn ch) H := hP
      have hD : va_D A (wM d h b1 b2 b3 b4 b5 b6 L n wd (uI wi x y) wt up dn ch) := hD
      refine lv_iload_n hx hb dX2_move_36 rfl (lv_at hl 0 rfl) ?_
      exact W.iret (v := jI (wi x)) hx hb hr (fun t_ ht_ hW_ => ⟨⟨_, (n, wd, uI wi x y, wt, up, dn, ch), rfl, ⟨wi x, rfl, ⟨_, rfl, Or.inr ⟨by omega, rfl, rfl⟩⟩⟩, by rw [ht_]; exact hP, va_K.moved hW_.alike hK, hD⟩, hS.F ht_⟩) hS.2.2 dX2_move_37
    · refine lv_bipush (v := jI (-2)) hx hb dX2_move_19 (by decide) ?_
      exact W.iret (v := jI (-2)) hx hb hr (fun t_ ht_ hW_ => ⟨⟨_, (n, wd, wi, wt, up, dn, ch), rfl, ⟨(-2), rfl, ⟨_, rfl, Or.inl ⟨by omega, rfl⟩⟩⟩, by rw [ht_]; exact hP, va_K.moved hW_.alike hK, hD⟩, hS.F ht_⟩) hS.2.2 dX2_move_21
  · refine lv_bipush (v := jI (-4)) hx hb dX2_move_8 (by decide) ?_
    exact W.iret (v := jI (-4)) hx hb hr (fun t_ ht_ hW_ => ⟨⟨_, (n, wd, wi, wt, up, dn, ch), rfl, ⟨(-4), rfl, ⟨_, rfl, Or.inl ⟨by omega, rfl⟩⟩⟩, by rw [ht_]; exact hP, va_K.moved hW_.alike hK, hD⟩, hS.F ht_⟩) hS.2.2 dX2_move_10
set_option maxHeartbeats 4000000 in
set_option maxRecDepth 100000 in
theorem metX2_reweigh (l : Launch) (dC : Nat → ClassId) (dI : Nat → Nat → Nat) (d : ClassId) (h b1 b2 b3 b4 b5 b6 : Nat) (L : Int) (n : Int) (wd : Int → Int) (wi : Int → Int) (wt : Int → Int) (up : Int → Int) (dn : Int → Int) (ch : Int → Int) (sz : Nat) (x : Int) (y : Int) (hok : Ok L n wd wi wt) (hx1 : -2147483648 ≤ x ∧ x < 2147483648) (hy1 : -2147483648 ≤ y ∧ y < 2147483648) : Met l yX2_reweigh (ws_ yX2_reweigh cX2_reweigh 4 (some .int)) ({ frames := 1, cells := 0, slots := 0, locals := 21 }) (zPw dC dI (wM d h b1 b2 b3 b4 b5 b6 L n wd wi wt up dn ch) d sz [.ref h, .int (jI x), .int (jI y)]) (wMQi dC dI d h b1 b2 b3 b4 b5 b6 L (va_A (wM d h b1 b2 b3 b4 b5 b6 L n wd wi wt up dn ch) sz) (fun z u => ∃ wt1, u = (n, wd, wi, wt1, up, dn, ch) ∧ Rew n wt x y z wt1)) 0 0 (va_A (wM d h b1 b2 b3 b4 b5 b6 L n wd wi wt up dn ch) sz) := by
  refine Met.ofW (cc := cX2_reweigh) (maxL := 4) (ret := (some .int)) (by decide) rfl ?_
  intro p e s m args below meth c s₁ B hml hv
  obtain ⟨rfl, hsz, hP, hK, hD0⟩ := hv
  have hx := B.exec
  have hb := B.bytes
  have hr := B.returns
  have hts := atoms_spec (ws := (ws_ yX2_reweigh cX2_reweigh 4 (some .int))) B.pre
  have hts : ∀ w ∈ lw_all, w.before _ s = true := fun w h => hts w (List.mem_cons_of_mem _ h)
  have hown : s.vm.findClass RX2 = some m.cls := findClass_of_methodNamed B.named
  have hlocks := B.notSynchronized
  subst hsz
  have hD := hD0.self (sz := s.heap.size)
  generalize hAe : va_A (wM d h b1 b2 b3 b4 b5 b6 L n wd wi wt up dn ch) s.heap.size = A at hD ⊢
  have hA : ∀ q : Nat, s.heap.size ≤ q → A q := fun q h => by rw [← hAe]; exact Or.inr h
  have hS : va_S A s.heap s.heap [] := va_S.rf
  have hl := lv_entry ([.ref h, .int (jI x), .int (jI y)]) (n := 4) (Nat.le_of_ble_eq_true rfl)
  rw [lg_entry_eq]
  generalize (lg_sl ([.ref h, .int (jI x), .int (jI y)]) ++ List.replicate (4 - (lg_sl ([.ref h, .int (jI x), .int (jI y)])).length) Slot.unset).toArray = ls at hl ⊢
  have hl : lv_has ls 4 [(0, .ref h), (1, .int (jI x)), (2, .int (jI y))] := hl
  have hok2 := hok
  obtain ⟨hLn, hwd, hwi, hwt⟩ := hok2
  refine lv_aload_n hx hb dX2_reweigh_0 rfl (lv_at hl 0 rfl) ?_
  refine lv_iload_n hx hb dX2_reweigh_1 rfl (lv_at hl 1 rfl) ?_
  refine vp_callSi (W.runV (As := [.int (jI x)]) (rest := []) ⟨hx, hb, hml, hown, hts⟩ (metX2_badCell l dC dI d h b1 b2 b3 b4 b5 b6 L n wd wi wt up dn ch x (by omega) (by omega)) (cwV 1 hts (lw_V q190 q192 qs11 q21 q193) rfl rfl rfl (by decide +kernel) ⟨Nat.le_of_ble_eq_true rfl, Nat.le_of_ble_eq_true rfl⟩) ⟨zPp_bl, va_recv hK hP (ci := 1) (q0 := 0) rfl rfl, fun U hU hW => ⟨rfl, by rw [hU]; exact hP, va_K.moved hW.alike hK⟩⟩ rfl rfl hl.1 rfl (lv_room (Nat.le_of_ble_eq_true rfl)) dX2_reweigh_2 ⟨Nat.le_of_ble_eq_true rfl, Nat.le_of_ble_eq_true rfl⟩) (fun r_ hr_ => ?_)
  obtain ⟨z_1, rfl, hz_1⟩ := hr_
  refine ji_if_eq (tgt := 11) hx hb dX2_reweigh_5 (by decide) (by omega) (fun c_2 => ?_) (fun c_2 => ?_)
  · refine lv_aload_n hx hb dX2_reweigh_11 rfl (lv_at hl 0 rfl) ?_
    refine lv_iload_n hx hb dX2_reweigh_12 rfl (lv_at hl 2 rfl) ?_
    refine vp_callSi (W.runV (As := [.int (jI y)]) (rest := []) ⟨hx, hb, hml, hown, hts⟩ (metX2_badWeight l dC dI d h b1 b2 b3 b4 b5 b6 L n wd wi wt up dn ch y (by omega)) (cwV 1 hts (lw_V q182 q184 qs10 q21 q185) rfl rfl rfl (by decide +kernel) ⟨Nat.le_of_ble_eq_true rfl, Nat.le_of_ble_eq_true rfl⟩) ⟨zPp_bl, va_recv hK hP (ci := 1) (q0 := 0) rfl rfl, fun U hU hW => ⟨rfl, by rw [hU]; exact hP, va_K.moved hW.alike hK⟩⟩ rfl rfl hl.1 rfl (lv_room (Nat.le_of_ble_eq_true rfl)) dX2_reweigh_13 ⟨Nat.le_of_ble_eq_true rfl, Nat.le_of_ble_eq_true rfl⟩) (fun r_ hr_ => ?_)
    obtain ⟨z_3, rfl, hz_3⟩ := hr_
    refine ji_if_eq (tgt := 22) hx hb dX2_reweigh_16 (by decide) (by omega) (fun c_4 => ?_) (fun c_4 => ?_)
    · refine lv_aload_n hx hb dX2_reweigh_22 rfl (lv_at hl 0 rfl) ?_
      refine va_get (D := (dC, dI)) (ci := 1) (v := .ref b3) (C := RX2) (T := TX2) (N := 8) hx hb hts in_X2 hown hK hP 0 rfl rfl 4 (by decide) (hts _ q153) (fun _ h9 => h9) rfl dX2_reweigh_23 ?_
      refine lv_iload_n hx hb dX2_reweigh_26 rfl (lv_at hl 1 rfl) ?_
      refine ji_ld (f := wt) (n := 10) (cA := d) hx hb hK hP 3 0 rfl rfl (by omega) (by decide) dX2_reweigh_27 ?_
      refine lv_istore_n (lv' := [(3, .int (jI (wt x))), (0, .ref h), (1, .int (jI x)), (2, .int (jI y))]) hx hb dX2_reweigh_28 rfl hl (by decide) rfl (fun ls hl => ?_)
      refine lv_aload_n hx hb dX2_reweigh_29 rfl (lv_at hl 1 rfl) ?_
      refine va_get (D := (dC, dI)) (ci := 1) (v := .ref b3) (C := RX2) (T := TX2) (N := 8) hx hb hts in_X2 hown hK hP 0 rfl rfl 4 (by decide) (hts _ q153) (fun _ h9 => h9) rfl dX2_reweigh_30 ?_
      refine lv_iload_n hx hb dX2_reweigh_33 rfl (lv_at hl 2 rfl) ?_
      refine lv_iload_n hx hb dX2_reweigh_34 rfl (lv_at hl 3 rfl) ?_
      refine ji_st (f := wt) (n := 10) (cA := d) (i := x) (x := y) hx hb hK hP hD hS 3 0 rfl rfl (by omega) (by decide) dX2_reweigh_35 (fun H locs hP hD hS => ?_)
      have hP : va_P (dC, dI) vwCl (wM d h b1 b2 b3 b4 b5 b6 L n wd wi (uI wt x y) up dn ch) H := hP
      have hD : va_D A (wM d h b1 b2 b3 b4 b5 b6 L n wd wi (uI wt x y) up dn ch) := hD
      refine lv_iload_n hx hb dX2_reweigh_36 rfl (lv_at hl 0 rfl) ?_
      exact W.iret (v := jI (wt x)) hx hb hr (fun t_ ht_ hW_ => ⟨⟨_, (n, wd, wi, uI wt x y, up, dn, ch), rfl, ⟨wt x, rfl, ⟨_, rfl, Or.inr ⟨by omega, rfl, rfl⟩⟩⟩, by rw [ht_]; exact hP, va_K.moved hW_.alike hK, hD⟩, hS.F ht_⟩) hS.2.2 dX2_reweigh_37
    · refine lv_bipush (v := jI (-3)) hx hb dX2_reweigh_19 (by decide) ?_
      exact W.iret (v := jI (-3)) hx hb hr (fun t_ ht_ hW_ => ⟨⟨_, (n, wd, wi, wt, up, dn, ch), rfl, ⟨(-3), rfl, ⟨_, rfl, Or.inl ⟨by omega, rfl⟩⟩⟩, by rw [ht_]; exact hP, va_K.moved hW_.alike hK, hD⟩, hS.F ht_⟩) hS.2.2 dX2_reweigh_21
  · refine lv_bipush (v := jI (-4)) hx hb dX2_reweigh_8 (by decide) ?_
    exact W.iret (v := jI (-4)) hx hb hr (fun t_ ht_ hW_ => ⟨⟨_, (n, wd, wi, wt, up, dn, ch), rfl, ⟨(-4), rfl, ⟨_, rfl, Or.inl ⟨by omega, rfl⟩⟩⟩, by rw [ht_]; exact hP, va_K.moved hW_.alike hK, hD⟩, hS.F ht_⟩) hS.2.2 dX2_reweigh_10
set_option maxHeartbeats 4000000 in
set_option maxRecDepth 100000 in
theorem metX2_drop (l : Launch) (dC : Nat → ClassId) (dI : Nat → Nat → Nat) (d : ClassId) (h b1 b2 b3 b4 b5 b6 : Nat) (L : Int) (n : Int) (wd : Int → Int) (wi : Int → Int) (wt : Int → Int) (up : Int → Int) (dn : Int → Int) (ch : Int → Int) (sz : Nat) (hok : Ok L n wd wi wt) : Met l yX2_drop (ws_ yX2_drop cX2_drop 1 (some .int)) ({ frames := 0, cells := 0, slots := 0, locals := 0 }) (zPw dC dI (wM d h b1 b2 b3 b4 b5 b6 L n wd wi wt up dn ch) d sz [.ref h]) (wMQi dC dI d h b1 b2 b3 b4 b5 b6 L (va_A (wM d h b1 b2 b3 b4 b5 b6 L n wd wi wt up dn ch) sz) (fun z u => ∃ n1, u = (n1, wd, wi, wt, up, dn, ch) ∧ Drp n z n1)) 0 0 (va_A (wM d h b1 b2 b3 b4 b5 b6 L n wd wi wt up dn ch) sz) := by
  refine Met.ofW (cc := cX2_drop) (maxL := 1) (ret := (some .int)) (by decide) rfl ?_
  intro p e s m args below meth c s₁ B hml hv
  obtain ⟨rfl, hsz, hP, hK, hD0⟩ := hv
  have hx := B.exec
  have hb := B.bytes
  have hr := B.returns
  have hts := atoms_spec (ws := (ws_ yX2_drop cX2_drop 1 (some .int))) B.pre
  have hts : ∀ w ∈ lw_all, w.before _ s = true := fun w h => hts w (List.mem_cons_of_mem _ h)
  have hown : s.vm.findClass RX2 = some m.cls := findClass_of_methodNamed B.named
  have hlocks := B.notSynchronized
  subst hsz
  have hD := hD0.self (sz := s.heap.size)
  generalize hAe : va_A (wM d h b1 b2 b3 b4 b5 b6 L n wd wi wt up dn ch) s.heap.size = A at hD ⊢
  have hA : ∀ q : Nat, s.heap.size ≤ q → A q := fun q h => by rw [← hAe]; exact Or.inr h
  have hS : va_S A s.heap s.heap [] := va_S.rf
  have hl := lv_entry ([.ref h]) (n := 1) (Nat.le_of_ble_eq_true rfl)
  rw [lg_entry_eq]
  generalize (lg_sl ([.ref h]) ++ List.replicate (1 - (lg_sl ([.ref h])).length) Slot.unset).toArray = ls at hl ⊢
  have hl : lv_has ls 1 [(0, .ref h)] := hl
  have hok2 := hok
  obtain ⟨hLn, hwd, hwi, hwt⟩ := hok2
  refine lv_aload_n hx hb dX2_drop_0 rfl (lv_at hl 0 rfl) ?_
  refine va_get (D := (dC, dI)) (ci := 1) (v := .int (jI n)) (C := RX2) (T := TX2) (N := 8) hx hb hts in_X2 hown hK hP 0 rfl rfl 1 (by decide) (hts _ q150) (fun _ h9 => h9) rfl dX2_drop_1 ?_
  refine ji_if_ne (tgt := 10) hx hb dX2_drop_4 (by decide) (by omega) (fun c_1 => ?_) (fun c_1 => ?_)
  · refine lv_aload_n hx hb dX2_drop_10 rfl (lv_at hl 0 rfl) ?_
    refine lv_aload_n hx hb dX2_drop_11 rfl (lv_at hl 0 rfl) ?_
    refine va_get (D := (dC, dI)) (ci := 1) (v := .int (jI n)) (C := RX2) (T := TX2) (N := 8) hx hb hts in_X2 hown hK hP 0 rfl rfl 1 (by decide) (hts _ q150) (fun _ h9 => h9) rfl dX2_drop_12 ?_
    refine ji_const hx hb dX2_drop_15 ?_
    refine ji_sub hx hb dX2_drop_16 ?_
    refine va_put (D := (dC, dI)) (ci := 1) (v := .int (jI (n - 1))) (ty := .int) (C := RX2) (T := TX2) (N := 8) hx hb hts in_X2 tyX2 tyX2_ok nmX2 hown hK hP hD hS 0 rfl rfl 1 (by decide) (hts _ q150) (fun _ h9 => h9) rfl (by decide +kernel) rfl rfl (Nat.le_of_ble_eq_true rfl) dX2_drop_17 (fun H locs hP hD hS => ?_)
    have hP : va_P (dC, dI) vwCl (wM d h b1 b2 b3 b4 b5 b6 L (n - 1) wd wi wt up dn ch) H := hP
    have hD : va_D A (wM d h b1 b2 b3 b4 b5 b6 L (n - 1) wd wi wt up dn ch) := hD
    refine lv_aload_n hx hb dX2_drop_20 rfl (lv_at hl 0 rfl) ?_
    refine va_get (D := (dC, dI)) (ci := 1) (v := .int (jI (n - 1))) (C := RX2) (T := TX2) (N := 8) hx hb hts in_X2 hown hK hP 0 rfl rfl 1 (by decide) (hts _ q150) (fun _ h9 => h9) rfl dX2_drop_21 ?_
    exact W.iret (v := jI (n - 1)) hx hb hr (fun t_ ht_ hW_ => ⟨⟨_, (n - 1, wd, wi, wt, up, dn, ch), rfl, ⟨n - 1, rfl, ⟨_, rfl, by unfold Drp; omega⟩⟩, by rw [ht_]; exact hP, va_K.moved hW_.alike hK, hD⟩, hS.F ht_⟩) hS.2.2 dX2_drop_24
  · refine lv_bipush (v := jI (-6)) hx hb dX2_drop_7 (by decide) ?_
    exact W.iret (v := jI (-6)) hx hb hr (fun t_ ht_ hW_ => ⟨⟨_, (n, wd, wi, wt, up, dn, ch), rfl, ⟨(-6), rfl, ⟨_, rfl, by unfold Drp; omega⟩⟩, by rw [ht_]; exact hP, va_K.moved hW_.alike hK, hD⟩, hS.F ht_⟩) hS.2.2 dX2_drop_9
set_option maxHeartbeats 4000000 in
set_option maxRecDepth 100000 in
theorem metX2_exchange (l : Launch) (dC : Nat → ClassId) (dI : Nat → Nat → Nat) (d : ClassId) (h b1 b2 b3 b4 b5 b6 : Nat) (L : Int) (n : Int) (wd : Int → Int) (wi : Int → Int) (wt : Int → Int) (up : Int → Int) (dn : Int → Int) (ch : Int → Int) (sz : Nat) (x : Int) (hok : Ok L n wd wi wt) (hx1 : -2147483648 ≤ x ∧ x < 2147483648) : Met l yX2_exchange (ws_ yX2_exchange cX2_exchange 5 (some .int)) ({ frames := 0, cells := 0, slots := 0, locals := 0 }) (zPw dC dI (wM d h b1 b2 b3 b4 b5 b6 L n wd wi wt up dn ch) d sz [.ref h, .int (jI x)]) (wMQi dC dI d h b1 b2 b3 b4 b5 b6 L (va_A (wM d h b1 b2 b3 b4 b5 b6 L n wd wi wt up dn ch) sz) (fun z u => ∃ wd1 wi1 wt1, u = (n, wd1, wi1, wt1, up, dn, ch) ∧ Exc n wd wi wt x z wd1 wi1 wt1)) 0 0 (va_A (wM d h b1 b2 b3 b4 b5 b6 L n wd wi wt up dn ch) sz) := by
  refine Met.ofW (cc := cX2_exchange) (maxL := 5) (ret := (some .int)) (by decide) rfl ?_
  intro p e s m args below meth c s₁ B hml hv
  obtain ⟨rfl, hsz, hP, hK, hD0⟩ := hv
  have hx := B.exec
  have hb := B.bytes
  have hr := B.returns
  have hts := atoms_spec (ws := (ws_ yX2_exchange cX2_exchange 5 (some .int))) B.pre
  have hts : ∀ w ∈ lw_all, w.before _ s = true := fun w h => hts w (List.mem_cons_of_mem _ h)
  have hown : s.vm.findClass RX2 = some m.cls := findClass_of_methodNamed B.named
  have hlocks := B.notSynchronized
  subst hsz
  have hD := hD0.self (sz := s.heap.size)
  generalize hAe : va_A (wM d h b1 b2 b3 b4 b5 b6 L n wd wi wt up dn ch) s.heap.size = A at hD ⊢
  have hA : ∀ q : Nat, s.heap.size ≤ q → A q := fun q h => by rw [← hAe]; exact Or.inr h
  have hS : va_S A s.heap s.heap [] := va_S.rf
  have hl := lv_entry ([.ref h, .int (jI x)]) (n := 5) (Nat.le_of_ble_eq_true rfl)
  rw [lg_entry_eq]
  generalize (lg_sl ([.ref h, .int (jI x)]) ++ List.replicate (5 - (lg_sl ([.ref h, .int (jI x)])).length) Slot.unset).toArray = ls at hl ⊢
  have hl : lv_has ls 5 [(0, .ref h), (1, .int (jI x))] := hl
  have hok2 := hok
  obtain ⟨hLn, hwd, hwi, hwt⟩ := hok2
  refine lv_iload_n hx hb dX2_exchange_0 rfl (lv_at hl 1 rfl) ?_
  refine ji_if_lt (tgt := 14) hx hb dX2_exchange_1 (by decide) (by omega) (fun c_1 => ?_) (fun c_1 => ?_)
  · refine lv_bipush (v := jI (-4)) hx hb dX2_exchange_14 (by decide) ?_
    exact W.iret (v := jI (-4)) hx hb hr (fun t_ ht_ hW_ => ⟨⟨_, (n, wd, wi, wt, up, dn, ch), rfl, ⟨(-4), rfl, ⟨_, _, _, rfl, Or.inl ⟨by omega, rfl, rfl, rfl⟩⟩⟩, by rw [ht_]; exact hP, va_K.moved hW_.alike hK, hD⟩, hS.F ht_⟩) hS.2.2 dX2_exchange_16
  · refine lv_iload_n hx hb dX2_exchange_4 rfl (lv_at hl 1 rfl) ?_
    refine lv_aload_n hx hb dX2_exchange_5 rfl (lv_at hl 0 rfl) ?_
    refine va_get (D := (dC, dI)) (ci := 1) (v := .int (jI n)) (C := RX2) (T := TX2) (N := 8) hx hb hts in_X2 hown hK hP 0 rfl rfl 1 (by decide) (hts _ q150) (fun _ h9 => h9) rfl dX2_exchange_6 ?_
    refine ji_const hx hb dX2_exchange_9 ?_
    refine ji_sub hx hb dX2_exchange_10 ?_
    refine ji_icmp_lt (tgt := 17) hx hb dX2_exchange_11 (by decide) (by omega) (by omega) (fun c_2 => ?_) (fun c_2 => ?_)
    · refine lv_aload_n hx hb dX2_exchange_17 rfl (lv_at hl 0 rfl) ?_
      refine va_get (D := (dC, dI)) (ci := 1) (v := .ref b1) (C := RX2) (T := TX2) (N := 8) hx hb hts in_X2 hown hK hP 0 rfl rfl 2 (by decide) (hts _ q151) (fun _ h9 => h9) rfl dX2_exchange_18 ?_
      refine lv_iload_n hx hb dX2_exchange_21 rfl (lv_at hl 1 rfl) ?_
      refine ji_ld (f := wd) (n := 10) (cA := d) hx hb hK hP 1 0 rfl rfl (by omega) (by decide) dX2_exchange_22 ?_
      refine lv_istore_n (lv' := [(2, .int (jI (wd x))), (0, .ref h), (1, .int (jI x))]) hx hb dX2_exchange_23 rfl hl (by decide) rfl (fun ls hl => ?_)
      refine lv_aload_n hx hb dX2_exchange_24 rfl (lv_at hl 1 rfl) ?_
      refine va_get (D := (dC, dI)) (ci := 1) (v := .ref b2) (C := RX2) (T := TX2) (N := 8) hx hb hts in_X2 hown hK hP 0 rfl rfl 3 (by decide) (hts _ q152) (fun _ h9 => h9) rfl dX2_exchange_25 ?_
      refine lv_iload_n hx hb dX2_exchange_28 rfl (lv_at hl 2 rfl) ?_
      refine ji_ld (f := wi) (n := 10) (cA := d) hx hb hK hP 2 0 rfl rfl (by omega) (by decide) dX2_exchange_29 ?_
      refine lv_istore_n (lv' := [(3, .int (jI (wi x))), (2, .int (jI (wd x))), (0, .ref h), (1, .int (jI x))]) hx hb dX2_exchange_30 rfl hl (by decide) rfl (fun ls hl => ?_)
      refine lv_aload_n hx hb dX2_exchange_31 rfl (lv_at hl 2 rfl) ?_
      refine va_get (D := (dC, dI)) (ci := 1) (v := .ref b3) (C := RX2) (T := TX2) (N := 8) hx hb hts in_X2 hown hK hP 0 rfl rfl 4 (by decide) (hts _ q153) (fun _ h9 => h9) rfl dX2_exchange_32 ?_
      refine lv_iload_n hx hb dX2_exchange_35 rfl (lv_at hl 3 rfl) ?_
      refine ji_ld (f := wt) (n := 10) (cA := d) hx hb hK hP 3 0 rfl rfl (by omega) (by decide) dX2_exchange_36 ?_
      refine lv_istore (lv' := [(4, .int (jI (wt x))), (3, .int (jI (wi x))), (2, .int (jI (wd x))), (0, .ref h), (1, .int (jI x))]) hx hb dX2_exchange_37 hl (by decide) rfl (fun ls hl => ?_)
      refine lv_aload_n hx hb dX2_exchange_39 rfl (lv_at hl 3 rfl) ?_
      refine va_get (D := (dC, dI)) (ci := 1) (v := .ref b1) (C := RX2) (T := TX2) (N := 8) hx hb hts in_X2 hown hK hP 0 rfl rfl 2 (by decide) (hts _ q151) (fun _ h9 => h9) rfl dX2_exchange_40 ?_
      refine lv_iload_n hx hb dX2_exchange_43 rfl (lv_at hl 4 rfl) ?_
      refine lv_aload_n hx hb dX2_exchange_44 rfl (lv_at hl 3 rfl) ?_
      refine va_get (D := (dC, dI)) (ci := 1) (v := .ref b1) (C := RX2) (T := TX2) (N := 8) hx hb hts in_X2 hown hK hP 0 rfl rfl 2 (by decide) (hts _ q151) (fun _ h9 => h9) rfl dX2_exchange_45 ?_
      refine lv_iload_n hx hb dX2_exchange_48 rfl (lv_at hl 4 rfl) ?_
      refine ji_const hx hb dX2_exchange_49 ?_
      refine ji_add hx hb dX2_exchange_50 ?_
      refine ji_ld (f := wd) (n := 10) (cA := d) hx hb hK hP 1 0 rfl rfl (by omega) (by decide) dX2_exchange_51 ?_
      refine ji_st (f := wd) (n := 10) (cA := d) (i := x) (x := wd (x + 1)) hx hb hK hP hD hS 1 0 rfl rfl (by omega) (by decide) dX2_exchange_52 (fun H locs hP hD hS => ?_)
      have hP : va_P (dC, dI) vwCl (wM d h b1 b2 b3 b4 b5 b6 L n (uI wd x (wd (x + 1))) wi wt up dn ch) H := hP
      have hD : va_D A (wM d h b1 b2 b3 b4 b5 b6 L n (uI wd x (wd (x + 1))) wi wt up dn ch) := hD
      refine lv_aload_n hx hb dX2_exchange_53 rfl (lv_at hl 3 rfl) ?_
      refine va_get (D := (dC, dI)) (ci := 1) (v := .ref b2) (C := RX2) (T := TX2) (N := 8) hx hb hts in_X2 hown hK hP 0 rfl rfl 3 (by decide) (hts _ q152) (fun _ h9 => h9) rfl dX2_exchange_54 ?_
      refine lv_iload_n hx hb dX2_exchange_57 rfl (lv_at hl 4 rfl) ?_
      refine lv_aload_n hx hb dX2_exchange_58 rfl (lv_at hl 3 rfl) ?_
      refine va_get (D := (dC, dI)) (ci := 1) (v := .ref b2) (C := RX2) (T := TX2) (N := 8) hx hb hts in_X2 hown hK hP 0 rfl rfl 3 (by decide) (hts _ q152) (fun _ h9 => h9) rfl dX2_exchange_59 ?_
      refine lv_iload_n hx hb dX2_exchange_62 rfl (lv_at hl 4 rfl) ?_
      refine ji_const hx hb dX2_exchange_63 ?_
      refine ji_add hx hb dX2_exchange_64 ?_
      refine ji_ld (f := wi) (n := 10) (cA := d) hx hb hK hP 2 0 rfl rfl (by omega) (by decide) dX2_exchange_65 ?_
      refine ji_st (f := wi) (n := 10) (cA := d) (i := x) (x := wi (x + 1)) hx hb hK hP hD hS 2 0 rfl rfl (by omega) (by decide) dX2_exchange_66 (fun H locs hP hD hS => ?_)
      have hP : va_P (dC, dI) vwCl (wM d h b1 b2 b3 b4 b5 b6 L n (uI wd x (wd (x + 1))) (uI wi x (wi (x + 1))) wt up dn ch) H := hP
      have hD : va_D A (wM d h b1 b2 b3 b4 b5 b6 L n (uI wd x (wd (x + 1))) (uI wi x (wi (x + 1))) wt up dn ch) := hD
      refine lv_aload_n hx hb dX2_exchange_67 rfl (lv_at hl 3 rfl) ?_
      refine va_get (D := (dC, dI)) (ci := 1) (v := .ref b3) (C := RX2) (T := TX2) (N := 8) hx hb hts in_X2 hown hK hP 0 rfl rfl 4 (by decide) (hts _ q153) (fun _ h9 => h9) rfl dX2_exchange_68 ?_
      refine lv_iload_n hx hb dX2_exchange_71 rfl (lv_at hl 4 rfl) ?_
      refine lv_aload_n hx hb dX2_exchange_72 rfl (lv_at hl 3 rfl) ?_
      refine va_get (D := (dC, dI)) (ci := 1) (v := .ref b3) (C := RX2) (T := TX2) (N := 8) hx hb hts in_X2 hown hK hP 0 rfl rfl 4 (by decide) (hts _ q153) (fun _ h9 => h9) rfl dX2_exchange_73 ?_
      refine lv_iload_n hx hb dX2_exchange_76 rfl (lv_at hl 4 rfl) ?_
      refine ji_const hx hb dX2_exchange_77 ?_
      refine ji_add hx hb dX2_exchange_78 ?_
      refine ji_ld (f := wt) (n := 10) (cA := d) hx hb hK hP 3 0 rfl rfl (by omega) (by decide) dX2_exchange_79 ?_
      refine ji_st (f := wt) (n := 10) (cA := d) (i := x) (x := wt (x + 1)) hx hb hK hP hD hS 3 0 rfl rfl (by omega) (by decide) dX2_exchange_80 (fun H locs hP hD hS => ?_)
      have hP : va_P (dC, dI) vwCl (wM d h b1 b2 b3 b4 b5 b6 L n (uI wd x (wd (x + 1))) (uI wi x (wi (x + 1))) (uI wt x (wt (x + 1))) up dn ch) H := hP
      have hD : va_D A (wM d h b1 b2 b3 b4 b5 b6 L n (uI wd x (wd (x + 1))) (uI wi x (wi (x + 1))) (uI wt x (wt (x + 1))) up dn ch) := hD
      refine lv_aload_n hx hb dX2_exchange_81 rfl (lv_at hl 3 rfl) ?_
      refine va_get (D := (dC, dI)) (ci := 1) (v := .ref b1) (C := RX2) (T := TX2) (N := 8) hx hb hts in_X2 hown hK hP 0 rfl rfl 2 (by decide) (hts _ q151) (fun _ h9 => h9) rfl dX2_exchange_82 ?_
      refine lv_iload_n hx hb dX2_exchange_85 rfl (lv_at hl 4 rfl) ?_
      refine ji_const hx hb dX2_exchange_86 ?_
      refine ji_add hx hb dX2_exchange_87 ?_
      refine lv_iload_n hx hb dX2_exchange_88 rfl (lv_at hl 2 rfl) ?_
      refine ji_st (f := (uI wd x (wd (x + 1)))) (n := 10) (cA := d) (i := x + 1) (x := wd x) hx hb hK hP hD hS 1 0 rfl rfl (by omega) (by decide) dX2_exchange_89 (fun H locs hP hD hS => ?_)
      have hP : va_P (dC, dI) vwCl (wM d h b1 b2 b3 b4 b5 b6 L n (uI (uI wd x (wd (x + 1))) (x + 1) (wd x)) (uI wi x (wi (x + 1))) (uI wt x (wt (x + 1))) up dn ch) H := hP
      have hD : va_D A (wM d h b1 b2 b3 b4 b5 b6 L n (uI (uI wd x (wd (x + 1))) (x + 1) (wd x)) (uI wi x (wi (x + 1))) (uI wt x (wt (x + 1))) up dn ch) := hD
      refine lv_aload_n hx hb dX2_exchange_90 rfl (lv_at hl 3 rfl) ?_
      refine va_get (D := (dC, dI)) (ci := 1) (v := .ref b2) (C := RX2) (T := TX2) (N := 8) hx hb hts in_X2 hown hK hP 0 rfl rfl 3 (by decide) (hts _ q152) (fun _ h9 => h9) rfl dX2_exchange_91 ?_
      refine lv_iload_n hx hb dX2_exchange_94 rfl (lv_at hl 4 rfl) ?_
      refine ji_const hx hb dX2_exchange_95 ?_
      refine ji_add hx hb dX2_exchange_96 ?_
      refine lv_iload_n hx hb dX2_exchange_97 rfl (lv_at hl 1 rfl) ?_
      refine ji_st (f := (uI wi x (wi (x + 1)))) (n := 10) (cA := d) (i := x + 1) (x := wi x) hx hb hK hP hD hS 2 0 rfl rfl (by omega) (by decide) dX2_exchange_98 (fun H locs hP hD hS => ?_)
      have hP : va_P (dC, dI) vwCl (wM d h b1 b2 b3 b4 b5 b6 L n (uI (uI wd x (wd (x + 1))) (x + 1) (wd x)) (uI (uI wi x (wi (x + 1))) (x + 1) (wi x)) (uI wt x (wt (x + 1))) up dn ch) H := hP
      have hD : va_D A (wM d h b1 b2 b3 b4 b5 b6 L n (uI (uI wd x (wd (x + 1))) (x + 1) (wd x)) (uI (uI wi x (wi (x + 1))) (x + 1) (wi x)) (uI wt x (wt (x + 1))) up dn ch) := hD
      refine lv_aload_n hx hb dX2_exchange_99 rfl (lv_at hl 3 rfl) ?_
      refine va_get (D := (dC, dI)) (ci := 1) (v := .ref b3) (C := RX2) (T := TX2) (N := 8) hx hb hts in_X2 hown hK hP 0 rfl rfl 4 (by decide) (hts _ q153) (fun _ h9 => h9) rfl dX2_exchange_100 ?_
      refine lv_iload_n hx hb dX2_exchange_103 rfl (lv_at hl 4 rfl) ?_
      refine ji_const hx hb dX2_exchange_104 ?_
      refine ji_add hx hb dX2_exchange_105 ?_
      refine lv_iload hx hb dX2_exchange_106 (lv_at hl 0 rfl) ?_
      refine ji_st (f := (uI wt x (wt (x + 1)))) (n := 10) (cA := d) (i := x + 1) (x := wt x) hx hb hK hP hD hS 3 0 rfl rfl (by omega) (by decide) dX2_exchange_108 (fun H locs hP hD hS => ?_)
      have hP : va_P (dC, dI) vwCl (wM d h b1 b2 b3 b4 b5 b6 L n (uI (uI wd x (wd (x + 1))) (x + 1) (wd x)) (uI (uI wi x (wi (x + 1))) (x + 1) (wi x)) (uI (uI wt x (wt (x + 1))) (x + 1) (wt x)) up dn ch) H := hP
      have hD : va_D A (wM d h b1 b2 b3 b4 b5 b6 L n (uI (uI wd x (wd (x + 1))) (x + 1) (wd x)) (uI (uI wi x (wi (x + 1))) (x + 1) (wi x)) (uI (uI wt x (wt (x + 1))) (x + 1) (wt x)) up dn ch) := hD
      refine ji_const hx hb dX2_exchange_109 ?_
      exact W.iret (v := jI 0) hx hb hr (fun t_ ht_ hW_ => ⟨⟨_, (n, uI (uI wd x (wd (x + 1))) (x + 1) (wd x), uI (uI wi x (wi (x + 1))) (x + 1) (wi x), uI (uI wt x (wt (x + 1))) (x + 1) (wt x), up, dn, ch), rfl, ⟨0, rfl, ⟨_, _, _, rfl, Or.inr ⟨by omega, rfl, rfl, rfl⟩⟩⟩, by rw [ht_]; exact hP, va_K.moved hW_.alike hK, hD⟩, hS.F ht_⟩) hS.2.2 dX2_exchange_110
    · refine lv_bipush (v := jI (-4)) hx hb dX2_exchange_14 (by decide) ?_
      exact W.iret (v := jI (-4)) hx hb hr (fun t_ ht_ hW_ => ⟨⟨_, (n, wd, wi, wt, up, dn, ch), rfl, ⟨(-4), rfl, ⟨_, _, _, rfl, Or.inl ⟨by omega, rfl, rfl, rfl⟩⟩⟩, by rw [ht_]; exact hP, va_K.moved hW_.alike hK, hD⟩, hS.F ht_⟩) hS.2.2 dX2_exchange_16
end
section
theorem Dnx_bd {L n : Int} {wd wi wt : Int → Int} (hok : Ok L n wd wi wt) {i x v : Int} (hi : 0 ≤ i ∧ i < n) (h : Dnx wd wi wt n L i x v) : 0 ≤ v ∧ v ≤ 3000 := by
  have hok2 := hok
  obtain ⟨hLn, -⟩ := hok2
  obtain ⟨x0, v', h1, h3⟩ := h
  exact Fi_bd hok (a := i) (b := n) (lf := x) (rt := L) ⟨by omega, by omega, by omega⟩ x0 (by omega) ((Fi_f hi.2).mpr ⟨x, v', by omega, h1, h3⟩)
set_option maxHeartbeats 4000000 in
set_option maxRecDepth 100000 in
theorem metX2_fillUp (l : Launch) (dC : Nat → ClassId) (dI : Nat → Nat → Nat) (d : ClassId) (h b1 b2 b3 b4 b5 b6 : Nat) (L : Int) (n : Int) (wd : Int → Int) (wi : Int → Int) (wt : Int → Int) (up : Int → Int) (dn : Int → Int) (ch : Int → Int) (sz : Nat) (kk : Int) (hok : Ok L n wd wi wt) (hkk : 0 ≤ kk ∧ kk ≤ n) : Met l yX2_fillUp (ws_ yX2_fillUp cX2_fillUp 7 none) ({ frames := 2, cells := 0, slots := 0, locals := 44 }) (zPw dC dI (wM d h b1 b2 b3 b4 b5 b6 L n wd wi wt up dn ch) d sz [.ref h, .int (jI kk)]) (wMQv dC dI d h b1 b2 b3 b4 b5 b6 L (va_A (wM d h b1 b2 b3 b4 b5 b6 L n wd wi wt up dn ch) sz) (fun u => ∃ up1 dn1 ch1, u = (n, wd, wi, wt, up1, dn1, ch1) ∧ dn1 = dn ∧ ch1 = ch ∧ UpT wd wi wt L kk up1)) 0 0 (va_A (wM d h b1 b2 b3 b4 b5 b6 L n wd wi wt up dn ch) sz) := by
  refine Met.ofW (cc := cX2_fillUp) (maxL := 7) (ret := none) (by decide) rfl ?_
  intro p e s m args below meth c s₁ B hml hv
  obtain ⟨rfl, hsz, hP, hK, hD0⟩ := hv
  have hx := B.exec
  have hb := B.bytes
  have hr := B.returns
  have hts := atoms_spec (ws := (ws_ yX2_fillUp cX2_fillUp 7 none)) B.pre
  have hts : ∀ w ∈ lw_all, w.before _ s = true := fun w h => hts w (List.mem_cons_of_mem _ h)
  have hown : s.vm.findClass RX2 = some m.cls := findClass_of_methodNamed B.named
  have hlocks := B.notSynchronized
  subst hsz
  have hD := hD0.self (sz := s.heap.size)
  generalize hAe : va_A (wM d h b1 b2 b3 b4 b5 b6 L n wd wi wt up dn ch) s.heap.size = A at hD ⊢
  have hA : ∀ q : Nat, s.heap.size ≤ q → A q := fun q h => by rw [← hAe]; exact Or.inr h
  have hS : va_S A s.heap s.heap [] := va_S.rf
  have hl := lv_entry ([.ref h, .int (jI kk)]) (n := 7) (Nat.le_of_ble_eq_true rfl)
  rw [lg_entry_eq]
  generalize (lg_sl ([.ref h, .int (jI kk)]) ++ List.replicate (7 - (lg_sl ([.ref h, .int (jI kk)])).length) Slot.unset).toArray = ls at hl ⊢
  have hl : lv_has ls 7 [(0, .ref h), (1, .int (jI kk))] := hl
  have hok2 := hok
  obtain ⟨hLn, hwd, hwi, hwt⟩ := hok2
  refine ji_const hx hb dX2_fillUp_0 ?_
  refine lv_istore_n (lv' := [(2, .int (jI 0)), (0, .ref h), (1, .int (jI kk))]) hx hb dX2_fillUp_1 rfl hl (by decide) rfl (fun ls hl => ?_)
  have lo1 : ∀ (n_ : Nat) (i : Int) (g : Int → Int) (hi : 0 ≤ i ∧ i ≤ kk) (hT : UpT wd wi wt L i g) (hm_ : (kk - i).toNat < n_) (H : Heap) (locs : List Loc) (hP : va_P (dC, dI) vwCl (wM d h b1 b2 b3 b4 b5 b6 L n wd wi wt g dn ch) H) (hD : va_D A (wM d h b1 b2 b3 b4 b5 b6 L n wd wi wt g dn ch)) (hS : va_S A s.heap H locs) (ls : Array Slot) (hl : lv_has ls 7 [(0, .ref h), (1, .int (jI kk)), (2, .int (jI i))]), W p l e (headSpec (ws_ yX2_fillUp cX2_fillUp 7 none) ({ frames := 2, cells := 0, slots := 0, locals := 44 })).room s m ([.ref h, .int (jI kk)] : List Value).toArray below meth c H locs 0 0 (MQ below (wMQv dC dI d h b1 b2 b3 b4 b5 b6 L A (fun u => ∃ up1 dn1 ch1, u = (n, wd, wi, wt, up1, dn1, ch1) ∧ dn1 = dn ∧ ch1 = ch ∧ UpT wd wi wt L kk up1)) ([.ref h, .int (jI kk)] : List Value).toArray s 0 0 A) (F0 m 2 ls []) := by
    intro n_
    induction n_ with
    | zero => intro i g hi hT hm_; exact absurd hm_ (by omega)
    | succ n_ ih_lo1 =>
      intro i g hi hT hm_ H locs hP hD hS ls hl
      refine lv_iload_n hx hb dX2_fillUp_2 rfl (lv_at hl 2 rfl) ?_
      refine lv_iload_n hx hb dX2_fillUp_3 rfl (lv_at hl 1 rfl) ?_
      refine ji_icmp_ge (tgt := 114) hx hb dX2_fillUp_4 (by decide) (by omega) (by omega) (fun c_1 => ?_) (fun c_1 => ?_)
      · exact W.vret hx hb hr (fun t_ ht_ hW_ => ⟨⟨(n, wd, wi, wt, g, dn, ch), rfl, ⟨_, _, _, rfl, rfl, rfl, (show i = kk by omega) ▸ hT⟩, by rw [ht_]; exact hP, va_K.moved hW_.alike hK, hD⟩, hS.F ht_⟩) hS.2.2 dX2_fillUp_114
      · have m1 : ∀ (b0 : Int) (hb0 : BU wd wi wt L i (-1) b0) (H : Heap) (locs : List Loc) (hP : va_P (dC, dI) vwCl (wM d h b1 b2 b3 b4 b5 b6 L n wd wi wt g dn ch) H) (hD : va_D A (wM d h b1 b2 b3 b4 b5 b6 L n wd wi wt g dn ch)) (hS : va_S A s.heap H locs) (ls : Array Slot) (hl : lv_has ls 7 [(0, .ref h), (1, .int (jI kk)), (2, .int (jI i))]), W p l e (headSpec (ws_ yX2_fillUp cX2_fillUp 7 none) ({ frames := 2, cells := 0, slots := 0, locals := 44 })).room s m ([.ref h, .int (jI kk)] : List Value).toArray below meth c H locs 0 0 (MQ below (wMQv dC dI d h b1 b2 b3 b4 b5 b6 L A (fun u => ∃ up1 dn1 ch1, u = (n, wd, wi, wt, up1, dn1, ch1) ∧ dn1 = dn ∧ ch1 = ch ∧ UpT wd wi wt L kk up1)) ([.ref h, .int (jI kk)] : List Value).toArray s 0 0 A) (F0 m 17 ls [.int (jI b0)]) := by
          intro b0 hb0 H locs hP hD hS ls hl
          refine lv_istore_n (lv' := [(3, .int (jI b0)), (0, .ref h), (1, .int (jI kk)), (2, .int (jI i))]) hx hb dX2_fillUp_17 rfl hl (by decide) rfl (fun ls hl => ?_)
          refine ji_const hx hb dX2_fillUp_18 ?_
          refine lv_istore (lv' := [(4, .int (jI 0)), (3, .int (jI b0)), (0, .ref h), (1, .int (jI kk)), (2, .int (jI i))]) hx hb dX2_fillUp_19 hl (by decide) rfl (fun ls hl => ?_)
          have lo2 : ∀ (n_ : Nat) (b : Int) (x : Int) (g2 : Int → Int) (hx2 : 0 ≤ x ∧ x ≤ 61) (hb2 : BU wd wi wt L i (x - 1) b) (hT2 : UpT wd wi wt L i g2) (hR : UpR wd wi wt L i x g2) (hm_ : (61 - x).toNat < n_) (H : Heap) (locs : List Loc) (hP : va_P (dC, dI) vwCl (wM d h b1 b2 b3 b4 b5 b6 L n wd wi wt g2 dn ch) H) (hD : va_D A (wM d h b1 b2 b3 b4 b5 b6 L n wd wi wt g2 dn ch)) (hS : va_S A s.heap H locs) (ls : Array Slot) (hl : lv_has ls 7 [(0, .ref h), (1, .int (jI kk)), (2, .int (jI i)), (3, .int (jI b)), (4, .int (jI x))]), W p l e (headSpec (ws_ yX2_fillUp cX2_fillUp 7 none) ({ frames := 2, cells := 0, slots := 0, locals := 44 })).room s m ([.ref h, .int (jI kk)] : List Value).toArray below meth c H locs 0 0 (MQ below (wMQv dC dI d h b1 b2 b3 b4 b5 b6 L A (fun u => ∃ up1 dn1 ch1, u = (n, wd, wi, wt, up1, dn1, ch1) ∧ dn1 = dn ∧ ch1 = ch ∧ UpT wd wi wt L kk up1)) ([.ref h, .int (jI kk)] : List Value).toArray s 0 0 A) (F0 m 21 ls []) := by
            intro n_
            induction n_ with
            | zero => intro b x g2 hx2 hb2 hT2 hR hm_; exact absurd hm_ (by omega)
            | succ n_ ih_lo2 =>
              intro b x g2 hx2 hb2 hT2 hR hm_ H locs hP hD hS ls hl
              have hbb := BU_bd hok (by omega) hb2
              refine lv_iload hx hb dX2_fillUp_21 (lv_at hl 4 rfl) ?_
              refine lv_bipush (v := jI 61) hx hb dX2_fillUp_23 (by decide) ?_
              refine ji_icmp_ge (tgt := 108) hx hb dX2_fillUp_25 (by decide) (by omega) (by omega) (fun c_2 => ?_) (fun c_2 => ?_)
              · refine ji_iinc (v := i + 1) (lv' := [(2, .int (jI (i + 1))), (0, .ref h), (1, .int (jI kk)), (3, .int (jI b)), (4, .int (jI x))]) hx hb dX2_fillUp_108 hl (k := 2) rfl (by omega) (by decide) rfl (fun ls hl => ?_)
                refine lv_goto (tgt := 2) hx hb dX2_fillUp_111 (by decide) ?_
                exact ih_lo1 (i + 1) g2 (by omega) (UpT_next hT2 ((show x = 61 by omega) ▸ hR)) (by omega) _ _ hP hD hS ls (lv_sub hl [1, 2, 0] rfl)
              · have m2 : ∀ (bv : Int) (hbv : (i = 0 ∧ bv = -1) ∨ (0 < i ∧ bv = x - wd (i - 1))) (H : Heap) (locs : List Loc) (hP : va_P (dC, dI) vwCl (wM d h b1 b2 b3 b4 b5 b6 L n wd wi wt g2 dn ch) H) (hD : va_D A (wM d h b1 b2 b3 b4 b5 b6 L n wd wi wt g2 dn ch)) (hS : va_S A s.heap H locs) (ls : Array Slot) (hl : lv_has ls 7 [(0, .ref h), (1, .int (jI kk)), (2, .int (jI i)), (3, .int (jI b)), (4, .int (jI x))]), W p l e (headSpec (ws_ yX2_fillUp cX2_fillUp 7 none) ({ frames := 2, cells := 0, slots := 0, locals := 44 })).room s m ([.ref h, .int (jI kk)] : List Value).toArray below meth c H locs 0 0 (MQ below (wMQv dC dI d h b1 b2 b3 b4 b5 b6 L A (fun u => ∃ up1 dn1 ch1, u = (n, wd, wi, wt, up1, dn1, ch1) ∧ dn1 = dn ∧ ch1 = ch ∧ UpT wd wi wt L kk up1)) ([.ref h, .int (jI kk)] : List Value).toArray s 0 0 A) (F0 m 47 ls [.int (jI bv)]) := by
                  intro bv hbv H locs hP hD hS ls hl
                  have hwi0 : i = 0 ∨ (1 ≤ wd (i - 1) ∧ wd (i - 1) ≤ 5) := by
                    rcases Int.lt_or_le 0 i with q9 | q9
                    · exact Or.inr (hwd (i - 1) (by omega) (by omega))
                    · exact Or.inl (by omega)
                  refine lv_istore (lv' := [(5, .int (jI bv)), (0, .ref h), (1, .int (jI kk)), (2, .int (jI i)), (3, .int (jI b)), (4, .int (jI x))]) hx hb dX2_fillUp_47 hl (by decide) rfl (fun ls hl => ?_)
                  have m3 : ∀ (bb3 : Int) (hb3 : BU wd wi wt L i (x) bb3) (H : Heap) (locs : List Loc) (hP : va_P (dC, dI) vwCl (wM d h b1 b2 b3 b4 b5 b6 L n wd wi wt g2 dn ch) H) (hD : va_D A (wM d h b1 b2 b3 b4 b5 b6 L n wd wi wt g2 dn ch)) (hS : va_S A s.heap H locs) (ls : Array Slot) (hl : lv_has ls 7 [(0, .ref h), (1, .int (jI kk)), (2, .int (jI i)), (3, .int (jI bb3)), (4, .int (jI x))]), W p l e (headSpec (ws_ yX2_fillUp cX2_fillUp 7 none) ({ frames := 2, cells := 0, slots := 0, locals := 44 })).room s m ([.ref h, .int (jI kk)] : List Value).toArray below meth c H locs 0 0 (MQ below (wMQv dC dI d h b1 b2 b3 b4 b5 b6 L A (fun u => ∃ up1 dn1 ch1, u = (n, wd, wi, wt, up1, dn1, ch1) ∧ dn1 = dn ∧ ch1 = ch ∧ UpT wd wi wt L kk up1)) ([.ref h, .int (jI kk)] : List Value).toArray s 0 0 A) (F0 m 74 ls []) := by
                    intro bb3 hb3 H locs hP hD hS ls hl
                    have hbb3 := BU_bd hok (by omega) hb3
                    refine lv_aload_n hx hb dX2_fillUp_74 rfl (lv_at hl 0 rfl) ?_
                    refine lv_iload_n hx hb dX2_fillUp_75 rfl (lv_at hl 2 rfl) ?_
                    refine lv_iload hx hb dX2_fillUp_76 (lv_at hl 4 rfl) ?_
                    refine vp_callSi (W.runV (As := [.int (jI i), .int (jI x)]) (rest := []) ⟨hx, hb, hml, hown, hts⟩ (metX2_own l dC dI d h b1 b2 b3 b4 b5 b6 L n wd wi wt g2 dn ch i x hok (by omega) (by omega)) (cwV 2 hts (lw_V q223 q225 qs14 q21 q226) rfl rfl rfl (by decide +kernel) ⟨Nat.le_of_ble_eq_true rfl, Nat.le_of_ble_eq_true rfl⟩) ⟨zPp_bl, va_recv hK hP (ci := 1) (q0 := 0) rfl rfl, fun U hU hW => ⟨rfl, by rw [hU]; exact hP, va_K.moved hW.alike hK⟩⟩ rfl rfl hl.1 rfl (lv_room (Nat.le_of_ble_eq_true rfl)) dX2_fillUp_78 ⟨Nat.le_of_ble_eq_true rfl, Nat.le_of_ble_eq_true rfl⟩) (fun r_ hr_ => ?_)
                    obtain ⟨zo, rfl, hzo⟩ := hr_
                    have hob := own_bd hok (by omega) hzo
                    refine lv_istore (lv' := [(6, .int (jI zo)), (0, .ref h), (1, .int (jI kk)), (2, .int (jI i)), (3, .int (jI bb3)), (4, .int (jI x))]) hx hb dX2_fillUp_81 hl (by decide) rfl (fun ls hl => ?_)
                    refine lv_aload_n hx hb dX2_fillUp_83 rfl (lv_at hl 1 rfl) ?_
                    refine va_get (D := (dC, dI)) (ci := 1) (v := .ref b4) (C := RX2) (T := TX2) (N := 8) hx hb hts in_X2 hown hK hP 0 rfl rfl 5 (by decide) (hts _ q154) (fun _ h9 => h9) rfl dX2_fillUp_84 ?_
                    refine lv_iload_n hx hb dX2_fillUp_87 rfl (lv_at hl 3 rfl) ?_
                    refine lv_bipush (v := jI 61) hx hb dX2_fillUp_88 (by decide) ?_
                    refine ji_mul hx hb dX2_fillUp_90 ?_
                    refine lv_iload hx hb dX2_fillUp_91 (lv_at hl 5 rfl) ?_
                    refine ji_add hx hb dX2_fillUp_93 ?_
                    refine lv_aload_n hx hb dX2_fillUp_94 rfl (lv_at hl 1 rfl) ?_
                    refine lv_iload_n hx hb dX2_fillUp_95 rfl (lv_at hl 4 rfl) ?_
                    refine lv_iload hx hb dX2_fillUp_96 (lv_at hl 0 rfl) ?_
                    refine vp_callSi (W.runV (As := [.int (jI bb3), .int (jI zo)]) (rest := [.int (jI ((i * 61) + x)), .ref b4]) ⟨hx, hb, hml, hown, hts⟩ (metX2_sum l dC dI d h b1 b2 b3 b4 b5 b6 L n wd wi wt g2 dn ch bb3 zo (by omega) (by omega)) (cwV 2 hts (lw_V q227 q229 qs15 q21 q230) rfl rfl rfl (by decide +kernel) ⟨Nat.le_of_ble_eq_true rfl, Nat.le_of_ble_eq_true rfl⟩) ⟨zPp_bl, va_recv hK hP (ci := 1) (q0 := 0) rfl rfl, fun U hU hW => ⟨rfl, by rw [hU]; exact hP, va_K.moved hW.alike hK⟩⟩ rfl rfl hl.1 rfl (lv_room (Nat.le_of_ble_eq_true rfl)) dX2_fillUp_98 ⟨Nat.le_of_ble_eq_true rfl, Nat.le_of_ble_eq_true rfl⟩) (fun r_ hr_ => ?_)
                    obtain ⟨zs, rfl, hzs⟩ := hr_
                    have hcell := Up_cell hok (by omega) hx2.1 hb3 hzo hzs
                    have hput := UpT_put (k := kk) hT2 hx2.1 hR hcell
                    refine ji_st (f := g2) (n := 610) (cA := d) (i := (i * 61) + x) (x := zs) hx hb hK hP hD hS 4 0 rfl rfl (by omega) (by decide) dX2_fillUp_101 (fun H locs hP hD hS => ?_)
                    have hP : va_P (dC, dI) vwCl (wM d h b1 b2 b3 b4 b5 b6 L n wd wi wt (uI g2 ((i * 61) + x) zs) dn ch) H := hP
                    have hD : va_D A (wM d h b1 b2 b3 b4 b5 b6 L n wd wi wt (uI g2 ((i * 61) + x) zs) dn ch) := hD
                    refine ji_iinc (v := x + 1) (lv' := [(4, .int (jI (x + 1))), (6, .int (jI zo)), (0, .ref h), (1, .int (jI kk)), (2, .int (jI i)), (3, .int (jI bb3))]) hx hb dX2_fillUp_102 hl (k := 5) rfl (by omega) (by decide) rfl (fun ls hl => ?_)
                    refine lv_goto (tgt := 21) hx hb dX2_fillUp_105 (by decide) ?_
                    exact ih_lo2 bb3 (x + 1) (uI g2 ((i * 61) + x) zs) (by omega) ((show x = x + 1 - 1 by omega) ▸ hb3) hput.1 hput.2 (by omega) _ _ hP hD hS ls (lv_sub hl [2, 3, 4, 5, 0] rfl)
                  refine lv_iload hx hb dX2_fillUp_49 (lv_at hl 0 rfl) ?_
                  refine ji_if_lt (tgt := 74) hx hb dX2_fillUp_51 (by decide) (by omega) (fun c_3 => ?_) (fun c_3 => ?_)
                  · exact m3 b (BU_skip hok (by omega) hb2 hbv (by omega)) _ _ hP hD hS ls (lv_sub hl [1, 2, 3, 4, 5] rfl)
                  · have hwi1 := hwd (i - 1) (by omega) (by omega)
                    refine lv_aload_n hx hb dX2_fillUp_54 rfl (lv_at hl 1 rfl) ?_
                    refine lv_iload_n hx hb dX2_fillUp_55 rfl (lv_at hl 4 rfl) ?_
                    refine lv_aload_n hx hb dX2_fillUp_56 rfl (lv_at hl 1 rfl) ?_
                    refine va_get (D := (dC, dI)) (ci := 1) (v := .ref b4) (C := RX2) (T := TX2) (N := 8) hx hb hts in_X2 hown hK hP 0 rfl rfl 5 (by decide) (hts _ q154) (fun _ h9 => h9) rfl dX2_fillUp_57 ?_
                    refine lv_iload_n hx hb dX2_fillUp_60 rfl (lv_at hl 3 rfl) ?_
                    refine ji_const hx hb dX2_fillUp_61 ?_
                    refine ji_sub hx hb dX2_fillUp_62 ?_
                    refine lv_bipush (v := jI 61) hx hb dX2_fillUp_63 (by decide) ?_
                    refine ji_mul hx hb dX2_fillUp_65 ?_
                    refine lv_iload hx hb dX2_fillUp_66 (lv_at hl 0 rfl) ?_
                    refine ji_add hx hb dX2_fillUp_68 ?_
                    refine ji_ld (f := g2) (n := 610) (cA := d) hx hb hK hP 4 0 rfl rfl (by omega) (by decide) dX2_fillUp_69 ?_
                    have htv := hT2 (i - 1) bv (by omega) (by omega) (by omega) (by omega)
                    have htb := ResN_bd htv (fun v hv => Upx_bd hok (by omega) (by omega) hv)
                    refine vp_callSi (W.runV (As := [.int (jI b), .int (jI (g2 (((i - 1) * 61) + bv)))]) (rest := []) ⟨hx, hb, hml, hown, hts⟩ (metX2_least l dC dI d h b1 b2 b3 b4 b5 b6 L n wd wi wt g2 dn ch b (g2 (((i - 1) * 61) + bv)) (by omega) (by omega)) (cwV 2 hts (lw_V q219 q221 qs13 q21 q222) rfl rfl rfl (by decide +kernel) ⟨Nat.le_of_ble_eq_true rfl, Nat.le_of_ble_eq_true rfl⟩) ⟨zPp_bl, va_recv hK hP (ci := 1) (q0 := 0) rfl rfl, fun U hU hW => ⟨rfl, by rw [hU]; exact hP, va_K.moved hW.alike hK⟩⟩ rfl rfl hl.1 rfl (lv_room (Nat.le_of_ble_eq_true rfl)) dX2_fillUp_70 ⟨Nat.le_of_ble_eq_true rfl, Nat.le_of_ble_eq_true rfl⟩) (fun r_ hr_ => ?_)
                    obtain ⟨zl, rfl, hzl⟩ := hr_
                    refine lv_istore_n (lv' := [(3, .int (jI zl)), (5, .int (jI bv)), (0, .ref h), (1, .int (jI kk)), (2, .int (jI i)), (4, .int (jI x))]) hx hb dX2_fillUp_73 rfl hl (by decide) rfl (fun ls hl => ?_)
                    exact m3 zl (BU_step hok (by omega) hb2 hbv (by omega) htv hzl) _ _ hP hD hS ls (lv_sub hl [2, 3, 4, 0, 5] rfl)
                refine lv_iload_n hx hb dX2_fillUp_28 rfl (lv_at hl 2 rfl) ?_
                refine ji_if_ne (tgt := 36) hx hb dX2_fillUp_29 (by decide) (by omega) (fun c_4 => ?_) (fun c_4 => ?_)
                · refine lv_iload hx hb dX2_fillUp_36 (lv_at hl 4 rfl) ?_
                  refine lv_aload_n hx hb dX2_fillUp_38 rfl (lv_at hl 0 rfl) ?_
                  refine va_get (D := (dC, dI)) (ci := 1) (v := .ref b1) (C := RX2) (T := TX2) (N := 8) hx hb hts in_X2 hown hK hP 0 rfl rfl 2 (by decide) (hts _ q151) (fun _ h9 => h9) rfl dX2_fillUp_39 ?_
                  refine lv_iload_n hx hb dX2_fillUp_42 rfl (lv_at hl 2 rfl) ?_
                  refine ji_const hx hb dX2_fillUp_43 ?_
                  refine ji_sub hx hb dX2_fillUp_44 ?_
                  refine ji_ld (f := wd) (n := 10) (cA := d) hx hb hK hP 1 0 rfl rfl (by omega) (by decide) dX2_fillUp_45 ?_
                  have f_5 := hwd (i - 1) (by omega) (by omega)
                  refine ji_sub hx hb dX2_fillUp_46 ?_
                  exact m2 (x - (wd (i - 1))) (by omega) _ _ hP hD hS ls (lv_sub hl [0, 1, 2, 3, 4] rfl)
                · refine ji_const hx hb dX2_fillUp_32 ?_
                  refine lv_goto (tgt := 47) hx hb dX2_fillUp_33 (by decide) ?_
                  exact m2 (-1) (by omega) _ _ hP hD hS ls (lv_sub hl [0, 1, 2, 3, 4] rfl)
          exact lo2 _ b0 0 g (by omega) hb0 hT (fun x' q1 q2 => absurd q2 (by omega)) (Nat.lt_succ_self _) _ _ hP hD hS ls (lv_sub hl [2, 3, 4, 1, 0] rfl)
        refine lv_iload_n hx hb dX2_fillUp_7 rfl (lv_at hl 2 rfl) ?_
        refine ji_if_ne (tgt := 15) hx hb dX2_fillUp_8 (by decide) (by omega) (fun c_6 => ?_) (fun c_6 => ?_)
        · refine ji_ldc (z := 1000000) hx hb hown (hts _ q218) (by decide) dX2_fillUp_15 ?_
          exact m1 1000000 (BU_start hok (by omega)) _ _ hP hD hS ls (lv_sub hl [0, 1, 2] rfl)
        · refine ji_const hx hb dX2_fillUp_11 ?_
          refine lv_goto (tgt := 17) hx hb dX2_fillUp_12 (by decide) ?_
          exact m1 0 (Or.inl (by omega)) _ _ hP hD hS ls (lv_sub hl [0, 1, 2] rfl)
  exact lo1 _ 0 up (by omega) (fun i x q1 q2 => absurd q2 (by omega)) (Nat.lt_succ_self _) _ _ hP hD hS ls (lv_sub hl [1, 2, 0] rfl)
set_option maxHeartbeats 4000000 in
set_option maxRecDepth 100000 in
theorem metX2_fillDown (l : Launch) (dC : Nat → ClassId) (dI : Nat → Nat → Nat) (d : ClassId) (h b1 b2 b3 b4 b5 b6 : Nat) (L : Int) (n : Int) (wd : Int → Int) (wi : Int → Int) (wt : Int → Int) (up : Int → Int) (dn : Int → Int) (ch : Int → Int) (sz : Nat) (hok : Ok L n wd wi wt) : Met l yX2_fillDown (ws_ yX2_fillDown cX2_fillDown 6 none) ({ frames := 2, cells := 0, slots := 0, locals := 44 }) (zPw dC dI (wM d h b1 b2 b3 b4 b5 b6 L n wd wi wt up dn ch) d sz [.ref h]) (wMQv dC dI d h b1 b2 b3 b4 b5 b6 L (va_A (wM d h b1 b2 b3 b4 b5 b6 L n wd wi wt up dn ch) sz) (fun u => ∃ up1 dn1 ch1, u = (n, wd, wi, wt, up1, dn1, ch1) ∧ up1 = up ∧ ch1 = ch ∧ DnT wd wi wt n L 0 dn1)) 0 0 (va_A (wM d h b1 b2 b3 b4 b5 b6 L n wd wi wt up dn ch) sz) := by
  refine Met.ofW (cc := cX2_fillDown) (maxL := 6) (ret := none) (by decide) rfl ?_
  intro p e s m args below meth c s₁ B hml hv
  obtain ⟨rfl, hsz, hP, hK, hD0⟩ := hv
  have hx := B.exec
  have hb := B.bytes
  have hr := B.returns
  have hts := atoms_spec (ws := (ws_ yX2_fillDown cX2_fillDown 6 none)) B.pre
  have hts : ∀ w ∈ lw_all, w.before _ s = true := fun w h => hts w (List.mem_cons_of_mem _ h)
  have hown : s.vm.findClass RX2 = some m.cls := findClass_of_methodNamed B.named
  have hlocks := B.notSynchronized
  subst hsz
  have hD := hD0.self (sz := s.heap.size)
  generalize hAe : va_A (wM d h b1 b2 b3 b4 b5 b6 L n wd wi wt up dn ch) s.heap.size = A at hD ⊢
  have hA : ∀ q : Nat, s.heap.size ≤ q → A q := fun q h => by rw [← hAe]; exact Or.inr h
  have hS : va_S A s.heap s.heap [] := va_S.rf
  have hl := lv_entry ([.ref h]) (n := 6) (Nat.le_of_ble_eq_true rfl)
  rw [lg_entry_eq]
  generalize (lg_sl ([.ref h]) ++ List.replicate (6 - (lg_sl ([.ref h])).length) Slot.unset).toArray = ls at hl ⊢
  have hl : lv_has ls 6 [(0, .ref h)] := hl
  have hok2 := hok
  obtain ⟨hLn, hwd, hwi, hwt⟩ := hok2
  refine lv_aload_n hx hb dX2_fillDown_0 rfl (lv_at hl 0 rfl) ?_
  refine va_get (D := (dC, dI)) (ci := 1) (v := .int (jI n)) (C := RX2) (T := TX2) (N := 8) hx hb hts in_X2 hown hK hP 0 rfl rfl 1 (by decide) (hts _ q150) (fun _ h9 => h9) rfl dX2_fillDown_1 ?_
  refine ji_const hx hb dX2_fillDown_4 ?_
  refine ji_sub hx hb dX2_fillDown_5 ?_
  refine lv_istore_n (lv' := [(1, .int (jI (n - 1))), (0, .ref h)]) hx hb dX2_fillDown_6 rfl hl (by decide) rfl (fun ls hl => ?_)
  have lo1 : ∀ (n_ : Nat) (i : Int) (g : Int → Int) (hi : -1 ≤ i ∧ i < n) (hT : DnT wd wi wt n L (i + 1) g) (hm_ : (i + 1).toNat < n_) (H : Heap) (locs : List Loc) (hP : va_P (dC, dI) vwCl (wM d h b1 b2 b3 b4 b5 b6 L n wd wi wt up g ch) H) (hD : va_D A (wM d h b1 b2 b3 b4 b5 b6 L n wd wi wt up g ch)) (hS : va_S A s.heap H locs) (ls : Array Slot) (hl : lv_has ls 6 [(0, .ref h), (1, .int (jI i))]), W p l e (headSpec (ws_ yX2_fillDown cX2_fillDown 6 none) ({ frames := 2, cells := 0, slots := 0, locals := 44 })).room s m ([.ref h] : List Value).toArray below meth c H locs 0 0 (MQ below (wMQv dC dI d h b1 b2 b3 b4 b5 b6 L A (fun u => ∃ up1 dn1 ch1, u = (n, wd, wi, wt, up1, dn1, ch1) ∧ up1 = up ∧ ch1 = ch ∧ DnT wd wi wt n L 0 dn1)) ([.ref h] : List Value).toArray s 0 0 A) (F0 m 7 ls []) := by
    intro n_
    induction n_ with
    | zero => intro i g hi hT hm_; exact absurd hm_ (by omega)
    | succ n_ ih_lo1 =>
      intro i g hi hT hm_ H locs hP hD hS ls hl
      refine lv_iload_n hx hb dX2_fillDown_7 rfl (lv_at hl 1 rfl) ?_
      refine ji_if_lt (tgt := 120) hx hb dX2_fillDown_8 (by decide) (by omega) (fun c_1 => ?_) (fun c_1 => ?_)
      · exact W.vret hx hb hr (fun t_ ht_ hW_ => ⟨⟨(n, wd, wi, wt, up, g, ch), rfl, ⟨_, _, _, rfl, rfl, rfl, (show i + 1 = 0 by omega) ▸ hT⟩, by rw [ht_]; exact hP, va_K.moved hW_.alike hK, hD⟩, hS.F ht_⟩) hS.2.2 dX2_fillDown_120
      · have m1 : ∀ (b0 : Int) (hb0 : BD wd wi wt n L i (60 + 1 + wd i) b0) (H : Heap) (locs : List Loc) (hP : va_P (dC, dI) vwCl (wM d h b1 b2 b3 b4 b5 b6 L n wd wi wt up g ch) H) (hD : va_D A (wM d h b1 b2 b3 b4 b5 b6 L n wd wi wt up g ch)) (hS : va_S A s.heap H locs) (ls : Array Slot) (hl : lv_has ls 6 [(0, .ref h), (1, .int (jI i))]), W p l e (headSpec (ws_ yX2_fillDown cX2_fillDown 6 none) ({ frames := 2, cells := 0, slots := 0, locals := 44 })).room s m ([.ref h] : List Value).toArray below meth c H locs 0 0 (MQ below (wMQv dC dI d h b1 b2 b3 b4 b5 b6 L A (fun u => ∃ up1 dn1 ch1, u = (n, wd, wi, wt, up1, dn1, ch1) ∧ up1 = up ∧ ch1 = ch ∧ DnT wd wi wt n L 0 dn1)) ([.ref h] : List Value).toArray s 0 0 A) (F0 m 27 ls [.int (jI b0)]) := by
          intro b0 hb0 H locs hP hD hS ls hl
          refine lv_istore_n (lv' := [(2, .int (jI b0)), (0, .ref h), (1, .int (jI i))]) hx hb dX2_fillDown_27 rfl hl (by decide) rfl (fun ls hl => ?_)
          refine lv_bipush (v := jI 60) hx hb dX2_fillDown_28 (by decide) ?_
          refine lv_istore_n (lv' := [(3, .int (jI 60)), (2, .int (jI b0)), (0, .ref h), (1, .int (jI i))]) hx hb dX2_fillDown_30 rfl hl (by decide) rfl (fun ls hl => ?_)
          have lo2 : ∀ (n_ : Nat) (b : Int) (x : Int) (g2 : Int → Int) (hx2 : -1 ≤ x ∧ x ≤ 60) (hb2 : BD wd wi wt n L i (x + 1 + wd i) b) (hT2 : DnT wd wi wt n L (i + 1) g2) (hR : DnR wd wi wt n L i x g2) (hm_ : (x + 1).toNat < n_) (H : Heap) (locs : List Loc) (hP : va_P (dC, dI) vwCl (wM d h b1 b2 b3 b4 b5 b6 L n wd wi wt up g2 ch) H) (hD : va_D A (wM d h b1 b2 b3 b4 b5 b6 L n wd wi wt up g2 ch)) (hS : va_S A s.heap H locs) (ls : Array Slot) (hl : lv_has ls 6 [(0, .ref h), (1, .int (jI i)), (2, .int (jI b)), (3, .int (jI x))]), W p l e (headSpec (ws_ yX2_fillDown cX2_fillDown 6 none) ({ frames := 2, cells := 0, slots := 0, locals := 44 })).room s m ([.ref h] : List Value).toArray below meth c H locs 0 0 (MQ below (wMQv dC dI d h b1 b2 b3 b4 b5 b6 L A (fun u => ∃ up1 dn1 ch1, u = (n, wd, wi, wt, up1, dn1, ch1) ∧ up1 = up ∧ ch1 = ch ∧ DnT wd wi wt n L 0 dn1)) ([.ref h] : List Value).toArray s 0 0 A) (F0 m 31 ls []) := by
            intro n_
            induction n_ with
            | zero => intro b x g2 hx2 hb2 hT2 hR hm_; exact absurd hm_ (by omega)
            | succ n_ ih_lo2 =>
              intro b x g2 hx2 hb2 hT2 hR hm_ H locs hP hD hS ls hl
              have hwdi := hwd i (by omega) (by omega)
              have hbb := BD_bd hok (by omega) (by omega) hb2
              refine lv_iload_n hx hb dX2_fillDown_31 rfl (lv_at hl 3 rfl) ?_
              refine ji_if_lt (tgt := 114) hx hb dX2_fillDown_32 (by decide) (by omega) (fun c_2 => ?_) (fun c_2 => ?_)
              · refine ji_iinc (v := i - 1) (lv' := [(1, .int (jI (i - 1))), (0, .ref h), (2, .int (jI b)), (3, .int (jI x))]) hx hb dX2_fillDown_114 hl (k := 1) rfl (by omega) (by decide) rfl (fun ls hl => ?_)
                refine lv_goto (tgt := 7) hx hb dX2_fillDown_117 (by decide) ?_
                exact ih_lo1 (i - 1) g2 (by omega) (DnT_next hT2 ((show x = -1 by omega) ▸ hR)) (by omega) _ _ hP hD hS ls (lv_sub hl [1, 0] rfl)
              · refine lv_iload_n hx hb dX2_fillDown_35 rfl (lv_at hl 3 rfl) ?_
                refine lv_aload_n hx hb dX2_fillDown_36 rfl (lv_at hl 0 rfl) ?_
                refine va_get (D := (dC, dI)) (ci := 1) (v := .ref b1) (C := RX2) (T := TX2) (N := 8) hx hb hts in_X2 hown hK hP 0 rfl rfl 2 (by decide) (hts _ q151) (fun _ h9 => h9) rfl dX2_fillDown_37 ?_
                refine lv_iload_n hx hb dX2_fillDown_40 rfl (lv_at hl 1 rfl) ?_
                refine ji_ld (f := wd) (n := 10) (cA := d) hx hb hK hP 1 0 rfl rfl (by omega) (by decide) dX2_fillDown_41 ?_
                have f_3 := hwd i (by omega) (by omega)
                refine ji_add hx hb dX2_fillDown_42 ?_
                refine lv_istore (lv' := [(4, .int (jI (x + (wd i)))), (0, .ref h), (1, .int (jI i)), (2, .int (jI b)), (3, .int (jI x))]) hx hb dX2_fillDown_43 hl (by decide) rfl (fun ls hl => ?_)
                have m3 : ∀ (bb3 : Int) (hb3 : BD wd wi wt n L i (x + wd i) bb3) (H : Heap) (locs : List Loc) (hP : va_P (dC, dI) vwCl (wM d h b1 b2 b3 b4 b5 b6 L n wd wi wt up g2 ch) H) (hD : va_D A (wM d h b1 b2 b3 b4 b5 b6 L n wd wi wt up g2 ch)) (hS : va_S A s.heap H locs) (ls : Array Slot) (hl : lv_has ls 6 [(0, .ref h), (1, .int (jI i)), (2, .int (jI bb3)), (3, .int (jI x))]), W p l e (headSpec (ws_ yX2_fillDown cX2_fillDown 6 none) ({ frames := 2, cells := 0, slots := 0, locals := 44 })).room s m ([.ref h] : List Value).toArray below meth c H locs 0 0 (MQ below (wMQv dC dI d h b1 b2 b3 b4 b5 b6 L A (fun u => ∃ up1 dn1 ch1, u = (n, wd, wi, wt, up1, dn1, ch1) ∧ up1 = up ∧ ch1 = ch ∧ DnT wd wi wt n L 0 dn1)) ([.ref h] : List Value).toArray s 0 0 A) (F0 m 82 ls []) := by
                  intro bb3 hb3 H locs hP hD hS ls hl
                  have hbb3 := BD_bd hok (by omega) (by omega) hb3
                  refine lv_aload_n hx hb dX2_fillDown_82 rfl (lv_at hl 0 rfl) ?_
                  refine lv_iload_n hx hb dX2_fillDown_83 rfl (lv_at hl 1 rfl) ?_
                  refine lv_iload_n hx hb dX2_fillDown_84 rfl (lv_at hl 3 rfl) ?_
                  refine vp_callSi (W.runV (As := [.int (jI i), .int (jI x)]) (rest := []) ⟨hx, hb, hml, hown, hts⟩ (metX2_own l dC dI d h b1 b2 b3 b4 b5 b6 L n wd wi wt up g2 ch i x hok (by omega) (by omega)) (cwV 2 hts (lw_V q223 q225 qs14 q21 q226) rfl rfl rfl (by decide +kernel) ⟨Nat.le_of_ble_eq_true rfl, Nat.le_of_ble_eq_true rfl⟩) ⟨zPp_bl, va_recv hK hP (ci := 1) (q0 := 0) rfl rfl, fun U hU hW => ⟨rfl, by rw [hU]; exact hP, va_K.moved hW.alike hK⟩⟩ rfl rfl hl.1 rfl (lv_room (Nat.le_of_ble_eq_true rfl)) dX2_fillDown_85 ⟨Nat.le_of_ble_eq_true rfl, Nat.le_of_ble_eq_true rfl⟩) (fun r_ hr_ => ?_)
                  obtain ⟨zo, rfl, hzo⟩ := hr_
                  have hob := own_bd hok (by omega) hzo
                  refine lv_istore (lv' := [(5, .int (jI zo)), (0, .ref h), (1, .int (jI i)), (2, .int (jI bb3)), (3, .int (jI x))]) hx hb dX2_fillDown_88 hl (by decide) rfl (fun ls hl => ?_)
                  refine lv_aload_n hx hb dX2_fillDown_90 rfl (lv_at hl 1 rfl) ?_
                  refine va_get (D := (dC, dI)) (ci := 1) (v := .ref b5) (C := RX2) (T := TX2) (N := 8) hx hb hts in_X2 hown hK hP 0 rfl rfl 6 (by decide) (hts _ q155) (fun _ h9 => h9) rfl dX2_fillDown_91 ?_
                  refine lv_iload_n hx hb dX2_fillDown_94 rfl (lv_at hl 2 rfl) ?_
                  refine lv_bipush (v := jI 61) hx hb dX2_fillDown_95 (by decide) ?_
                  refine ji_mul hx hb dX2_fillDown_97 ?_
                  refine lv_iload_n hx hb dX2_fillDown_98 rfl (lv_at hl 4 rfl) ?_
                  refine ji_add hx hb dX2_fillDown_99 ?_
                  refine lv_aload_n hx hb dX2_fillDown_100 rfl (lv_at hl 1 rfl) ?_
                  refine lv_iload_n hx hb dX2_fillDown_101 rfl (lv_at hl 3 rfl) ?_
                  refine lv_iload hx hb dX2_fillDown_102 (lv_at hl 0 rfl) ?_
                  refine vp_callSi (W.runV (As := [.int (jI bb3), .int (jI zo)]) (rest := [.int (jI ((i * 61) + x)), .ref b5]) ⟨hx, hb, hml, hown, hts⟩ (metX2_sum l dC dI d h b1 b2 b3 b4 b5 b6 L n wd wi wt up g2 ch bb3 zo (by omega) (by omega)) (cwV 2 hts (lw_V q227 q229 qs15 q21 q230) rfl rfl rfl (by decide +kernel) ⟨Nat.le_of_ble_eq_true rfl, Nat.le_of_ble_eq_true rfl⟩) ⟨zPp_bl, va_recv hK hP (ci := 1) (q0 := 0) rfl rfl, fun U hU hW => ⟨rfl, by rw [hU]; exact hP, va_K.moved hW.alike hK⟩⟩ rfl rfl hl.1 rfl (lv_room (Nat.le_of_ble_eq_true rfl)) dX2_fillDown_104 ⟨Nat.le_of_ble_eq_true rfl, Nat.le_of_ble_eq_true rfl⟩) (fun r_ hr_ => ?_)
                  obtain ⟨zs, rfl, hzs⟩ := hr_
                  have hcell := Dn_cell hok (by omega) (by omega) hb3 hzo hzs
                  have hput := DnT_put hT2 (by omega) hR hcell
                  refine ji_st (f := g2) (n := 610) (cA := d) (i := (i * 61) + x) (x := zs) hx hb hK hP hD hS 5 0 rfl rfl (by omega) (by decide) dX2_fillDown_107 (fun H locs hP hD hS => ?_)
                  have hP : va_P (dC, dI) vwCl (wM d h b1 b2 b3 b4 b5 b6 L n wd wi wt up (uI g2 ((i * 61) + x) zs) ch) H := hP
                  have hD : va_D A (wM d h b1 b2 b3 b4 b5 b6 L n wd wi wt up (uI g2 ((i * 61) + x) zs) ch) := hD
                  refine ji_iinc (v := x - 1) (lv' := [(3, .int (jI (x - 1))), (5, .int (jI zo)), (0, .ref h), (1, .int (jI i)), (2, .int (jI bb3))]) hx hb dX2_fillDown_108 hl (k := 4) rfl (by omega) (by decide) rfl (fun ls hl => ?_)
                  refine lv_goto (tgt := 31) hx hb dX2_fillDown_111 (by decide) ?_
                  exact ih_lo2 bb3 (x - 1) (uI g2 ((i * 61) + x) zs) (by omega) ((show x + wd i = x - 1 + 1 + wd i by omega) ▸ hb3) hput.1 hput.2 (by omega) _ _ hP hD hS ls (lv_sub hl [2, 3, 4, 0] rfl)
                refine lv_iload_n hx hb dX2_fillDown_45 rfl (lv_at hl 2 rfl) ?_
                refine lv_aload_n hx hb dX2_fillDown_46 rfl (lv_at hl 1 rfl) ?_
                refine va_get (D := (dC, dI)) (ci := 1) (v := .int (jI n)) (C := RX2) (T := TX2) (N := 8) hx hb hts in_X2 hown hK hP 0 rfl rfl 1 (by decide) (hts _ q150) (fun _ h9 => h9) rfl dX2_fillDown_47 ?_
                refine ji_const hx hb dX2_fillDown_50 ?_
                refine ji_sub hx hb dX2_fillDown_51 ?_
                refine ji_icmp_ge (tgt := 82) hx hb dX2_fillDown_52 (by decide) (by omega) (by omega) (fun c_4 => ?_) (fun c_4 => ?_)
                · exact m3 b (BD_last (by omega) hb2) _ _ hP hD hS ls (lv_sub hl [1, 2, 3, 4] rfl)
                · refine lv_iload hx hb dX2_fillDown_55 (lv_at hl 0 rfl) ?_
                  refine lv_bipush (v := jI 61) hx hb dX2_fillDown_57 (by decide) ?_
                  refine ji_icmp_ge (tgt := 82) hx hb dX2_fillDown_59 (by decide) (by omega) (by omega) (fun c_5 => ?_) (fun c_5 => ?_)
                  · exact m3 b (BD_far hok (by omega) (by omega) (by omega) hb2) _ _ hP hD hS ls (lv_sub hl [1, 2, 3, 4] rfl)
                  · refine lv_aload_n hx hb dX2_fillDown_62 rfl (lv_at hl 1 rfl) ?_
                    refine lv_iload_n hx hb dX2_fillDown_63 rfl (lv_at hl 3 rfl) ?_
                    refine lv_aload_n hx hb dX2_fillDown_64 rfl (lv_at hl 1 rfl) ?_
                    refine va_get (D := (dC, dI)) (ci := 1) (v := .ref b5) (C := RX2) (T := TX2) (N := 8) hx hb hts in_X2 hown hK hP 0 rfl rfl 6 (by decide) (hts _ q155) (fun _ h9 => h9) rfl dX2_fillDown_65 ?_
                    refine lv_iload_n hx hb dX2_fillDown_68 rfl (lv_at hl 2 rfl) ?_
                    refine ji_const hx hb dX2_fillDown_69 ?_
                    refine ji_add hx hb dX2_fillDown_70 ?_
                    refine lv_bipush (v := jI 61) hx hb dX2_fillDown_71 (by decide) ?_
                    refine ji_mul hx hb dX2_fillDown_73 ?_
                    refine lv_iload hx hb dX2_fillDown_74 (lv_at hl 0 rfl) ?_
                    refine ji_add hx hb dX2_fillDown_76 ?_
                    refine ji_ld (f := g2) (n := 610) (cA := d) hx hb hK hP 5 0 rfl rfl (by omega) (by decide) dX2_fillDown_77 ?_
                    have htv := hT2 (i + 1) (x + wd i) (by omega) (by omega) (by omega) (by omega)
                    have htb := ResN_bd htv (fun v hv => Dnx_bd hok (by omega) hv)
                    refine vp_callSi (W.runV (As := [.int (jI b), .int (jI (g2 (((i + 1) * 61) + (x + (wd i)))))]) (rest := []) ⟨hx, hb, hml, hown, hts⟩ (metX2_least l dC dI d h b1 b2 b3 b4 b5 b6 L n wd wi wt up g2 ch b (g2 (((i + 1) * 61) + (x + (wd i)))) (by omega) (by omega)) (cwV 2 hts (lw_V q219 q221 qs13 q21 q222) rfl rfl rfl (by decide +kernel) ⟨Nat.le_of_ble_eq_true rfl, Nat.le_of_ble_eq_true rfl⟩) ⟨zPp_bl, va_recv hK hP (ci := 1) (q0 := 0) rfl rfl, fun U hU hW => ⟨rfl, by rw [hU]; exact hP, va_K.moved hW.alike hK⟩⟩ rfl rfl hl.1 rfl (lv_room (Nat.le_of_ble_eq_true rfl)) dX2_fillDown_78 ⟨Nat.le_of_ble_eq_true rfl, Nat.le_of_ble_eq_true rfl⟩) (fun r_ hr_ => ?_)
                    obtain ⟨zl, rfl, hzl⟩ := hr_
                    refine lv_istore_n (lv' := [(2, .int (jI zl)), (4, .int (jI (x + (wd i)))), (0, .ref h), (1, .int (jI i)), (3, .int (jI x))]) hx hb dX2_fillDown_81 rfl hl (by decide) rfl (fun ls hl => ?_)
                    exact m3 zl (BD_step (by omega) (by omega) (by rw [show x + wd i + 1 = x + 1 + wd i by omega]; exact hb2) htv hzl) _ _ hP hD hS ls (lv_sub hl [2, 3, 0, 4] rfl)
          exact lo2 _ b0 60 g (by omega) hb0 hT (fun x' q1 q2 => absurd q1 (by omega)) (Nat.lt_succ_self _) _ _ hP hD hS ls (lv_sub hl [2, 3, 1, 0] rfl)
        have hwdi0 := hwd i (by omega) (by omega)
        refine lv_iload_n hx hb dX2_fillDown_11 rfl (lv_at hl 1 rfl) ?_
        refine lv_aload_n hx hb dX2_fillDown_12 rfl (lv_at hl 0 rfl) ?_
        refine va_get (D := (dC, dI)) (ci := 1) (v := .int (jI n)) (C := RX2) (T := TX2) (N := 8) hx hb hts in_X2 hown hK hP 0 rfl rfl 1 (by decide) (hts _ q150) (fun _ h9 => h9) rfl dX2_fillDown_13 ?_
        refine ji_const hx hb dX2_fillDown_16 ?_
        refine ji_sub hx hb dX2_fillDown_17 ?_
        refine ji_icmp_ne (tgt := 25) hx hb dX2_fillDown_18 (by decide) (by omega) (by omega) (fun c_6 => ?_) (fun c_6 => ?_)
        · refine ji_ldc (z := 1000000) hx hb hown (hts _ q218) (by decide) dX2_fillDown_25 ?_
          exact m1 1000000 (BD_start hok (by omega) (by omega)) _ _ hP hD hS ls (lv_sub hl [0, 1] rfl)
        · refine ji_const hx hb dX2_fillDown_21 ?_
          refine lv_goto (tgt := 27) hx hb dX2_fillDown_22 (by decide) ?_
          exact m1 0 (Or.inl (by omega)) _ _ hP hD hS ls (lv_sub hl [0, 1] rfl)
  exact lo1 _ (n - 1) dn (by omega) (fun i x q1 q2 => absurd q1 (by omega)) (Nat.lt_succ_self _) _ _ hP hD hS ls (lv_sub hl [1, 0] rfl)
set_option maxHeartbeats 4000000 in
set_option maxRecDepth 100000 in
theorem metX2_leastUp (l : Launch) (dC : Nat → ClassId) (dI : Nat → Nat → Nat) (d : ClassId) (h b1 b2 b3 b4 b5 b6 : Nat) (L : Int) (n : Int) (wd : Int → Int) (wi : Int → Int) (wt : Int → Int) (up : Int → Int) (dn : Int → Int) (ch : Int → Int) (cl : Int) (hok : Ok L n wd wi wt) (hc : 0 ≤ cl ∧ cl < n) (hR : ∀ x, 0 ≤ x → x ≤ 60 → ResN (Upx wd wi wt cl x L) (up (cl * 61 + x))) : Met l yX2_leastUp (ws_ yX2_leastUp cX2_leastUp 4 (some .int)) ({ frames := 1, cells := 0, slots := 0, locals := 22 }) (zPp dC dI (wM d h b1 b2 b3 b4 b5 b6 L n wd wi wt up dn ch) d [.ref h, .int (jI cl)]) (vp_Si (fun r => ∃ z : Int, r = jI z ∧ (ResN (Fi wd wi wt 0 (cl + 1) 0 L) z))) 0 0 (fun _ => False) := by
  refine Met.ofW (cc := cX2_leastUp) (maxL := 4) (ret := (some .int)) (by decide) rfl ?_
  intro p e s m args below meth c s₁ B hml hv
  obtain ⟨rfl, hP, hK⟩ := hv
  have hx := B.exec
  have hb := B.bytes
  have hr := B.returns
  have hts := atoms_spec (ws := (ws_ yX2_leastUp cX2_leastUp 4 (some .int))) B.pre
  have hts : ∀ w ∈ lw_all, w.before _ s = true := fun w h => hts w (List.mem_cons_of_mem _ h)
  have hown : s.vm.findClass RX2 = some m.cls := findClass_of_methodNamed B.named
  have hlocks := B.notSynchronized
  have hl := lv_entry ([.ref h, .int (jI cl)]) (n := 4) (Nat.le_of_ble_eq_true rfl)
  rw [lg_entry_eq]
  generalize (lg_sl ([.ref h, .int (jI cl)]) ++ List.replicate (4 - (lg_sl ([.ref h, .int (jI cl)])).length) Slot.unset).toArray = ls at hl ⊢
  have hl : lv_has ls 4 [(0, .ref h), (1, .int (jI cl))] := hl
  have hok2 := hok
  obtain ⟨hLn, hwd, hwi, hwt⟩ := hok2
  refine ji_ldc (z := 1000000) hx hb hown (hts _ q218) (by decide) dX2_leastUp_0 ?_
  refine lv_istore_n (lv' := [(2, .int (jI 1000000)), (0, .ref h), (1, .int (jI cl))]) hx hb dX2_leastUp_2 rfl hl (by decide) rfl (fun ls hl => ?_)
  refine ji_const hx hb dX2_leastUp_3 ?_
  refine lv_istore_n (lv' := [(3, .int (jI 0)), (2, .int (jI 1000000)), (0, .ref h), (1, .int (jI cl))]) hx hb dX2_leastUp_4 rfl hl (by decide) rfl (fun ls hl => ?_)
  have lo : ∀ (n_ : Nat) (b : Int) (x : Int) (hx2 : 0 ≤ x ∧ x ≤ 61) (hb2 : ResN (LU wd wi wt L cl x) b) (hm_ : (61 - x).toNat < n_) (ls : Array Slot) (hl : lv_has ls 4 [(0, .ref h), (1, .int (jI cl)), (2, .int (jI b)), (3, .int (jI x))]), W p l e (headSpec (ws_ yX2_leastUp cX2_leastUp 4 (some .int)) ({ frames := 1, cells := 0, slots := 0, locals := 22 })).room s m ([.ref h, .int (jI cl)] : List Value).toArray below meth c s.heap [] 0 0 (MQ below (vp_Si (fun r => ∃ z : Int, r = jI z ∧ (ResN (Fi wd wi wt 0 (cl + 1) 0 L) z))) ([.ref h, .int (jI cl)] : List Value).toArray s 0 0 (fun _ => False)) (F0 m 5 ls []) := by
    intro n_
    induction n_ with
    | zero => intro b x hx2 hb2 hm_; exact absurd hm_ (by omega)
    | succ n_ ih_lo =>
      intro b x hx2 hb2 hm_ ls hl
      have hbb := LU_bd hok hc hb2
      refine lv_iload_n hx hb dX2_leastUp_5 rfl (lv_at hl 3 rfl) ?_
      refine lv_bipush (v := jI 61) hx hb dX2_leastUp_6 (by decide) ?_
      refine ji_icmp_ge (tgt := 34) hx hb dX2_leastUp_8 (by decide) (by omega) (by omega) (fun c_1 => ?_) (fun c_1 => ?_)
      · refine lv_iload_n hx hb dX2_leastUp_34 rfl (lv_at hl 2 rfl) ?_
        exact W.iret (v := jI b) hx hb hr (fun t_ ht_ hW_ => ⟨_, rfl, ⟨b, rfl, LU_end hok hc ((show x = 61 by omega) ▸ hb2)⟩, ht_⟩) (fun q hq => by cases hq) dX2_leastUp_35
      · refine lv_aload_n hx hb dX2_leastUp_11 rfl (lv_at hl 0 rfl) ?_
        refine lv_iload_n hx hb dX2_leastUp_12 rfl (lv_at hl 2 rfl) ?_
        refine lv_aload_n hx hb dX2_leastUp_13 rfl (lv_at hl 0 rfl) ?_
        refine va_get (D := (dC, dI)) (ci := 1) (v := .ref b4) (C := RX2) (T := TX2) (N := 8) hx hb hts in_X2 hown hK hP 0 rfl rfl 5 (by decide) (hts _ q154) (fun _ h9 => h9) rfl dX2_leastUp_14 ?_
        refine lv_iload_n hx hb dX2_leastUp_17 rfl (lv_at hl 1 rfl) ?_
        refine lv_bipush (v := jI 61) hx hb dX2_leastUp_18 (by decide) ?_
        refine ji_mul hx hb dX2_leastUp_20 ?_
        refine lv_iload_n hx hb dX2_leastUp_21 rfl (lv_at hl 3 rfl) ?_
        refine ji_add hx hb dX2_leastUp_22 ?_
        refine ji_ld (f := up) (n := 610) (cA := d) hx hb hK hP 4 0 rfl rfl (by omega) (by decide) dX2_leastUp_23 ?_
        have htv := hR x (by omega) (by omega)
        have htb := ResN_bd htv (fun v hv => Upx_bd hok hc (by omega) hv)
        refine vp_callSi (W.runV (As := [.int (jI b), .int (jI (up ((cl * 61) + x)))]) (rest := []) ⟨hx, hb, hml, hown, hts⟩ (metX2_least l dC dI d h b1 b2 b3 b4 b5 b6 L n wd wi wt up dn ch b (up ((cl * 61) + x)) (by omega) (by omega)) (cwV 2 hts (lw_V q219 q221 qs13 q21 q222) rfl rfl rfl (by decide +kernel) ⟨Nat.le_of_ble_eq_true rfl, Nat.le_of_ble_eq_true rfl⟩) ⟨zPp_bl, va_recv hK hP (ci := 1) (q0 := 0) rfl rfl, fun U hU hW => ⟨rfl, by rw [hU]; exact hP, va_K.moved hW.alike hK⟩⟩ rfl rfl hl.1 rfl (lv_room (Nat.le_of_ble_eq_true rfl)) dX2_leastUp_24 ⟨Nat.le_of_ble_eq_true rfl, Nat.le_of_ble_eq_true rfl⟩) (fun r_ hr_ => ?_)
        obtain ⟨zl, rfl, hzl⟩ := hr_
        refine lv_istore_n (lv' := [(2, .int (jI zl)), (0, .ref h), (1, .int (jI cl)), (3, .int (jI x))]) hx hb dX2_leastUp_27 rfl hl (by decide) rfl (fun ls hl => ?_)
        refine ji_iinc (v := x + 1) (lv' := [(3, .int (jI (x + 1))), (2, .int (jI zl)), (0, .ref h), (1, .int (jI cl))]) hx hb dX2_leastUp_28 hl (k := 3) rfl (by omega) (by decide) rfl (fun ls hl => ?_)
        refine lv_goto (tgt := 5) hx hb dX2_leastUp_31 (by decide) ?_
        exact ih_lo zl (x + 1) (by omega) (LU_step hx2.1 hb2 htv hzl) (by omega) ls (lv_sub hl [2, 3, 1, 0] rfl)
  exact lo _ 1000000 0 (by omega) (LU_0 wd wi wt L cl) (Nat.lt_succ_self _) ls (lv_sub hl [2, 3, 1, 0] rfl)
end
section
set_option maxHeartbeats 4000000 in
set_option maxRecDepth 100000 in
theorem metX2_costOf (l : Launch) (dC : Nat → ClassId) (dI : Nat → Nat → Nat) (d : ClassId) (h b1 b2 b3 b4 b5 b6 : Nat) (L : Int) (n : Int) (wd : Int → Int) (wi : Int → Int) (wt : Int → Int) (up : Int → Int) (dn : Int → Int) (ch : Int → Int) (sz : Nat) (x : Int) (hok : Ok L n wd wi wt) (hx1 : -2147483648 ≤ x ∧ x < 2147483648) : Met l yX2_costOf (ws_ yX2_costOf cX2_costOf 3 (some .int)) ({ frames := 3, cells := 0, slots := 0, locals := 70 }) (zPw dC dI (wM d h b1 b2 b3 b4 b5 b6 L n wd wi wt up dn ch) d sz [.ref h, .int (jI x)]) (wMQi dC dI d h b1 b2 b3 b4 b5 b6 L (va_A (wM d h b1 b2 b3 b4 b5 b6 L n wd wi wt up dn ch) sz) (fun z u => ∃ up1 dn1 ch1, u = (n, wd, wi, wt, up1, dn1, ch1) ∧ (((x < 0 ∨ n < x) ∧ z = -4) ∨ (0 ≤ x ∧ x ≤ n ∧ Res (Fi wd wi wt 0 x 0 L) z)))) 0 0 (va_A (wM d h b1 b2 b3 b4 b5 b6 L n wd wi wt up dn ch) sz) := by
  refine Met.ofW (cc := cX2_costOf) (maxL := 3) (ret := (some .int)) (by decide) rfl ?_
  intro p e s m args below meth c s₁ B hml hv
  obtain ⟨rfl, hsz, hP, hK, hD0⟩ := hv
  have hx := B.exec
  have hb := B.bytes
  have hr := B.returns
  have hts := atoms_spec (ws := (ws_ yX2_costOf cX2_costOf 3 (some .int))) B.pre
  have hts : ∀ w ∈ lw_all, w.before _ s = true := fun w h => hts w (List.mem_cons_of_mem _ h)
  have hown : s.vm.findClass RX2 = some m.cls := findClass_of_methodNamed B.named
  have hlocks := B.notSynchronized
  subst hsz
  have hD := hD0.self (sz := s.heap.size)
  generalize hAe : va_A (wM d h b1 b2 b3 b4 b5 b6 L n wd wi wt up dn ch) s.heap.size = A at hD ⊢
  have hA : ∀ q : Nat, s.heap.size ≤ q → A q := fun q h => by rw [← hAe]; exact Or.inr h
  have hS : va_S A s.heap s.heap [] := va_S.rf
  have hl := lv_entry ([.ref h, .int (jI x)]) (n := 3) (Nat.le_of_ble_eq_true rfl)
  rw [lg_entry_eq]
  generalize (lg_sl ([.ref h, .int (jI x)]) ++ List.replicate (3 - (lg_sl ([.ref h, .int (jI x)])).length) Slot.unset).toArray = ls at hl ⊢
  have hl : lv_has ls 3 [(0, .ref h), (1, .int (jI x))] := hl
  have hok2 := hok
  obtain ⟨hLn, hwd, hwi, hwt⟩ := hok2
  refine lv_iload_n hx hb dX2_costOf_0 rfl (lv_at hl 1 rfl) ?_
  refine ji_if_lt (tgt := 12) hx hb dX2_costOf_1 (by decide) (by omega) (fun c_1 => ?_) (fun c_1 => ?_)
  · refine lv_bipush (v := jI (-4)) hx hb dX2_costOf_12 (by decide) ?_
    exact W.iret (v := jI (-4)) hx hb hr (fun t_ ht_ hW_ => ⟨⟨_, (n, wd, wi, wt, up, dn, ch), rfl, ⟨(-4), rfl, ⟨_, _, _, rfl, Or.inl (by omega)⟩⟩, by rw [ht_]; exact hP, va_K.moved hW_.alike hK, hD⟩, hS.F ht_⟩) hS.2.2 dX2_costOf_14
  · refine lv_iload_n hx hb dX2_costOf_4 rfl (lv_at hl 1 rfl) ?_
    refine lv_aload_n hx hb dX2_costOf_5 rfl (lv_at hl 0 rfl) ?_
    refine va_get (D := (dC, dI)) (ci := 1) (v := .int (jI n)) (C := RX2) (T := TX2) (N := 8) hx hb hts in_X2 hown hK hP 0 rfl rfl 1 (by decide) (hts _ q150) (fun _ h9 => h9) rfl dX2_costOf_6 ?_
    refine ji_icmp_le (tgt := 15) hx hb dX2_costOf_9 (by decide) (by omega) (by omega) (fun c_2 => ?_) (fun c_2 => ?_)
    · refine lv_iload_n hx hb dX2_costOf_15 rfl (lv_at hl 1 rfl) ?_
      refine ji_if_ne (tgt := 21) hx hb dX2_costOf_16 (by decide) (by omega) (fun c0 => ?_) (fun c0 => ?_)
      · refine lv_aload_n hx hb dX2_costOf_21 rfl (lv_at hl 0 rfl) ?_
        refine lv_iload_n hx hb dX2_costOf_22 rfl (lv_at hl 1 rfl) ?_
        have hFc := va_free (wc := (wM d h b1 b2 b3 b4 b5 b6 L n wd wi wt up dn ch)) hD hS hA [0, 1, 2, 3, 4, 5, 6] rfl
        refine va_callv (va_runV (As := [.int (jI x)]) (rest := []) ⟨hx, hb, hml, hown, hts⟩ (metX2_fillUp l dC dI d h b1 b2 b3 b4 b5 b6 L n wd wi wt up dn ch s.heap.size x hok (by omega)) (cwV 1 hts (lw_V q214 q216 qs12 q21 q217) rfl rfl rfl (by decide +kernel) ⟨Nat.le_of_ble_eq_true rfl, Nat.le_of_ble_eq_true rfl⟩) ⟨zPw_bl, va_recv hK hP (ci := 1) (q0 := 0) rfl rfl, fun U hU hW => ⟨rfl, by rw [hU], by rw [hU]; exact hP, va_K.moved hW.alike hK, hD.weaken (fun _ _ _ _ => trivial)⟩⟩ rfl rfl hl.1 rfl (lv_room (Nat.le_of_ble_eq_true rfl)) dX2_costOf_23 ⟨Nat.le_of_ble_eq_true rfl, Nat.le_of_ble_eq_true rfl⟩) hS (fun q _ h => hFc q h) hFc (fun u_ t_ H locs ht_ hvm_ hw_ hB_ hz_ hk_ hS => ?_)
        obtain ⟨upzf, dnzf, chzf, rfl, hzf⟩ := hw_
        obtain ⟨hP, -, hD1_⟩ := hB_
        rw [ht_] at hP
        have hP : va_P (dC, dI) vwCl (wM d h b1 b2 b3 b4 b5 b6 L n wd wi wt upzf dnzf chzf) H := hP
        have hD : va_D A (wM d h b1 b2 b3 b4 b5 b6 L n wd wi wt upzf dnzf chzf) := hD1_.weaken (fun _ q _ h => hFc q.1 h)
        clear hD1_ hz_ hk_ hFc ht_ hvm_
        obtain ⟨ef1, ef2, hT⟩ := hzf
        rw [ef1, ef2] at hP hD
        have hP : va_P (dC, dI) vwCl (wM d h b1 b2 b3 b4 b5 b6 L n wd wi wt upzf dn ch) H := hP
        have hD : va_D A (wM d h b1 b2 b3 b4 b5 b6 L n wd wi wt upzf dn ch) := hD
        refine lv_aload_n hx hb dX2_costOf_26 rfl (lv_at hl 0 rfl) ?_
        refine lv_iload_n hx hb dX2_costOf_27 rfl (lv_at hl 1 rfl) ?_
        refine ji_const hx hb dX2_costOf_28 ?_
        refine ji_sub hx hb dX2_costOf_29 ?_
        refine vp_callSi (W.runV (As := [.int (jI (x - 1))]) (rest := []) ⟨hx, hb, hml, hown, hts⟩ (metX2_leastUp l dC dI d h b1 b2 b3 b4 b5 b6 L n wd wi wt upzf dn ch (x - 1) hok (by omega) (fun y q1 q2 => hT (x - 1) y (by omega) (by omega) q1 q2)) (cwV 1 hts (lw_V q231 q233 qs16 q21 q234) rfl rfl rfl (by decide +kernel) ⟨Nat.le_of_ble_eq_true rfl, Nat.le_of_ble_eq_true rfl⟩) ⟨zPp_bl, va_recv hK hP (ci := 1) (q0 := 0) rfl rfl, fun U hU hW => ⟨rfl, by rw [hU]; exact hP, va_K.moved hW.alike hK⟩⟩ rfl rfl hl.1 rfl (lv_room (Nat.le_of_ble_eq_true rfl)) dX2_costOf_30 ⟨Nat.le_of_ble_eq_true rfl, Nat.le_of_ble_eq_true rfl⟩) (fun r_ hr_ => ?_)
        obtain ⟨zl, rfl, hzl⟩ := hr_
        rw [show x - 1 + 1 = x by omega] at hzl
        have hzb := ResN_bd hzl (fun v hv => Fi_bd hok (a := 0) (b := x) (lf := 0) (rt := L) (by omega) (by omega) (by omega) hv)
        have hzr := ResN_Res hzl (fun v hv => Fi_bd hok (a := 0) (b := x) (lf := 0) (rt := L) (by omega) (by omega) (by omega) hv)
        refine lv_istore_n (lv' := [(2, .int (jI zl)), (0, .ref h), (1, .int (jI x))]) hx hb dX2_costOf_33 rfl hl (by decide) rfl (fun ls hl => ?_)
        refine lv_iload_n hx hb dX2_costOf_34 rfl (lv_at hl 0 rfl) ?_
        refine ji_ldc (z := 1000000) hx hb hown (hts _ q218) (by decide) dX2_costOf_35 ?_
        refine ji_icmp_ne (tgt := 45) hx hb dX2_costOf_37 (by decide) (by omega) (by omega) (fun cz => ?_) (fun cz => ?_)
        · refine lv_iload_n hx hb dX2_costOf_45 rfl (lv_at hl 0 rfl) ?_
          exact W.iret (v := jI zl) hx hb hr (fun t_ ht_ hW_ => ⟨⟨_, (n, wd, wi, wt, upzf, dn, ch), rfl, ⟨zl, rfl, ⟨_, _, _, rfl, Or.inr ⟨by omega, by omega, by first | exact hzr.1 cz | exact hzr.2 cz⟩⟩⟩, by rw [ht_]; exact hP, va_K.moved hW_.alike hK, hD⟩, hS.F ht_⟩) hS.2.2 dX2_costOf_46
        · refine lv_bipush (v := jI (-6)) hx hb dX2_costOf_40 (by decide) ?_
          refine lv_goto (tgt := 46) hx hb dX2_costOf_42 (by decide) ?_
          exact W.iret (v := jI (-6)) hx hb hr (fun t_ ht_ hW_ => ⟨⟨_, (n, wd, wi, wt, upzf, dn, ch), rfl, ⟨(-6), rfl, ⟨_, _, _, rfl, Or.inr ⟨by omega, by omega, by first | exact hzr.1 cz | exact hzr.2 cz⟩⟩⟩, by rw [ht_]; exact hP, va_K.moved hW_.alike hK, hD⟩, hS.F ht_⟩) hS.2.2 dX2_costOf_46
      · refine ji_const hx hb dX2_costOf_19 ?_
        exact W.iret (v := jI 0) hx hb hr (fun t_ ht_ hW_ => ⟨⟨_, (n, wd, wi, wt, up, dn, ch), rfl, ⟨0, rfl, ⟨_, _, _, rfl, Or.inr ⟨by omega, by omega, by rw [c0]; exact Or.inr ⟨Fi_0.mpr ⟨by omega, rfl⟩, fun v hv => by have := (Fi_0.mp hv).2; omega⟩⟩⟩⟩, by rw [ht_]; exact hP, va_K.moved hW_.alike hK, hD⟩, hS.F ht_⟩) hS.2.2 dX2_costOf_20
    · refine lv_bipush (v := jI (-4)) hx hb dX2_costOf_12 (by decide) ?_
      exact W.iret (v := jI (-4)) hx hb hr (fun t_ ht_ hW_ => ⟨⟨_, (n, wd, wi, wt, up, dn, ch), rfl, ⟨(-4), rfl, ⟨_, _, _, rfl, Or.inl (by omega)⟩⟩, by rw [ht_]; exact hP, va_K.moved hW_.alike hK, hD⟩, hS.F ht_⟩) hS.2.2 dX2_costOf_14
set_option maxHeartbeats 4000000 in
set_option maxRecDepth 100000 in
theorem metX2_cost (l : Launch) (dC : Nat → ClassId) (dI : Nat → Nat → Nat) (d : ClassId) (h b1 b2 b3 b4 b5 b6 : Nat) (L : Int) (n : Int) (wd : Int → Int) (wi : Int → Int) (wt : Int → Int) (up : Int → Int) (dn : Int → Int) (ch : Int → Int) (sz : Nat) (hok : Ok L n wd wi wt) : Met l yX2_cost (ws_ yX2_cost cX2_cost 1 (some .int)) ({ frames := 4, cells := 0, slots := 0, locals := 92 }) (zPw dC dI (wM d h b1 b2 b3 b4 b5 b6 L n wd wi wt up dn ch) d sz [.ref h]) (wMQi dC dI d h b1 b2 b3 b4 b5 b6 L (va_A (wM d h b1 b2 b3 b4 b5 b6 L n wd wi wt up dn ch) sz) (fun z u => ∃ up1 dn1 ch1, u = (n, wd, wi, wt, up1, dn1, ch1) ∧ Res (Fi wd wi wt 0 n 0 L) z)) 0 0 (va_A (wM d h b1 b2 b3 b4 b5 b6 L n wd wi wt up dn ch) sz) := by
  refine Met.ofW (cc := cX2_cost) (maxL := 1) (ret := (some .int)) (by decide) rfl ?_
  intro p e s m args below meth c s₁ B hml hv
  obtain ⟨rfl, hsz, hP, hK, hD0⟩ := hv
  have hx := B.exec
  have hb := B.bytes
  have hr := B.returns
  have hts := atoms_spec (ws := (ws_ yX2_cost cX2_cost 1 (some .int))) B.pre
  have hts : ∀ w ∈ lw_all, w.before _ s = true := fun w h => hts w (List.mem_cons_of_mem _ h)
  have hown : s.vm.findClass RX2 = some m.cls := findClass_of_methodNamed B.named
  have hlocks := B.notSynchronized
  subst hsz
  have hD := hD0.self (sz := s.heap.size)
  generalize hAe : va_A (wM d h b1 b2 b3 b4 b5 b6 L n wd wi wt up dn ch) s.heap.size = A at hD ⊢
  have hA : ∀ q : Nat, s.heap.size ≤ q → A q := fun q h => by rw [← hAe]; exact Or.inr h
  have hS : va_S A s.heap s.heap [] := va_S.rf
  have hl := lv_entry ([.ref h]) (n := 1) (Nat.le_of_ble_eq_true rfl)
  rw [lg_entry_eq]
  generalize (lg_sl ([.ref h]) ++ List.replicate (1 - (lg_sl ([.ref h])).length) Slot.unset).toArray = ls at hl ⊢
  have hl : lv_has ls 1 [(0, .ref h)] := hl
  have hok2 := hok
  obtain ⟨hLn, hwd, hwi, hwt⟩ := hok2
  refine lv_aload_n hx hb dX2_cost_0 rfl (lv_at hl 0 rfl) ?_
  refine lv_aload_n hx hb dX2_cost_1 rfl (lv_at hl 0 rfl) ?_
  refine va_get (D := (dC, dI)) (ci := 1) (v := .int (jI n)) (C := RX2) (T := TX2) (N := 8) hx hb hts in_X2 hown hK hP 0 rfl rfl 1 (by decide) (hts _ q150) (fun _ h9 => h9) rfl dX2_cost_2 ?_
  have hFc := va_free (wc := (wM d h b1 b2 b3 b4 b5 b6 L n wd wi wt up dn ch)) hD hS hA [0, 1, 2, 3, 4, 5, 6] rfl
  refine va_calli (va_runV (As := [.int (jI n)]) (rest := []) ⟨hx, hb, hml, hown, hts⟩ (metX2_costOf l dC dI d h b1 b2 b3 b4 b5 b6 L n wd wi wt up dn ch s.heap.size n hok (by omega)) (cwV 1 hts (lw_V q210 q211 q212 q21 q213) rfl rfl rfl (by decide +kernel) ⟨Nat.le_of_ble_eq_true rfl, Nat.le_of_ble_eq_true rfl⟩) ⟨zPw_bl, va_recv hK hP (ci := 1) (q0 := 0) rfl rfl, fun U hU hW => ⟨rfl, by rw [hU], by rw [hU]; exact hP, va_K.moved hW.alike hK, hD.weaken (fun _ _ _ _ => trivial)⟩⟩ rfl rfl hl.1 rfl (lv_room (Nat.le_of_ble_eq_true rfl)) dX2_cost_5 ⟨Nat.le_of_ble_eq_true rfl, Nat.le_of_ble_eq_true rfl⟩) hS (fun q _ h => hFc q h) hFc (fun r_ u_ t_ H locs ht_ hvm_ hw_ hB_ hz_ hk_ hS => ?_)
  obtain ⟨zc, rfl, upzc, dnzc, chzc, rfl, hzc⟩ := hw_
  obtain ⟨hP, -, hD1_⟩ := hB_
  rw [ht_] at hP
  have hP : va_P (dC, dI) vwCl (wM d h b1 b2 b3 b4 b5 b6 L n wd wi wt upzc dnzc chzc) H := hP
  have hD : va_D A (wM d h b1 b2 b3 b4 b5 b6 L n wd wi wt upzc dnzc chzc) := hD1_.weaken (fun _ q _ h => hFc q.1 h)
  clear hD1_ hz_ hk_ hFc ht_ hvm_
  exact W.iret (v := jI zc) hx hb hr (fun t_ ht_ hW_ => ⟨⟨_, (n, wd, wi, wt, upzc, dnzc, chzc), rfl, ⟨zc, rfl, ⟨_, _, _, rfl, hzc.elim (fun q9 => absurd q9.1 (by omega)) (fun q9 => q9.2.2)⟩⟩, by rw [ht_]; exact hP, va_K.moved hW_.alike hK, hD⟩, hS.F ht_⟩) hS.2.2 dX2_cost_8
end
section
/-! leftmost, costAt and content of the model, in plain numbers -/
theorem Upx_rt {wd wi wt : Int → Int} {L i x rt v : Int} (hx : x + wd i ≤ rt) (hr : rt ≤ L) : Upx wd wi wt i x L v ↔ Upx wd wi wt i x rt v := by
  constructor
  · rintro ⟨h0, v', h1, h2, h3⟩
    exact ⟨h0, v', h1, hx, h3⟩
  · rintro ⟨h0, v', h1, h2, h3⟩
    exact ⟨h0, v', h1, by omega, h3⟩
theorem up_iff {wd wi wt : Int → Int} {L i x rt t du : Int} (hT : ResN (Upx wd wi wt i x L) t) (hx : x + wd i ≤ rt) (hr : rt ≤ L) (hdu : 0 ≤ du ∧ du ≤ 3000) : t = du ↔ Res (Upx wd wi wt i x rt) du := by
  constructor
  · rintro rfl
    rcases hT with ⟨h1, -⟩ | ⟨-, h1, h2⟩
    · omega
    · exact Or.inr ⟨(Upx_rt hx hr).mp h1, fun v hv => h2 v ((Upx_rt hx hr).mpr hv)⟩
  · intro h
    rcases h with ⟨h1, -⟩ | ⟨h1, h2⟩
    · omega
    · rcases hT with ⟨-, g1⟩ | ⟨-, g1, g2⟩
      · exact absurd ((Upx_rt hx hr).mpr h1) (g1 _)
      · have a1 := g2 _ ((Upx_rt hx hr).mpr h1)
        have a2 := h2 _ ((Upx_rt hx hr).mp g1)
        omega
theorem Lst_sub {wd wi wt : Int → Int} {L i x du : Int} (h : Lst (Upx wd wi wt i x L) du) : 0 ≤ x ∧ x + wd i ≤ L ∧ Lst (Fi wd wi wt 0 i 0 x) (du - wt i * dst x (wi i)) := by
  obtain ⟨⟨h0, v', h1, h2, h3⟩, h4⟩ := h
  refine ⟨h0, h2, ?_, fun v hv => ?_⟩
  · rw [show du - wt i * dst x (wi i) = v' by omega]
    exact h1
  · have := h4 (v + wt i * dst x (wi i)) ⟨h0, v, hv, h2, rfl⟩
    omega
theorem Cat_sum {L n : Int} {wd wi wt : Int → Int} (hok : Ok L n wd wi wt) {x y tu td zs : Int} (hx : 0 ≤ x ∧ x < n) (hU : ResN (Upx wd wi wt x y L) tu) (hDn : ResN (Dnx wd wi wt n L x y) td) (hz : (tu + td < 1000000 ∧ zs = tu + td) ∨ (1000000 ≤ tu + td ∧ zs = 1000000)) : (zs = 1000000 → Res (Cat wd wi wt n L x y) (-6)) ∧ (zs ≠ 1000000 → 0 ≤ y ∧ y + wd x ≤ L ∧ Res (Cat wd wi wt n L x y) (zs - wt x * dst y (wi x))) := by
  have hok2 := hok
  obtain ⟨hLn, -⟩ := hok2
  have hu := ResN_bd hU (fun v hv => Upx_bd hok hx (by omega) hv)
  have hd := ResN_bd hDn (fun v hv => Dnx_bd hok hx hv)
  constructor
  · intro q
    refine Or.inl ⟨rfl, fun v hv => ?_⟩
    obtain ⟨v1, v2, h1, h2, -⟩ := hv
    by_cases q1 : tu = 1000000
    · exact hu.2.2.1 q1 v1 h1
    · have a1 := (hu.2.2.2 q1).2
      by_cases q2 : td = 1000000
      · exact hd.2.2.1 q2 _ ⟨h1.1, v2, h2, rfl⟩
      · have a2 := (hd.2.2.2 q2).2
        omega
  · intro q
    have a1 := hu.2.2.2 (by omega)
    have a2 := hd.2.2.2 (by omega)
    obtain ⟨⟨b1, b2⟩, -⟩ := a1
    obtain ⟨⟨⟨c0, v', c1, c2⟩, c3⟩, -⟩ := a2
    have b3 := b1
    obtain ⟨y0, v0, e1, e2, e3⟩ := b3
    refine ⟨y0, e2, Or.inr ⟨⟨tu, v', b1, c1, by omega⟩, fun v hv => ?_⟩⟩
    obtain ⟨v1, v2, h1, h2, rfl⟩ := hv
    have d1 := b2 v1 h1
    have d2 := c3 (v2 + wt x * dst y (wi x)) ⟨c0, v2, h2, rfl⟩
    omega
/-! sets of cells as bits -/
def bN (S k : Nat) : Nat := S / 2 ^ k % 2
def sh (S i : Int) : Int := ((S.toNat / 2 ^ i.toNat : Nat) : Int)
def pw (n : Int) : Int := ((2 ^ n.toNat : Nat) : Int)
theorem sh_bd {S : Int} (i : Int) (h : 0 ≤ S) : 0 ≤ sh S i ∧ sh S i ≤ S := by
  unfold sh
  have h1 := Nat.div_le_self S.toNat (2 ^ i.toNat)
  generalize S.toNat / 2 ^ i.toNat = q at h1 ⊢
  omega
theorem sh_b (S k : Int) : sh S k % 2 = (bN S.toNat k.toNat : Int) := by
  unfold sh bN
  omega
theorem pw_bd {n : Int} (h : 0 ≤ n ∧ n ≤ 10) : 1 ≤ pw n ∧ pw n ≤ 1024 := by
  unfold pw
  have h1 : 2 ^ n.toNat ≤ 2 ^ 10 := Nat.pow_le_pow_right (by decide) (by omega)
  have h2 : 0 < 2 ^ n.toNat := Nat.pow_pos (by decide)
  omega
def pN (S : Nat) : Nat → Int
  | 0 => 0
  | k + 1 => pN S k + (bN S k : Int)
def pop (S k : Int) : Int := pN S.toNat k.toNat
theorem pop_s {S k : Int} (h : 0 ≤ k) : pop S (k + 1) = pop S k + sh S k % 2 := by
  rw [sh_b]
  unfold pop
  rw [show (k + 1).toNat = k.toNat + 1 by omega]
  rfl
def Ac (wd wi : Int → Int) (L : Int) (S : Nat) : Nat → Int → Prop
  | 0, e => e = 0
  | k + 1, e => ∃ e', Ac wd wi L S k e' ∧ ((bN S k = 0 ∧ e = e') ∨ (bN S k = 1 ∧ e' ≤ wi k ∧ wi k + wd k ≤ L ∧ e = wi k + wd k))
def Aci (wd wi : Int → Int) (L S k e : Int) : Prop := Ac wd wi L S.toNat k.toNat e
theorem Aci_0 {wd wi : Int → Int} {L S e : Int} : Aci wd wi L S 0 e ↔ e = 0 := Iff.rfl
theorem Aci_s {wd wi : Int → Int} {L S k e : Int} (h : 0 ≤ k) : Aci wd wi L S (k + 1) e ↔ ∃ e', Aci wd wi L S k e' ∧ ((sh S k % 2 = 0 ∧ e = e') ∨ (sh S k % 2 = 1 ∧ e' ≤ wi k ∧ wi k + wd k ≤ L ∧ e = wi k + wd k)) := by
  rw [sh_b]
  unfold Aci
  rw [show (k + 1).toNat = k.toNat + 1 by omega]
  show (∃ e', Ac wd wi L S.toNat k.toNat e' ∧ ((bN S.toNat k.toNat = 0 ∧ e = e') ∨ (bN S.toNat k.toNat = 1 ∧ e' ≤ wi (k.toNat : Int) ∧ wi (k.toNat : Int) + wd (k.toNat : Int) ≤ L ∧ e = wi (k.toNat : Int) + wd (k.toNat : Int)))) ↔ _
  rw [show ((k.toNat : Nat) : Int) = k by omega]
  constructor
  · rintro ⟨e', h1, h2⟩
    exact ⟨e', h1, by omega⟩
  · rintro ⟨e', h1, h2⟩
    exact ⟨e', h1, by omega⟩
theorem Ac_u {wd wi : Int → Int} {L : Int} {S : Nat} : ∀ (k : Nat) (a b : Int), Ac wd wi L S k a → Ac wd wi L S k b → a = b
  | 0, a, b, h1, h2 => by
    have h1 : a = 0 := h1
    have h2 : b = 0 := h2
    omega
  | k + 1, a, b, h1, h2 => by
    obtain ⟨a', p1, p2⟩ := h1
    obtain ⟨b', q1, q2⟩ := h2
    have := Ac_u k a' b' p1 q1
    omega
theorem Ac_down {wd wi : Int → Int} {L : Int} {S k : Nat} : ∀ (j : Nat) (e : Int), Ac wd wi L S (k + j) e → ∃ e', Ac wd wi L S k e'
  | 0, e, h => ⟨e, h⟩
  | j + 1, e, h => by
    obtain ⟨e', h1, -⟩ := h
    exact Ac_down j e' h1
theorem Aci_stuck {wd wi : Int → Int} {L S k n en : Int} (hk : 0 ≤ k ∧ k < n) (h : Aci wd wi L S k en) (hb : sh S k % 2 = 1) (hn : wi k < en ∨ L < wi k + wd k) : ∀ e, ¬ Aci wd wi L S n e := by
  intro e he
  have e1 : n.toNat = (k + 1).toNat + (n - k - 1).toNat := by omega
  unfold Aci at he
  rw [e1] at he
  obtain ⟨e', h1⟩ := Ac_down _ _ he
  obtain ⟨e2, h2, h3⟩ := (Aci_s hk.1).mp (show Aci wd wi L S (k + 1) e' from h1)
  have := Ac_u _ _ _ h h2
  omega
theorem Ac_le {wd wi : Int → Int} {L : Int} {S : Nat} (hL : 0 ≤ L) : ∀ (k : Nat) (e : Int), Ac wd wi L S k e → e ≤ L
  | 0, e, h => by
    have h : e = 0 := h
    omega
  | k + 1, e, h => by
    obtain ⟨e', h1, h2⟩ := h
    have := Ac_le hL k e' h1
    omega
theorem Ac_Ch {wd wi : Int → Int} {L : Int} {S : Nat} : ∀ (k : Nat) (e e' : Int), Ac wd wi L S k e → e ≤ e' → Ch wd wi L k (pN S k) e'
  | 0, e, e', h, _ => rfl
  | k + 1, e, e', h, he => by
    obtain ⟨e1, h1, h2⟩ := h
    show Ch wd wi L k (pN S k + (bN S k : Int)) e' ∨ (wi k + wd k ≤ L ∧ wi k + wd k ≤ e' ∧ Ch wd wi L k (pN S k + (bN S k : Int) - 1) (wi k))
    rcases h2 with ⟨h2, rfl⟩ | ⟨h2, h3, h4, rfl⟩
    · rw [h2]
      refine Or.inl ?_
      rw [show pN S k + ((0 : Nat) : Int) = pN S k by omega]
      exact Ac_Ch k e e' h1 he
    · rw [h2]
      refine Or.inr ⟨h4, he, ?_⟩
      rw [show pN S k + ((1 : Nat) : Int) - 1 = pN S k by omega]
      exact Ac_Ch k e1 _ h1 h3
theorem bN_low {S k : Nat} (h : S < 2 ^ k) : bN S k = 0 := by
  unfold bN
  rw [Nat.div_eq_of_lt h]
theorem bN_top {S k : Nat} (h : S < 2 ^ k) : bN (S + 2 ^ k) k = 1 := by
  unfold bN
  rw [Nat.add_div_right _ (Nat.pow_pos (by decide)), Nat.div_eq_of_lt h]
theorem bN_add {S k j : Nat} (hj : j < k) : bN (S + 2 ^ k) j = bN S j := by
  unfold bN
  have e : 2 ^ k = 2 ^ j * (2 * 2 ^ (k - j - 1)) := by
    rw [← Nat.pow_succ', ← Nat.pow_add, show j + (k - j - 1 + 1) = k by omega]
  rw [e, Nat.add_mul_div_left _ _ (Nat.pow_pos (by decide))]
  omega
theorem Ac_congr {wd wi : Int → Int} {L : Int} {S T : Nat} : ∀ (k : Nat), (∀ j, j < k → bN S j = bN T j) → (∀ e, Ac wd wi L S k e → Ac wd wi L T k e) ∧ pN S k = pN T k
  | 0, _ => ⟨fun _ h => h, rfl⟩
  | k + 1, h => by
    have ih := Ac_congr (wd := wd) (wi := wi) (L := L) k (fun j hj => h j (by omega))
    have h1 := h k (by omega)
    refine ⟨fun e he => ?_, ?_⟩
    · obtain ⟨e', a1, a2⟩ := he
      rw [h1] at a2
      exact ⟨e', ih.1 e' a1, a2⟩
    · show pN S k + (bN S k : Int) = pN T k + (bN T k : Int)
      rw [ih.2, h1]
theorem Ch_Ac {wd wi : Int → Int} {L : Int} : ∀ (k : Nat) (m e : Int), (∀ j : Nat, j < k → 0 ≤ wi j) → 0 ≤ e → Ch wd wi L k m e → ∃ S, S < 2 ^ k ∧ pN S k = m ∧ ∃ e', e' ≤ e ∧ Ac wd wi L S k e'
  | 0, m, e, _, he, h => by
    have h : m = 0 := h
    exact ⟨0, by decide, h.symm, 0, he, rfl⟩
  | k + 1, m, e, hw, he, h => by
    have e2 : 2 ^ (k + 1) = 2 ^ k + 2 ^ k := by rw [Nat.pow_succ]; omega
    rcases h with h | ⟨h1, h2, h⟩
    · obtain ⟨S, s1, s2, e', s3, s4⟩ := Ch_Ac k m e (fun j hj => hw j (by omega)) he h
      have b0 := bN_low s1
      refine ⟨S, by omega, ?_, e', s3, e', s4, Or.inl ⟨b0, rfl⟩⟩
      show pN S k + (bN S k : Int) = m
      rw [b0, s2]
      omega
    · obtain ⟨S, s1, s2, e', s3, s4⟩ := Ch_Ac k (m - 1) (wi k) (fun j hj => hw j (by omega)) (hw k (by omega)) h
      have b1 := bN_top s1
      have hc := Ac_congr (wd := wd) (wi := wi) (L := L) (S := S) (T := S + 2 ^ k) k (fun j hj => (bN_add hj).symm)
      refine ⟨S + 2 ^ k, by omega, ?_, wi k + wd k, h2, e', hc.1 e' s4, Or.inr ⟨b1, s3, h1, rfl⟩⟩
      show pN (S + 2 ^ k) k + (bN (S + 2 ^ k) k : Int) = m
      rw [b1, ← hc.2, s2]
      omega
theorem Ch_zero {wd wi : Int → Int} {L : Int} : ∀ (k : Nat) (e : Int), Ch wd wi L k 0 e
  | 0, _ => rfl
  | k + 1, e => Or.inl (Ch_zero k e)
theorem pN_bd (S : Nat) : ∀ k : Nat, 0 ≤ pN S k ∧ pN S k ≤ k
  | 0 => ⟨Int.le_refl _, Int.le_refl _⟩
  | k + 1 => by
    have ih := pN_bd S k
    have h : bN S k < 2 := Nat.mod_lt _ (by decide)
    show 0 ≤ pN S k + (bN S k : Int) ∧ pN S k + (bN S k : Int) ≤ ((k + 1 : Nat) : Int)
    omega
def CM (wd wi : Int → Int) (L n S mo : Int) : Prop := (0 ≤ mo ∧ mo ≤ 10) ∧ (mo = 0 ∨ ∃ T, 0 ≤ T ∧ T < S ∧ pop T n = mo ∧ ∃ e, Aci wd wi L T n e) ∧ ∀ T, 0 ≤ T → T < S → (∃ e, Aci wd wi L T n e) → pop T n ≤ mo
theorem CM_0 (wd wi : Int → Int) (L n : Int) : CM wd wi L n 0 0 := ⟨by omega, Or.inl rfl, fun T h1 h2 => by omega⟩
theorem CM_keep {wd wi : Int → Int} {L n S mo : Int} (h : CM wd wi L n S mo) (hs : (∃ e, Aci wd wi L S n e) → pop S n ≤ mo) : CM wd wi L n (S + 1) mo := by
  obtain ⟨h0, h1, h2⟩ := h
  refine ⟨h0, ?_, fun T a1 a2 a3 => ?_⟩
  · rcases h1 with h1 | ⟨T, t1, t2, t3⟩
    · exact Or.inl h1
    · exact Or.inr ⟨T, t1, by omega, t3⟩
  · by_cases q : T = S
    · rw [q] at a3 ⊢; exact hs a3
    · exact h2 T a1 (by omega) a3
theorem CM_new {wd wi : Int → Int} {L n S mo ct : Int} (hS : 0 ≤ S) (h : CM wd wi L n S mo) (hc : 0 ≤ ct ∧ ct ≤ 10) (hs : ∃ e, Aci wd wi L S n e) (e : pop S n = ct) (hm : mo ≤ ct) : CM wd wi L n (S + 1) ct := by
  obtain ⟨h0, h1, h2⟩ := h
  refine ⟨hc, Or.inr ⟨S, hS, by omega, e, hs⟩, fun T a1 a2 a3 => ?_⟩
  by_cases q : T = S
  · rw [q, e]; exact Int.le_refl _
  · have := h2 T a1 (by omega) a3
    omega
theorem CM_end {wd wi : Int → Int} {L n mo : Int} (hn : 0 ≤ n) (hL : 0 ≤ L) (hwi : ∀ j, 0 ≤ j → j < n → 0 ≤ wi j ∧ wi j ≤ 60) (h : CM wd wi L n (pw n) mo) : Mx wd wi L n L mo := by
  obtain ⟨h0, h1, h2⟩ := h
  refine ⟨?_, fun m hm => ?_⟩
  · rcases h1 with h1 | ⟨T, t1, t2, t3, e, t4⟩
    · rw [h1]; exact Ch_zero _ _
    · rw [← t3]
      exact Ac_Ch _ e L t4 (Ac_le hL _ _ t4)
  · obtain ⟨S, s1, s2, e', s3, s4⟩ := Ch_Ac n.toNat m L (fun j hj => (hwi j (by omega) (by omega)).1) hL hm
    have := h2 (S : Int) (by omega) (by unfold pw; omega) ⟨e', s4⟩
    have e9 : pop (S : Int) n = m := s2
    omega
section JI3
variable {p : Program} {l : Launch} {e : Env} {R : Room} {s : State} {m : MethodId} {args : Array Value} {below : List Frame} {meth : Method} {c : Code} {H : Heap} {locs : List Loc} {cells slots : Nat} {Q : State → Prop}
variable {cc : ByteArray} {pc : Nat} {ls : Array Slot} {rest : List Value}
theorem jI_nI {z : Int} (h : 0 ≤ z ∧ z < 2147483648) : jI z = nI z.toNat := by
  refine Int32.toInt_inj.1 ?_
  rw [jI_toInt (by omega), nI_toInt (by omega)]
  omega
theorem jI_31 : ∀ n : Nat, n < 32 → ((nI n &&& 31).toBitVec.smod 32).toNat = n := by decide +kernel
theorem ji_shr (hexec : p.tables.exec = Jvm.exec) (hb : c.code = cc) {a b : Int} (hdg : decode cc pc = .ok (.ishr, 1)) (ha : 0 ≤ a ∧ a < 2147483648) (hb2 : 0 ≤ b ∧ b < 32) (k : W p l e R s m args below meth c H locs cells slots Q (F0 m (pc + 1) ls (.int (jI (sh a b)) :: rest))) : W p l e R s m args below meth c H locs cells slots Q (F0 m pc ls (.int (jI b) :: .int (jI a) :: rest)) := by
  refine lv_ishr hexec hb hdg ?_
  have e1 : jI a >>> (jI b &&& 31) = jI (sh a b) := by
    have hs := sh_bd b ha.1
    rw [jI_nI ha, jI_nI (z := b) (by omega), jI_nI (z := sh a b) (by omega), pk_shrN (by omega) _ b.toNat (jI_31 b.toNat (by omega))]
    rfl
  rw [e1]
  exact k
theorem ji_and1 (hexec : p.tables.exec = Jvm.exec) (hb : c.code = cc) {a : Int} (hdg : decode cc pc = .ok (.iand, 1)) (ha : 0 ≤ a ∧ a < 2147483648) (k : W p l e R s m args below meth c H locs cells slots Q (F0 m (pc + 1) ls (.int (jI (a % 2)) :: rest))) : W p l e R s m args below meth c H locs cells slots Q (F0 m pc ls (.int (jI 1) :: .int (jI a) :: rest)) := by
  refine lv_iand hexec hb hdg ?_
  have e1 : jI a &&& jI 1 = jI (a % 2) := by
    rw [jI_nI ha, jI_nI (z := a % 2) (by omega), pk_andN (m := jI 1) (by omega) 1 rfl]
    congr 1
    omega
  rw [e1]
  exact k
theorem ji_shl1 (hexec : p.tables.exec = Jvm.exec) (hb : c.code = cc) {b : Int} (hdg : decode cc pc = .ok (.ishl, 1)) (hb2 : 0 ≤ b ∧ b ≤ 10) (k : W p l e R s m args below meth c H locs cells slots Q (F0 m (pc + 1) ls (.int (jI (pw b)) :: rest))) : W p l e R s m args below meth c H locs cells slots Q (F0 m pc ls (.int (jI b) :: .int (jI 1) :: rest)) := by
  refine lv_ishl hexec hb hdg ?_
  have e1 : jI 1 <<< (jI b &&& 31) = jI (pw b) := by
    have hs := pw_bd hb2
    have hs2 : 1 * 2 ^ b.toNat < 2 ^ 32 := by
      have h1 : 2 ^ b.toNat ≤ 2 ^ 10 := Nat.pow_le_pow_right (by decide) (by omega)
      omega
    rw [jI_nI (z := 1) (by omega), jI_nI (z := b) (by omega), jI_nI (z := pw b) (by omega), show (1 : Int).toNat = 1 from rfl, pk_shlN _ b.toNat (jI_31 b.toNat (by omega)) hs2, Nat.one_mul]
    rfl
  rw [e1]
  exact k
end JI3
end
section
set_option maxHeartbeats 4000000 in
set_option maxRecDepth 100000 in
theorem metX2_leftmost (l : Launch) (dC : Nat → ClassId) (dI : Nat → Nat → Nat) (d : ClassId) (h b1 b2 b3 b4 b5 b6 : Nat) (L : Int) (n : Int) (wd : Int → Int) (wi : Int → Int) (wt : Int → Int) (up : Int → Int) (dn : Int → Int) (ch : Int → Int) (sz : Nat) (x : Int) (hok : Ok L n wd wi wt) (hx1 : -2147483648 ≤ x ∧ x < 2147483648) : Met l yX2_leftmost (ws_ yX2_leftmost cX2_leftmost 7 (some .int)) ({ frames := 3, cells := 0, slots := 0, locals := 70 }) (zPw dC dI (wM d h b1 b2 b3 b4 b5 b6 L n wd wi wt up dn ch) d sz [.ref h, .int (jI x)]) (wMQi dC dI d h b1 b2 b3 b4 b5 b6 L (va_A (wM d h b1 b2 b3 b4 b5 b6 L n wd wi wt up dn ch) sz) (fun z u => ∃ up1 dn1 ch1, u = (n, wd, wi, wt, up1, dn1, ch1) ∧ (((x < 0 ∨ n ≤ x) ∧ z = -4) ∨ (0 ≤ x ∧ x < n ∧ Lmo wd wi wt n L x z)))) 0 0 (va_A (wM d h b1 b2 b3 b4 b5 b6 L n wd wi wt up dn ch) sz) := by
  refine Met.ofW (cc := cX2_leftmost) (maxL := 7) (ret := (some .int)) (by decide) rfl ?_
  intro p e s m args below meth c s₁ B hml hv
  obtain ⟨rfl, hsz, hP, hK, hD0⟩ := hv
  have hx := B.exec
  have hb := B.bytes
  have hr := B.returns
  have hts := atoms_spec (ws := (ws_ yX2_leftmost cX2_leftmost 7 (some .int))) B.pre
  have hts : ∀ w ∈ lw_all, w.before _ s = true := fun w h => hts w (List.mem_cons_of_mem _ h)
  have hown : s.vm.findClass RX2 = some m.cls := findClass_of_methodNamed B.named
  have hlocks := B.notSynchronized
  subst hsz
  have hD := hD0.self (sz := s.heap.size)
  generalize hAe : va_A (wM d h b1 b2 b3 b4 b5 b6 L n wd wi wt up dn ch) s.heap.size = A at hD ⊢
  have hA : ∀ q : Nat, s.heap.size ≤ q → A q := fun q h => by rw [← hAe]; exact Or.inr h
  have hS : va_S A s.heap s.heap [] := va_S.rf
  have hl := lv_entry ([.ref h, .int (jI x)]) (n := 7) (Nat.le_of_ble_eq_true rfl)
  rw [lg_entry_eq]
  generalize (lg_sl ([.ref h, .int (jI x)]) ++ List.replicate (7 - (lg_sl ([.ref h, .int (jI x)])).length) Slot.unset).toArray = ls at hl ⊢
  have hl : lv_has ls 7 [(0, .ref h), (1, .int (jI x))] := hl
  have hok2 := hok
  obtain ⟨hLn, hwd, hwi, hwt⟩ := hok2
  refine lv_aload_n hx hb dX2_leftmost_0 rfl (lv_at hl 0 rfl) ?_
  refine lv_iload_n hx hb dX2_leftmost_1 rfl (lv_at hl 1 rfl) ?_
  refine vp_callSi (W.runV (As := [.int (jI x)]) (rest := []) ⟨hx, hb, hml, hown, hts⟩ (metX2_badCell l dC dI d h b1 b2 b3 b4 b5 b6 L n wd wi wt up dn ch x (by omega) hx1) (cwV 1 hts (lw_V q190 q192 qs11 q21 q193) rfl rfl rfl (by decide +kernel) ⟨Nat.le_of_ble_eq_true rfl, Nat.le_of_ble_eq_true rfl⟩) ⟨zPp_bl, va_recv hK hP (ci := 1) (q0 := 0) rfl rfl, fun U hU hW => ⟨rfl, by rw [hU]; exact hP, va_K.moved hW.alike hK⟩⟩ rfl rfl hl.1 rfl (lv_room (Nat.le_of_ble_eq_true rfl)) dX2_leftmost_2 ⟨Nat.le_of_ble_eq_true rfl, Nat.le_of_ble_eq_true rfl⟩) (fun r_ hr_ => ?_)
  obtain ⟨z_1, rfl, hz_1⟩ := hr_
  refine ji_if_eq (tgt := 11) hx hb dX2_leftmost_5 (by decide) (by omega) (fun c_2 => ?_) (fun c_2 => ?_)
  · refine lv_aload_n hx hb dX2_leftmost_11 rfl (lv_at hl 0 rfl) ?_
    refine lv_aload_n hx hb dX2_leftmost_12 rfl (lv_at hl 0 rfl) ?_
    refine va_get (D := (dC, dI)) (ci := 1) (v := .int (jI n)) (C := RX2) (T := TX2) (N := 8) hx hb hts in_X2 hown hK hP 0 rfl rfl 1 (by decide) (hts _ q150) (fun _ h9 => h9) rfl dX2_leftmost_13 ?_
    have hFc := va_free (wc := (wM d h b1 b2 b3 b4 b5 b6 L n wd wi wt up dn ch)) hD hS hA [0, 1, 2, 3, 4, 5, 6] rfl
    refine va_callv (va_runV (As := [.int (jI n)]) (rest := []) ⟨hx, hb, hml, hown, hts⟩ (metX2_fillUp l dC dI d h b1 b2 b3 b4 b5 b6 L n wd wi wt up dn ch s.heap.size n hok (by omega)) (cwV 1 hts (lw_V q214 q216 qs12 q21 q217) rfl rfl rfl (by decide +kernel) ⟨Nat.le_of_ble_eq_true rfl, Nat.le_of_ble_eq_true rfl⟩) ⟨zPw_bl, va_recv hK hP (ci := 1) (q0 := 0) rfl rfl, fun U hU hW => ⟨rfl, by rw [hU], by rw [hU]; exact hP, va_K.moved hW.alike hK, hD.weaken (fun _ _ _ _ => trivial)⟩⟩ rfl rfl hl.1 rfl (lv_room (Nat.le_of_ble_eq_true rfl)) dX2_leftmost_16 ⟨Nat.le_of_ble_eq_true rfl, Nat.le_of_ble_eq_true rfl⟩) hS (fun q _ h => hFc q h) hFc (fun u_ t_ H locs ht_ hvm_ hw_ hB_ hz_ hk_ hS => ?_)
    obtain ⟨upzf, dnzf, chzf, rfl, hzf⟩ := hw_
    obtain ⟨hP, -, hD1_⟩ := hB_
    rw [ht_] at hP
    have hP : va_P (dC, dI) vwCl (wM d h b1 b2 b3 b4 b5 b6 L n wd wi wt upzf dnzf chzf) H := hP
    have hD : va_D A (wM d h b1 b2 b3 b4 b5 b6 L n wd wi wt upzf dnzf chzf) := hD1_.weaken (fun _ q _ h => hFc q.1 h)
    clear hD1_ hz_ hk_ hFc ht_ hvm_
    obtain ⟨ef1, ef2, hT⟩ := hzf
    rw [ef1, ef2] at hP hD
    have hP : va_P (dC, dI) vwCl (wM d h b1 b2 b3 b4 b5 b6 L n wd wi wt upzf dn ch) H := hP
    have hD : va_D A (wM d h b1 b2 b3 b4 b5 b6 L n wd wi wt upzf dn ch) := hD
    refine lv_aload_n hx hb dX2_leftmost_19 rfl (lv_at hl 0 rfl) ?_
    refine lv_aload_n hx hb dX2_leftmost_20 rfl (lv_at hl 0 rfl) ?_
    refine va_get (D := (dC, dI)) (ci := 1) (v := .int (jI n)) (C := RX2) (T := TX2) (N := 8) hx hb hts in_X2 hown hK hP 0 rfl rfl 1 (by decide) (hts _ q150) (fun _ h9 => h9) rfl dX2_leftmost_21 ?_
    refine ji_const hx hb dX2_leftmost_24 ?_
    refine ji_sub hx hb dX2_leftmost_25 ?_
    refine vp_callSi (W.runV (As := [.int (jI (n - 1))]) (rest := []) ⟨hx, hb, hml, hown, hts⟩ (metX2_leastUp l dC dI d h b1 b2 b3 b4 b5 b6 L n wd wi wt upzf dn ch (n - 1) hok (by omega) (fun y q1 q2 => hT (n - 1) y (by omega) (by omega) q1 q2)) (cwV 1 hts (lw_V q231 q233 qs16 q21 q234) rfl rfl rfl (by decide +kernel) ⟨Nat.le_of_ble_eq_true rfl, Nat.le_of_ble_eq_true rfl⟩) ⟨zPp_bl, va_recv hK hP (ci := 1) (q0 := 0) rfl rfl, fun U hU hW => ⟨rfl, by rw [hU]; exact hP, va_K.moved hW.alike hK⟩⟩ rfl rfl hl.1 rfl (lv_room (Nat.le_of_ble_eq_true rfl)) dX2_leftmost_26 ⟨Nat.le_of_ble_eq_true rfl, Nat.le_of_ble_eq_true rfl⟩) (fun r_ hr_ => ?_)
    obtain ⟨zl, rfl, hzl⟩ := hr_
    rw [show n - 1 + 1 = n by omega] at hzl
    have hzb := ResN_bd hzl (fun v hv => Fi_bd hok (a := 0) (b := n) (lf := 0) (rt := L) (by omega) (by omega) (by omega) hv)
    refine lv_istore_n (lv' := [(2, .int (jI zl)), (0, .ref h), (1, .int (jI x))]) hx hb dX2_leftmost_29 rfl hl (by decide) rfl (fun ls hl => ?_)
    refine lv_iload_n hx hb dX2_leftmost_30 rfl (lv_at hl 0 rfl) ?_
    refine ji_ldc (z := 1000000) hx hb hown (hts _ q218) (by decide) dX2_leftmost_31 ?_
    refine ji_icmp_ne (tgt := 39) hx hb dX2_leftmost_33 (by decide) (by omega) (by omega) (fun cz => ?_) (fun cz => ?_)
    · refine lv_bipush (v := jI 60) hx hb dX2_leftmost_39 (by decide) ?_
      refine lv_istore_n (lv' := [(3, .int (jI 60)), (2, .int (jI zl)), (0, .ref h), (1, .int (jI x))]) hx hb dX2_leftmost_41 rfl hl (by decide) rfl (fun ls hl => ?_)
      refine lv_aload_n hx hb dX2_leftmost_42 rfl (lv_at hl 2 rfl) ?_
      refine va_get (D := (dC, dI)) (ci := 1) (v := .int (jI n)) (C := RX2) (T := TX2) (N := 8) hx hb hts in_X2 hown hK hP 0 rfl rfl 1 (by decide) (hts _ q150) (fun _ h9 => h9) rfl dX2_leftmost_43 ?_
      refine ji_const hx hb dX2_leftmost_46 ?_
      refine ji_sub hx hb dX2_leftmost_47 ?_
      refine lv_istore (lv' := [(4, .int (jI (n - 1))), (3, .int (jI 60)), (2, .int (jI zl)), (0, .ref h), (1, .int (jI x))]) hx hb dX2_leftmost_48 hl (by decide) rfl (fun ls hl => ?_)
      have lo1 : ∀ (n_ : Nat) (du : Int) (en : Int) (i : Int) (q : Int → Int) (rt : Int) (hi : x - 1 ≤ i ∧ i < n) (hrt : 0 ≤ rt ∧ rt ≤ L) (hdu : Lst (Fi wd wi wt 0 (i + 1) 0 rt) du) (hen : (i + 1 = n ∧ en = 60 ∧ rt = L) ∨ (i + 1 < n ∧ 0 ≤ i ∧ en = rt - wd i) ∨ i = -1) (hnx : rt = nx n L q i) (hpl : Plc wd wi wt n L (i + 1) q) (hm_ : (i + 1).toNat < n_) (H : Heap) (locs : List Loc) (hP : va_P (dC, dI) vwCl (wM d h b1 b2 b3 b4 b5 b6 L n wd wi wt upzf dn q) H) (hD : va_D A (wM d h b1 b2 b3 b4 b5 b6 L n wd wi wt upzf dn q)) (hS : va_S A s.heap H locs) (ls : Array Slot) (hl : lv_has ls 7 [(0, .ref h), (1, .int (jI x)), (2, .int (jI du)), (3, .int (jI en)), (4, .int (jI i))]), W p l e (headSpec (ws_ yX2_leftmost cX2_leftmost 7 (some .int)) ({ frames := 3, cells := 0, slots := 0, locals := 70 })).room s m ([.ref h, .int (jI x)] : List Value).toArray below meth c H locs 0 0 (MQ below (wMQi dC dI d h b1 b2 b3 b4 b5 b6 L A (fun z u => ∃ up1 dn1 ch1, u = (n, wd, wi, wt, up1, dn1, ch1) ∧ (((x < 0 ∨ n ≤ x) ∧ z = -4) ∨ (0 ≤ x ∧ x < n ∧ Lmo wd wi wt n L x z)))) ([.ref h, .int (jI x)] : List Value).toArray s 0 0 A) (F0 m 50 ls []) := by
        intro n_
        induction n_ with
        | zero => intro du en i q rt hi hrt hdu hen hnx hpl hm_; exact absurd hm_ (by omega)
        | succ n_ ih_lo1 =>
          intro du en i q rt hi hrt hdu hen hnx hpl hm_ H locs hP hD hS ls hl
          have hen1 : -10 ≤ en ∧ en ≤ 100 ∨ i < x := by
            rcases Int.lt_or_le i x with q9 | q9
            · exact Or.inr q9
            · have := hwd i (by omega) (by omega)
              omega
          refine lv_iload hx hb dX2_leftmost_50 (lv_at hl 4 rfl) ?_
          refine lv_iload_n hx hb dX2_leftmost_52 rfl (lv_at hl 1 rfl) ?_
          refine ji_icmp_lt (tgt := 148) hx hb dX2_leftmost_53 (by decide) (by omega) (by omega) (fun c_3 => ?_) (fun c_3 => ?_)
          · refine lv_aload_n hx hb dX2_leftmost_148 rfl (lv_at hl 0 rfl) ?_
            refine va_get (D := (dC, dI)) (ci := 1) (v := .ref b6) (C := RX2) (T := TX2) (N := 8) hx hb hts in_X2 hown hK hP 0 rfl rfl 7 (by decide) (hts _ q156) (fun _ h9 => h9) rfl dX2_leftmost_149 ?_
            refine lv_iload_n hx hb dX2_leftmost_152 rfl (lv_at hl 1 rfl) ?_
            refine ji_ld (f := q) (n := 10) (cA := d) hx hb hK hP 6 0 rfl rfl (by omega) (by decide) dX2_leftmost_153 ?_
            exact W.iret (v := jI (q x)) hx hb hr (fun t_ ht_ hW_ => ⟨⟨_, (n, wd, wi, wt, upzf, dn, q), rfl, ⟨q x, rfl, ⟨_, _, _, rfl, Or.inr ⟨by omega, by omega, Or.inr ⟨⟨_, (hzb.2.2.2 cz).1.1⟩, q, (show i + 1 = x by omega) ▸ hpl, rfl⟩⟩⟩⟩, by rw [ht_]; exact hP, va_K.moved hW_.alike hK, hD⟩, hS.F ht_⟩) hS.2.2 dX2_leftmost_154
          · have hwdi := hwd i (by omega) (by omega)
            have hbdu := Fi_bd hok (a := 0) (b := i + 1) (lf := 0) (rt := rt) (by omega) (by omega) (by omega) hdu.1
            have hsk := sWi_rng wd (a := 0) (b := i) (lo := 1) (hi := 5) (by omega) (fun j q1 q2 => hwd j (by omega) (by omega))
            obtain ⟨xs, hxs0, hxs1, hxs2⟩ := Lm_ex (c := i) (by omega) (by omega) hdu
            have hxe := (up_iff (hT i xs (by omega) (by omega) (by omega) (by omega)) hxs1 hrt.2 (by omega)).mpr hxs2
            have hxs4 : xs ≤ en := by omega
            refine ji_const hx hb dX2_leftmost_56 ?_
            refine lv_istore (lv' := [(5, .int (jI (-1))), (0, .ref h), (1, .int (jI x)), (2, .int (jI du)), (3, .int (jI en)), (4, .int (jI i))]) hx hb dX2_leftmost_57 hl (by decide) rfl (fun ls hl => ?_)
            refine ji_const hx hb dX2_leftmost_59 ?_
            refine lv_istore (lv' := [(6, .int (jI 0)), (5, .int (jI (-1))), (0, .ref h), (1, .int (jI x)), (2, .int (jI du)), (3, .int (jI en)), (4, .int (jI i))]) hx hb dX2_leftmost_60 hl (by decide) rfl (fun ls hl => ?_)
            have ex : ∀ (fo : Int) (hfo2 : 0 ≤ fo ∧ fo ≤ en) (hfo3 : (upzf (i * 61 + fo) = du ∧ ∀ x', 0 ≤ x' → x' < fo → upzf (i * 61 + x') ≠ du)) (H : Heap) (locs : List Loc) (hP : va_P (dC, dI) vwCl (wM d h b1 b2 b3 b4 b5 b6 L n wd wi wt upzf dn q) H) (hD : va_D A (wM d h b1 b2 b3 b4 b5 b6 L n wd wi wt upzf dn q)) (hS : va_S A s.heap H locs) (ls : Array Slot) (hl : lv_has ls 7 [(0, .ref h), (1, .int (jI x)), (2, .int (jI du)), (3, .int (jI en)), (4, .int (jI i)), (5, .int (jI fo))]), W p l e (headSpec (ws_ yX2_leftmost cX2_leftmost 7 (some .int)) ({ frames := 3, cells := 0, slots := 0, locals := 70 })).room s m ([.ref h, .int (jI x)] : List Value).toArray below meth c H locs 0 0 (MQ below (wMQi dC dI d h b1 b2 b3 b4 b5 b6 L A (fun z u => ∃ up1 dn1 ch1, u = (n, wd, wi, wt, up1, dn1, ch1) ∧ (((x < 0 ∨ n ≤ x) ∧ z = -4) ∨ (0 ≤ x ∧ x < n ∧ Lmo wd wi wt n L x z)))) ([.ref h, .int (jI x)] : List Value).toArray s 0 0 A) (F0 m 100 ls []) := by
              intro fo hfo2 hfo3 H locs hP hD hS ls hl
              refine lv_aload_n hx hb dX2_leftmost_100 rfl (lv_at hl 0 rfl) ?_
              refine va_get (D := (dC, dI)) (ci := 1) (v := .ref b6) (C := RX2) (T := TX2) (N := 8) hx hb hts in_X2 hown hK hP 0 rfl rfl 7 (by decide) (hts _ q156) (fun _ h9 => h9) rfl dX2_leftmost_101 ?_
              refine lv_iload hx hb dX2_leftmost_104 (lv_at hl 4 rfl) ?_
              refine lv_iload hx hb dX2_leftmost_106 (lv_at hl 5 rfl) ?_
              refine ji_st (f := q) (n := 10) (cA := d) (i := i) (x := fo) hx hb hK hP hD hS 6 0 rfl rfl (by omega) (by decide) dX2_leftmost_108 (fun H locs hP hD hS => ?_)
              have hP : va_P (dC, dI) vwCl (wM d h b1 b2 b3 b4 b5 b6 L n wd wi wt upzf dn (uI q i fo)) H := hP
              have hD : va_D A (wM d h b1 b2 b3 b4 b5 b6 L n wd wi wt upzf dn (uI q i fo)) := hD
              refine lv_iload_n hx hb dX2_leftmost_109 rfl (lv_at hl 2 rfl) ?_
              refine lv_aload_n hx hb dX2_leftmost_110 rfl (lv_at hl 0 rfl) ?_
              refine lv_iload hx hb dX2_leftmost_111 (lv_at hl 4 rfl) ?_
              refine lv_iload hx hb dX2_leftmost_113 (lv_at hl 5 rfl) ?_
              have hTf := hT i fo (by omega) (by omega) (by omega) (by omega)
              rw [hfo3.1] at hTf
              have hLf := ((ResN_bd hTf (fun v hv => Upx_bd hok (by omega) (by omega) hv)).2.2.2 (by omega)).1
              have hls := Lst_sub hLf
              refine vp_callSi (W.runV (As := [.int (jI i), .int (jI fo)]) (rest := [.int (jI du)]) ⟨hx, hb, hml, hown, hts⟩ (metX2_own l dC dI d h b1 b2 b3 b4 b5 b6 L n wd wi wt upzf dn (uI q i fo) i fo hok (by omega) (by omega)) (cwV 2 hts (lw_V q223 q225 qs14 q21 q226) rfl rfl rfl (by decide +kernel) ⟨Nat.le_of_ble_eq_true rfl, Nat.le_of_ble_eq_true rfl⟩) ⟨zPp_bl, va_recv hK hP (ci := 1) (q0 := 0) rfl rfl, fun U hU hW => ⟨rfl, by rw [hU]; exact hP, va_K.moved hW.alike hK⟩⟩ rfl rfl hl.1 rfl (lv_room (Nat.le_of_ble_eq_true rfl)) dX2_leftmost_115 ⟨Nat.le_of_ble_eq_true rfl, Nat.le_of_ble_eq_true rfl⟩) (fun r_ hr_ => ?_)
              obtain ⟨zo, rfl, hzo⟩ := hr_
              have ezo := (own_bd hok (by omega) hzo).2.2.2 (by omega) (by omega)
              have hfr : fo + wd i ≤ rt := by omega
              have hLm : Lm wd wi wt i rt fo := ⟨hfo2.1, du, hdu, (up_iff (hT i fo (by omega) (by omega) (by omega) (by omega)) hfr hrt.2 (by omega)).mp hfo3.1, fun x9 q1 q2 q3 => hfo3.2 x9 q1 q2 ((up_iff (hT i x9 (by omega) (by omega) (by omega) (by omega)) (by omega) hrt.2 (by omega)).mpr q3)⟩
              have hst := Plc_step (q := q) (by omega) hpl hnx hLm
              refine ji_sub hx hb dX2_leftmost_118 ?_
              refine lv_istore_n (lv' := [(2, .int (jI (du - zo))), (0, .ref h), (1, .int (jI x)), (3, .int (jI en)), (4, .int (jI i)), (5, .int (jI fo))]) hx hb dX2_leftmost_119 rfl hl (by decide) rfl (fun ls hl => ?_)
              refine lv_iload hx hb dX2_leftmost_120 (lv_at hl 4 rfl) ?_
              refine ji_if_le (tgt := 140) hx hb dX2_leftmost_122 (by decide) (by omega) (fun c_4 => ?_) (fun c_4 => ?_)
              · refine ji_const hx hb dX2_leftmost_140 ?_
                refine lv_istore_n (lv' := [(3, .int (jI 0)), (2, .int (jI (du - zo))), (0, .ref h), (1, .int (jI x)), (4, .int (jI i)), (5, .int (jI fo))]) hx hb dX2_leftmost_141 rfl hl (by decide) rfl (fun ls hl => ?_)
                refine ji_iinc (v := i - 1) (lv' := [(4, .int (jI (i - 1))), (3, .int (jI 0)), (2, .int (jI (du - zo))), (0, .ref h), (1, .int (jI x)), (5, .int (jI fo))]) hx hb dX2_leftmost_142 hl (k := 4) rfl (by omega) (by decide) rfl (fun ls hl => ?_)
                refine lv_goto (tgt := 50) hx hb dX2_leftmost_145 (by decide) ?_
                exact ih_lo1 (du - zo) 0 (i - 1) (uI q i fo) fo (by omega) (by omega) (by rw [show i - 1 + 1 = i by omega, ezo.2]; exact hls.2.2) (by omega) hst.2 hst.1 (by omega) _ _ hP hD hS ls (lv_sub hl [3, 4, 2, 1, 0] rfl)
              · refine lv_iload hx hb dX2_leftmost_125 (lv_at hl 5 rfl) ?_
                refine lv_aload_n hx hb dX2_leftmost_127 rfl (lv_at hl 1 rfl) ?_
                refine va_get (D := (dC, dI)) (ci := 1) (v := .ref b1) (C := RX2) (T := TX2) (N := 8) hx hb hts in_X2 hown hK hP 0 rfl rfl 2 (by decide) (hts _ q151) (fun _ h9 => h9) rfl dX2_leftmost_128 ?_
                refine lv_iload hx hb dX2_leftmost_131 (lv_at hl 4 rfl) ?_
                refine ji_const hx hb dX2_leftmost_133 ?_
                refine ji_sub hx hb dX2_leftmost_134 ?_
                refine ji_ld (f := wd) (n := 10) (cA := d) hx hb hK hP 1 0 rfl rfl (by omega) (by decide) dX2_leftmost_135 ?_
                have f_5 := hwd (i - 1) (by omega) (by omega)
                refine ji_sub hx hb dX2_leftmost_136 ?_
                refine lv_goto (tgt := 141) hx hb dX2_leftmost_137 (by decide) ?_
                refine lv_istore_n (lv' := [(3, .int (jI (fo - (wd (i - 1))))), (2, .int (jI (du - zo))), (0, .ref h), (1, .int (jI x)), (4, .int (jI i)), (5, .int (jI fo))]) hx hb dX2_leftmost_141 rfl hl (by decide) rfl (fun ls hl => ?_)
                refine ji_iinc (v := i - 1) (lv' := [(4, .int (jI (i - 1))), (3, .int (jI (fo - (wd (i - 1))))), (2, .int (jI (du - zo))), (0, .ref h), (1, .int (jI x)), (5, .int (jI fo))]) hx hb dX2_leftmost_142 hl (k := 4) rfl (by omega) (by decide) rfl (fun ls hl => ?_)
                refine lv_goto (tgt := 50) hx hb dX2_leftmost_145 (by decide) ?_
                exact ih_lo1 (du - zo) (fo - (wd (i - 1))) (i - 1) (uI q i fo) fo (by omega) (by omega) (by rw [show i - 1 + 1 = i by omega, ezo.2]; exact hls.2.2) (by omega) hst.2 hst.1 (by omega) _ _ hP hD hS ls (lv_sub hl [3, 4, 2, 1, 0] rfl)
            have lo2 : ∀ (n_ : Nat) (fo : Int) (xx : Int) (hxx : 0 ≤ xx ∧ xx ≤ en + 1) (hfo : (fo = -1 ∧ ∀ x', 0 ≤ x' → x' < xx → upzf (i * 61 + x') ≠ du) ∨ (0 ≤ fo ∧ fo < xx ∧ (upzf (i * 61 + fo) = du ∧ ∀ x', 0 ≤ x' → x' < fo → upzf (i * 61 + x') ≠ du))) (hm_ : (en + 1 - xx).toNat < n_) (H : Heap) (locs : List Loc) (hP : va_P (dC, dI) vwCl (wM d h b1 b2 b3 b4 b5 b6 L n wd wi wt upzf dn q) H) (hD : va_D A (wM d h b1 b2 b3 b4 b5 b6 L n wd wi wt upzf dn q)) (hS : va_S A s.heap H locs) (ls : Array Slot) (hl : lv_has ls 7 [(0, .ref h), (1, .int (jI x)), (2, .int (jI du)), (3, .int (jI en)), (4, .int (jI i)), (5, .int (jI fo)), (6, .int (jI xx))]), W p l e (headSpec (ws_ yX2_leftmost cX2_leftmost 7 (some .int)) ({ frames := 3, cells := 0, slots := 0, locals := 70 })).room s m ([.ref h, .int (jI x)] : List Value).toArray below meth c H locs 0 0 (MQ below (wMQi dC dI d h b1 b2 b3 b4 b5 b6 L A (fun z u => ∃ up1 dn1 ch1, u = (n, wd, wi, wt, up1, dn1, ch1) ∧ (((x < 0 ∨ n ≤ x) ∧ z = -4) ∨ (0 ≤ x ∧ x < n ∧ Lmo wd wi wt n L x z)))) ([.ref h, .int (jI x)] : List Value).toArray s 0 0 A) (F0 m 62 ls []) := by
              intro n_
              induction n_ with
              | zero => intro fo xx hxx hfo hm_; exact absurd hm_ (by omega)
              | succ n_ ih_lo2 =>
                intro fo xx hxx hfo hm_ H locs hP hD hS ls hl
                have hfo1 : -1 ≤ fo ∧ fo ≤ 100 := by
                  rcases hfo with q9 | q9
                  · omega
                  · omega
                refine lv_iload hx hb dX2_leftmost_62 (lv_at hl 6 rfl) ?_
                refine lv_iload_n hx hb dX2_leftmost_64 rfl (lv_at hl 3 rfl) ?_
                refine ji_icmp_gt (tgt := 100) hx hb dX2_leftmost_65 (by decide) (by omega) (by omega) (fun c_6 => ?_) (fun c_6 => ?_)
                · have hfo7 : 0 ≤ fo ∧ fo < xx ∧ (upzf (i * 61 + fo) = du ∧ ∀ x', 0 ≤ x' → x' < fo → upzf (i * 61 + x') ≠ du) := by
                    rcases hfo with q9 | q9
                    · exact absurd hxe (q9.2 xs hxs0 (by omega))
                    · exact q9
                  exact ex fo (by omega) hfo7.2.2 _ _ hP hD hS ls (lv_sub hl [0, 1, 2, 3, 4, 5] rfl)
                · refine lv_iload hx hb dX2_leftmost_68 (lv_at hl 5 rfl) ?_
                  refine ji_if_ge (tgt := 100) hx hb dX2_leftmost_70 (by decide) (by omega) (fun c_7 => ?_) (fun c_7 => ?_)
                  · have hfo7 : 0 ≤ fo ∧ fo < xx ∧ (upzf (i * 61 + fo) = du ∧ ∀ x', 0 ≤ x' → x' < fo → upzf (i * 61 + x') ≠ du) := by
                      rcases hfo with q9 | q9
                      · omega
                      · exact q9
                    exact ex fo (by omega) hfo7.2.2 _ _ hP hD hS ls (lv_sub hl [0, 1, 2, 3, 4, 5] rfl)
                  · have hfo8 : fo = -1 ∧ ∀ x', 0 ≤ x' → x' < xx → upzf (i * 61 + x') ≠ du := by
                      rcases hfo with q9 | q9
                      · exact q9
                      · omega
                    refine lv_aload_n hx hb dX2_leftmost_73 rfl (lv_at hl 0 rfl) ?_
                    refine va_get (D := (dC, dI)) (ci := 1) (v := .ref b4) (C := RX2) (T := TX2) (N := 8) hx hb hts in_X2 hown hK hP 0 rfl rfl 5 (by decide) (hts _ q154) (fun _ h9 => h9) rfl dX2_leftmost_74 ?_
                    refine lv_iload hx hb dX2_leftmost_77 (lv_at hl 4 rfl) ?_
                    refine lv_bipush (v := jI 61) hx hb dX2_leftmost_79 (by decide) ?_
                    refine ji_mul hx hb dX2_leftmost_81 ?_
                    refine lv_iload hx hb dX2_leftmost_82 (lv_at hl 6 rfl) ?_
                    refine ji_add hx hb dX2_leftmost_84 ?_
                    refine ji_ld (f := upzf) (n := 610) (cA := d) hx hb hK hP 4 0 rfl rfl (by omega) (by decide) dX2_leftmost_85 ?_
                    have mg : ∀ (fo2 : Int) (hfo9 : (fo2 = -1 ∧ ∀ x', 0 ≤ x' → x' < (xx + 1) → upzf (i * 61 + x') ≠ du) ∨ (0 ≤ fo2 ∧ fo2 < (xx + 1) ∧ (upzf (i * 61 + fo2) = du ∧ ∀ x', 0 ≤ x' → x' < fo2 → upzf (i * 61 + x') ≠ du))) (H : Heap) (locs : List Loc) (hP : va_P (dC, dI) vwCl (wM d h b1 b2 b3 b4 b5 b6 L n wd wi wt upzf dn q) H) (hD : va_D A (wM d h b1 b2 b3 b4 b5 b6 L n wd wi wt upzf dn q)) (hS : va_S A s.heap H locs) (ls : Array Slot) (hl : lv_has ls 7 [(0, .ref h), (1, .int (jI x)), (2, .int (jI du)), (3, .int (jI en)), (4, .int (jI i)), (5, .int (jI fo2)), (6, .int (jI xx))]), W p l e (headSpec (ws_ yX2_leftmost cX2_leftmost 7 (some .int)) ({ frames := 3, cells := 0, slots := 0, locals := 70 })).room s m ([.ref h, .int (jI x)] : List Value).toArray below meth c H locs 0 0 (MQ below (wMQi dC dI d h b1 b2 b3 b4 b5 b6 L A (fun z u => ∃ up1 dn1 ch1, u = (n, wd, wi, wt, up1, dn1, ch1) ∧ (((x < 0 ∨ n ≤ x) ∧ z = -4) ∨ (0 ≤ x ∧ x < n ∧ Lmo wd wi wt n L x z)))) ([.ref h, .int (jI x)] : List Value).toArray s 0 0 A) (F0 m 94 ls []) := by
                      intro fo2 hfo9 H locs hP hD hS ls hl
                      refine ji_iinc (v := xx + 1) (lv' := [(6, .int (jI (xx + 1))), (0, .ref h), (1, .int (jI x)), (2, .int (jI du)), (3, .int (jI en)), (4, .int (jI i)), (5, .int (jI fo2))]) hx hb dX2_leftmost_94 hl (k := 6) rfl (by omega) (by decide) rfl (fun ls hl => ?_)
                      refine lv_goto (tgt := 62) hx hb dX2_leftmost_97 (by decide) ?_
                      exact ih_lo2 fo2 (xx + 1) (by omega) hfo9 (by omega) _ _ hP hD hS ls (lv_sub hl [1, 2, 3, 4, 5, 6, 0] rfl)
                    have htb := ResN_bd (hT i xx (by omega) (by omega) (by omega) (by omega)) (fun v hv => Upx_bd hok (by omega) (by omega) hv)
                    refine lv_iload_n hx hb dX2_leftmost_86 rfl (lv_at hl 2 rfl) ?_
                    refine ji_icmp_ne (tgt := 94) hx hb dX2_leftmost_87 (by decide) (by omega) (by omega) (fun ce => ?_) (fun ce => ?_)
                    · exact mg fo (Or.inl ⟨hfo8.1, fun x' q1 q2 => by
                        by_cases q3 : x' = xx
                        · rw [q3]; exact ce
                        · exact hfo8.2 x' q1 (by omega)⟩) _ _ hP hD hS ls (lv_sub hl [0, 1, 2, 3, 4, 5, 6] rfl)
                    · refine lv_iload hx hb dX2_leftmost_90 (lv_at hl 6 rfl) ?_
                      refine lv_istore (lv' := [(5, .int (jI xx)), (0, .ref h), (1, .int (jI x)), (2, .int (jI du)), (3, .int (jI en)), (4, .int (jI i)), (6, .int (jI xx))]) hx hb dX2_leftmost_92 hl (by decide) rfl (fun ls hl => ?_)
                      exact mg xx (Or.inr ⟨by omega, by omega, ce, hfo8.2⟩) _ _ hP hD hS ls (lv_sub hl [1, 2, 3, 4, 5, 0, 6] rfl)
            exact lo2 _ (-1) 0 (by omega) (Or.inl ⟨rfl, fun x' q1 q2 => absurd q2 (by omega)⟩) (Nat.lt_succ_self _) _ _ hP hD hS ls (lv_sub hl [2, 3, 4, 5, 6, 1, 0] rfl)
      exact lo1 _ zl 60 (n - 1) ch L (by omega) (by omega) (by rw [show n - 1 + 1 = n by omega]; exact (hzb.2.2.2 cz).1) (by omega) (by unfold nx; rw [if_pos (by omega)]) (fun j q1 q2 => absurd q1 (by omega)) (Nat.lt_succ_self _) _ _ hP hD hS ls (lv_sub hl [3, 4, 2, 1, 0] rfl)
    · refine lv_bipush (v := jI (-6)) hx hb dX2_leftmost_36 (by decide) ?_
      exact W.iret (v := jI (-6)) hx hb hr (fun t_ ht_ hW_ => ⟨⟨_, (n, wd, wi, wt, upzf, dn, ch), rfl, ⟨(-6), rfl, ⟨_, _, _, rfl, Or.inr ⟨by omega, by omega, Or.inl ⟨hzb.2.2.1 cz, rfl⟩⟩⟩⟩, by rw [ht_]; exact hP, va_K.moved hW_.alike hK, hD⟩, hS.F ht_⟩) hS.2.2 dX2_leftmost_38
  · refine lv_bipush (v := jI (-4)) hx hb dX2_leftmost_8 (by decide) ?_
    exact W.iret (v := jI (-4)) hx hb hr (fun t_ ht_ hW_ => ⟨⟨_, (n, wd, wi, wt, up, dn, ch), rfl, ⟨(-4), rfl, ⟨_, _, _, rfl, Or.inl (by omega)⟩⟩, by rw [ht_]; exact hP, va_K.moved hW_.alike hK, hD⟩, hS.F ht_⟩) hS.2.2 dX2_leftmost_10
set_option maxHeartbeats 4000000 in
set_option maxRecDepth 100000 in
theorem metX2_costAt (l : Launch) (dC : Nat → ClassId) (dI : Nat → Nat → Nat) (d : ClassId) (h b1 b2 b3 b4 b5 b6 : Nat) (L : Int) (n : Int) (wd : Int → Int) (wi : Int → Int) (wt : Int → Int) (up : Int → Int) (dn : Int → Int) (ch : Int → Int) (sz : Nat) (x : Int) (y : Int) (hok : Ok L n wd wi wt) (hx1 : -2147483648 ≤ x ∧ x < 2147483648) (hy1 : -2147483648 ≤ y ∧ y < 2147483648) : Met l yX2_costAt (ws_ yX2_costAt cX2_costAt 4 (some .int)) ({ frames := 3, cells := 0, slots := 0, locals := 70 }) (zPw dC dI (wM d h b1 b2 b3 b4 b5 b6 L n wd wi wt up dn ch) d sz [.ref h, .int (jI x), .int (jI y)]) (wMQi dC dI d h b1 b2 b3 b4 b5 b6 L (va_A (wM d h b1 b2 b3 b4 b5 b6 L n wd wi wt up dn ch) sz) (fun z u => ∃ up1 dn1 ch1, u = (n, wd, wi, wt, up1, dn1, ch1) ∧ (((x < 0 ∨ n ≤ x) ∧ z = -4) ∨ (0 ≤ x ∧ x < n ∧ Res (Cat wd wi wt n L x y) z)))) 0 0 (va_A (wM d h b1 b2 b3 b4 b5 b6 L n wd wi wt up dn ch) sz) := by
  refine Met.ofW (cc := cX2_costAt) (maxL := 4) (ret := (some .int)) (by decide) rfl ?_
  intro p e s m args below meth c s₁ B hml hv
  obtain ⟨rfl, hsz, hP, hK, hD0⟩ := hv
  have hx := B.exec
  have hb := B.bytes
  have hr := B.returns
  have hts := atoms_spec (ws := (ws_ yX2_costAt cX2_costAt 4 (some .int))) B.pre
  have hts : ∀ w ∈ lw_all, w.before _ s = true := fun w h => hts w (List.mem_cons_of_mem _ h)
  have hown : s.vm.findClass RX2 = some m.cls := findClass_of_methodNamed B.named
  have hlocks := B.notSynchronized
  subst hsz
  have hD := hD0.self (sz := s.heap.size)
  generalize hAe : va_A (wM d h b1 b2 b3 b4 b5 b6 L n wd wi wt up dn ch) s.heap.size = A at hD ⊢
  have hA : ∀ q : Nat, s.heap.size ≤ q → A q := fun q h => by rw [← hAe]; exact Or.inr h
  have hS : va_S A s.heap s.heap [] := va_S.rf
  have hl := lv_entry ([.ref h, .int (jI x), .int (jI y)]) (n := 4) (Nat.le_of_ble_eq_true rfl)
  rw [lg_entry_eq]
  generalize (lg_sl ([.ref h, .int (jI x), .int (jI y)]) ++ List.replicate (4 - (lg_sl ([.ref h, .int (jI x), .int (jI y)])).length) Slot.unset).toArray = ls at hl ⊢
  have hl : lv_has ls 4 [(0, .ref h), (1, .int (jI x)), (2, .int (jI y))] := hl
  have hok2 := hok
  obtain ⟨hLn, hwd, hwi, hwt⟩ := hok2
  refine lv_aload_n hx hb dX2_costAt_0 rfl (lv_at hl 0 rfl) ?_
  refine lv_iload_n hx hb dX2_costAt_1 rfl (lv_at hl 1 rfl) ?_
  refine vp_callSi (W.runV (As := [.int (jI x)]) (rest := []) ⟨hx, hb, hml, hown, hts⟩ (metX2_badCell l dC dI d h b1 b2 b3 b4 b5 b6 L n wd wi wt up dn ch x (by omega) hx1) (cwV 1 hts (lw_V q190 q192 qs11 q21 q193) rfl rfl rfl (by decide +kernel) ⟨Nat.le_of_ble_eq_true rfl, Nat.le_of_ble_eq_true rfl⟩) ⟨zPp_bl, va_recv hK hP (ci := 1) (q0 := 0) rfl rfl, fun U hU hW => ⟨rfl, by rw [hU]; exact hP, va_K.moved hW.alike hK⟩⟩ rfl rfl hl.1 rfl (lv_room (Nat.le_of_ble_eq_true rfl)) dX2_costAt_2 ⟨Nat.le_of_ble_eq_true rfl, Nat.le_of_ble_eq_true rfl⟩) (fun r_ hr_ => ?_)
  obtain ⟨z_1, rfl, hz_1⟩ := hr_
  refine ji_if_eq (tgt := 11) hx hb dX2_costAt_5 (by decide) (by omega) (fun c_2 => ?_) (fun c_2 => ?_)
  · refine lv_iload_n hx hb dX2_costAt_11 rfl (lv_at hl 2 rfl) ?_
    refine ji_if_lt (tgt := 21) hx hb dX2_costAt_12 (by decide) (by omega) (fun c_3 => ?_) (fun c_3 => ?_)
    · refine lv_bipush (v := jI (-6)) hx hb dX2_costAt_21 (by decide) ?_
      exact W.iret (v := jI (-6)) hx hb hr (fun t_ ht_ hW_ => ⟨⟨_, (n, wd, wi, wt, up, dn, ch), rfl, ⟨(-6), rfl, ⟨_, _, _, rfl, Or.inr ⟨by omega, by omega, Or.inl ⟨rfl, fun v hv => by obtain ⟨v1, v2, ⟨q0, v9, q1, q2, q3⟩, q4, q5⟩ := hv; have := hwd x (by omega) (by omega); omega⟩⟩⟩⟩, by rw [ht_]; exact hP, va_K.moved hW_.alike hK, hD⟩, hS.F ht_⟩) hS.2.2 dX2_costAt_23
    · refine lv_iload_n hx hb dX2_costAt_15 rfl (lv_at hl 2 rfl) ?_
      refine lv_bipush (v := jI 60) hx hb dX2_costAt_16 (by decide) ?_
      refine ji_icmp_le (tgt := 24) hx hb dX2_costAt_18 (by decide) (by omega) (by omega) (fun c_4 => ?_) (fun c_4 => ?_)
      · refine lv_aload_n hx hb dX2_costAt_24 rfl (lv_at hl 0 rfl) ?_
        refine lv_aload_n hx hb dX2_costAt_25 rfl (lv_at hl 0 rfl) ?_
        refine va_get (D := (dC, dI)) (ci := 1) (v := .int (jI n)) (C := RX2) (T := TX2) (N := 8) hx hb hts in_X2 hown hK hP 0 rfl rfl 1 (by decide) (hts _ q150) (fun _ h9 => h9) rfl dX2_costAt_26 ?_
        have hFc := va_free (wc := (wM d h b1 b2 b3 b4 b5 b6 L n wd wi wt up dn ch)) hD hS hA [0, 1, 2, 3, 4, 5, 6] rfl
        refine va_callv (va_runV (As := [.int (jI n)]) (rest := []) ⟨hx, hb, hml, hown, hts⟩ (metX2_fillUp l dC dI d h b1 b2 b3 b4 b5 b6 L n wd wi wt up dn ch s.heap.size n hok (by omega)) (cwV 1 hts (lw_V q214 q216 qs12 q21 q217) rfl rfl rfl (by decide +kernel) ⟨Nat.le_of_ble_eq_true rfl, Nat.le_of_ble_eq_true rfl⟩) ⟨zPw_bl, va_recv hK hP (ci := 1) (q0 := 0) rfl rfl, fun U hU hW => ⟨rfl, by rw [hU], by rw [hU]; exact hP, va_K.moved hW.alike hK, hD.weaken (fun _ _ _ _ => trivial)⟩⟩ rfl rfl hl.1 rfl (lv_room (Nat.le_of_ble_eq_true rfl)) dX2_costAt_29 ⟨Nat.le_of_ble_eq_true rfl, Nat.le_of_ble_eq_true rfl⟩) hS (fun q _ h => hFc q h) hFc (fun u_ t_ H locs ht_ hvm_ hw_ hB_ hz_ hk_ hS => ?_)
        obtain ⟨upzf, dnzf, chzf, rfl, hzf⟩ := hw_
        obtain ⟨hP, -, hD1_⟩ := hB_
        rw [ht_] at hP
        have hP : va_P (dC, dI) vwCl (wM d h b1 b2 b3 b4 b5 b6 L n wd wi wt upzf dnzf chzf) H := hP
        have hD : va_D A (wM d h b1 b2 b3 b4 b5 b6 L n wd wi wt upzf dnzf chzf) := hD1_.weaken (fun _ q _ h => hFc q.1 h)
        clear hD1_ hz_ hk_ hFc ht_ hvm_
        obtain ⟨ef1, ef2, hT⟩ := hzf
        rw [ef1, ef2] at hP hD
        have hP : va_P (dC, dI) vwCl (wM d h b1 b2 b3 b4 b5 b6 L n wd wi wt upzf dn ch) H := hP
        have hD : va_D A (wM d h b1 b2 b3 b4 b5 b6 L n wd wi wt upzf dn ch) := hD
        refine lv_aload_n hx hb dX2_costAt_32 rfl (lv_at hl 0 rfl) ?_
        have hFc := va_free (wc := (wM d h b1 b2 b3 b4 b5 b6 L n wd wi wt upzf dn ch)) hD hS hA [0, 1, 2, 3, 4, 5, 6] rfl
        refine va_callv (va_runV (As := []) (rest := []) ⟨hx, hb, hml, hown, hts⟩ (metX2_fillDown l dC dI d h b1 b2 b3 b4 b5 b6 L n wd wi wt upzf dn ch H.size hok) (cwV 0 hts (lw_V q244 q246 qs17 q21 q247) rfl rfl rfl (by decide +kernel) ⟨Nat.le_of_ble_eq_true rfl, Nat.le_of_ble_eq_true rfl⟩) ⟨zPw_bl, va_recv hK hP (ci := 1) (q0 := 0) rfl rfl, fun U hU hW => ⟨rfl, by rw [hU], by rw [hU]; exact hP, va_K.moved hW.alike hK, hD.weaken (fun _ _ _ _ => trivial)⟩⟩ rfl rfl hl.1 rfl (lv_room (Nat.le_of_ble_eq_true rfl)) dX2_costAt_33 ⟨Nat.le_of_ble_eq_true rfl, Nat.le_of_ble_eq_true rfl⟩) hS (fun q _ h => hFc q h) hFc (fun u_ t_ H locs ht_ hvm_ hw_ hB_ hz_ hk_ hS => ?_)
        obtain ⟨upzg, dnzg, chzg, rfl, hzg⟩ := hw_
        obtain ⟨hP, -, hD1_⟩ := hB_
        rw [ht_] at hP
        have hP : va_P (dC, dI) vwCl (wM d h b1 b2 b3 b4 b5 b6 L n wd wi wt upzg dnzg chzg) H := hP
        have hD : va_D A (wM d h b1 b2 b3 b4 b5 b6 L n wd wi wt upzg dnzg chzg) := hD1_.weaken (fun _ q _ h => hFc q.1 h)
        clear hD1_ hz_ hk_ hFc ht_ hvm_
        obtain ⟨eg1, eg2, hDT⟩ := hzg
        have hU := hT x y (by omega) (by omega) (by omega) (by omega)
        have hDn := hDT x y (by omega) (by omega) (by omega) (by omega)
        have hbU := ResN_bd hU (fun v hv => Upx_bd hok (by omega) (by omega) hv)
        have hbD := ResN_bd hDn (fun v hv => Dnx_bd hok (by omega) hv)
        rw [eg1, eg2] at hP hD
        have hP : va_P (dC, dI) vwCl (wM d h b1 b2 b3 b4 b5 b6 L n wd wi wt upzf dnzg ch) H := hP
        have hD : va_D A (wM d h b1 b2 b3 b4 b5 b6 L n wd wi wt upzf dnzg ch) := hD
        refine lv_aload_n hx hb dX2_costAt_36 rfl (lv_at hl 0 rfl) ?_
        refine lv_aload_n hx hb dX2_costAt_37 rfl (lv_at hl 0 rfl) ?_
        refine va_get (D := (dC, dI)) (ci := 1) (v := .ref b4) (C := RX2) (T := TX2) (N := 8) hx hb hts in_X2 hown hK hP 0 rfl rfl 5 (by decide) (hts _ q154) (fun _ h9 => h9) rfl dX2_costAt_38 ?_
        refine lv_iload_n hx hb dX2_costAt_41 rfl (lv_at hl 1 rfl) ?_
        refine lv_bipush (v := jI 61) hx hb dX2_costAt_42 (by decide) ?_
        refine ji_mul hx hb dX2_costAt_44 ?_
        refine lv_iload_n hx hb dX2_costAt_45 rfl (lv_at hl 2 rfl) ?_
        refine ji_add hx hb dX2_costAt_46 ?_
        refine ji_ld (f := upzf) (n := 610) (cA := d) hx hb hK hP 4 0 rfl rfl (by omega) (by decide) dX2_costAt_47 ?_
        refine lv_aload_n hx hb dX2_costAt_48 rfl (lv_at hl 0 rfl) ?_
        refine va_get (D := (dC, dI)) (ci := 1) (v := .ref b5) (C := RX2) (T := TX2) (N := 8) hx hb hts in_X2 hown hK hP 0 rfl rfl 6 (by decide) (hts _ q155) (fun _ h9 => h9) rfl dX2_costAt_49 ?_
        refine lv_iload_n hx hb dX2_costAt_52 rfl (lv_at hl 1 rfl) ?_
        refine lv_bipush (v := jI 61) hx hb dX2_costAt_53 (by decide) ?_
        refine ji_mul hx hb dX2_costAt_55 ?_
        refine lv_iload_n hx hb dX2_costAt_56 rfl (lv_at hl 2 rfl) ?_
        refine ji_add hx hb dX2_costAt_57 ?_
        refine ji_ld (f := dnzg) (n := 610) (cA := d) hx hb hK hP 5 0 rfl rfl (by omega) (by decide) dX2_costAt_58 ?_
        refine vp_callSi (W.runV (As := [.int (jI (upzf ((x * 61) + y))), .int (jI (dnzg ((x * 61) + y)))]) (rest := []) ⟨hx, hb, hml, hown, hts⟩ (metX2_sum l dC dI d h b1 b2 b3 b4 b5 b6 L n wd wi wt upzf dnzg ch (upzf ((x * 61) + y)) (dnzg ((x * 61) + y)) (by omega) (by omega)) (cwV 2 hts (lw_V q227 q229 qs15 q21 q230) rfl rfl rfl (by decide +kernel) ⟨Nat.le_of_ble_eq_true rfl, Nat.le_of_ble_eq_true rfl⟩) ⟨zPp_bl, va_recv hK hP (ci := 1) (q0 := 0) rfl rfl, fun U hU hW => ⟨rfl, by rw [hU]; exact hP, va_K.moved hW.alike hK⟩⟩ rfl rfl hl.1 rfl (lv_room (Nat.le_of_ble_eq_true rfl)) dX2_costAt_59 ⟨Nat.le_of_ble_eq_true rfl, Nat.le_of_ble_eq_true rfl⟩) (fun r_ hr_ => ?_)
        obtain ⟨zs, rfl, hzs⟩ := hr_
        have hcs := Cat_sum hok (by omega) hU hDn hzs
        refine lv_istore_n (lv' := [(3, .int (jI zs)), (0, .ref h), (1, .int (jI x)), (2, .int (jI y))]) hx hb dX2_costAt_62 rfl hl (by decide) rfl (fun ls hl => ?_)
        refine lv_iload_n hx hb dX2_costAt_63 rfl (lv_at hl 0 rfl) ?_
        refine ji_ldc (z := 1000000) hx hb hown (hts _ q218) (by decide) dX2_costAt_64 ?_
        refine ji_icmp_ne (tgt := 74) hx hb dX2_costAt_66 (by decide) (by omega) (by omega) (fun cz => ?_) (fun cz => ?_)
        · refine lv_iload_n hx hb dX2_costAt_74 rfl (lv_at hl 0 rfl) ?_
          refine lv_aload_n hx hb dX2_costAt_75 rfl (lv_at hl 1 rfl) ?_
          refine lv_iload_n hx hb dX2_costAt_76 rfl (lv_at hl 2 rfl) ?_
          refine lv_iload_n hx hb dX2_costAt_77 rfl (lv_at hl 3 rfl) ?_
          have hc2 := hcs.2 cz
          refine vp_callSi (W.runV (As := [.int (jI x), .int (jI y)]) (rest := [.int (jI zs)]) ⟨hx, hb, hml, hown, hts⟩ (metX2_own l dC dI d h b1 b2 b3 b4 b5 b6 L n wd wi wt upzf dnzg ch x y hok (by omega) (by omega)) (cwV 2 hts (lw_V q223 q225 qs14 q21 q226) rfl rfl rfl (by decide +kernel) ⟨Nat.le_of_ble_eq_true rfl, Nat.le_of_ble_eq_true rfl⟩) ⟨zPp_bl, va_recv hK hP (ci := 1) (q0 := 0) rfl rfl, fun U hU hW => ⟨rfl, by rw [hU]; exact hP, va_K.moved hW.alike hK⟩⟩ rfl rfl hl.1 rfl (lv_room (Nat.le_of_ble_eq_true rfl)) dX2_costAt_78 ⟨Nat.le_of_ble_eq_true rfl, Nat.le_of_ble_eq_true rfl⟩) (fun r_ hr_ => ?_)
          obtain ⟨zo, rfl, hzo⟩ := hr_
          have ezo := (own_bd hok (by omega) hzo).2.2.2 hc2.1 hc2.2.1
          refine ji_sub hx hb dX2_costAt_81 ?_
          exact W.iret (v := jI (zs - zo)) hx hb hr (fun t_ ht_ hW_ => ⟨⟨_, (n, wd, wi, wt, upzf, dnzg, ch), rfl, ⟨zs - zo, rfl, ⟨_, _, _, rfl, Or.inr ⟨by omega, by omega, by first | exact hcs.1 cz | (rw [ezo.2]; exact hc2.2.2)⟩⟩⟩, by rw [ht_]; exact hP, va_K.moved hW_.alike hK, hD⟩, hS.F ht_⟩) hS.2.2 dX2_costAt_82
        · refine lv_bipush (v := jI (-6)) hx hb dX2_costAt_69 (by decide) ?_
          refine lv_goto (tgt := 82) hx hb dX2_costAt_71 (by decide) ?_
          exact W.iret (v := jI (-6)) hx hb hr (fun t_ ht_ hW_ => ⟨⟨_, (n, wd, wi, wt, upzf, dnzg, ch), rfl, ⟨(-6), rfl, ⟨_, _, _, rfl, Or.inr ⟨by omega, by omega, by first | exact hcs.1 cz | (rw [ezo.2]; exact hc2.2.2)⟩⟩⟩, by rw [ht_]; exact hP, va_K.moved hW_.alike hK, hD⟩, hS.F ht_⟩) hS.2.2 dX2_costAt_82
      · refine lv_bipush (v := jI (-6)) hx hb dX2_costAt_21 (by decide) ?_
        exact W.iret (v := jI (-6)) hx hb hr (fun t_ ht_ hW_ => ⟨⟨_, (n, wd, wi, wt, up, dn, ch), rfl, ⟨(-6), rfl, ⟨_, _, _, rfl, Or.inr ⟨by omega, by omega, Or.inl ⟨rfl, fun v hv => by obtain ⟨v1, v2, ⟨q0, v9, q1, q2, q3⟩, q4, q5⟩ := hv; have := hwd x (by omega) (by omega); omega⟩⟩⟩⟩, by rw [ht_]; exact hP, va_K.moved hW_.alike hK, hD⟩, hS.F ht_⟩) hS.2.2 dX2_costAt_23
  · refine lv_bipush (v := jI (-4)) hx hb dX2_costAt_8 (by decide) ?_
    exact W.iret (v := jI (-4)) hx hb hr (fun t_ ht_ hW_ => ⟨⟨_, (n, wd, wi, wt, up, dn, ch), rfl, ⟨(-4), rfl, ⟨_, _, _, rfl, Or.inl (by omega)⟩⟩, by rw [ht_]; exact hP, va_K.moved hW_.alike hK, hD⟩, hS.F ht_⟩) hS.2.2 dX2_costAt_10
end
section
set_option maxHeartbeats 4000000 in
set_option maxRecDepth 100000 in
theorem metX2_allContent (l : Launch) (dC : Nat → ClassId) (dI : Nat → Nat → Nat) (d : ClassId) (h b1 b2 b3 b4 b5 b6 : Nat) (L : Int) (n : Int) (wd : Int → Int) (wi : Int → Int) (wt : Int → Int) (up : Int → Int) (dn : Int → Int) (ch : Int → Int) (sv : Int) (hok : Ok L n wd wi wt) (hsv : 0 ≤ sv ∧ sv < 1024) : Met l yX2_allContent (ws_ yX2_allContent cX2_allContent 4 (some .boolean)) ({ frames := 0, cells := 0, slots := 0, locals := 0 }) (zPp dC dI (wM d h b1 b2 b3 b4 b5 b6 L n wd wi wt up dn ch) d [.ref h, .int (jI sv)]) (vp_Si (fun r => ∃ z : Int, r = jI z ∧ ((z = 1 ∧ ∃ e, Aci wd wi L sv n e) ∨ (z = 0 ∧ ∀ e, ¬ Aci wd wi L sv n e)))) 0 0 (fun _ => False) := by
  refine Met.ofW (cc := cX2_allContent) (maxL := 4) (ret := (some .boolean)) (by decide) rfl ?_
  intro p e s m args below meth c s₁ B hml hv
  obtain ⟨rfl, hP, hK⟩ := hv
  have hx := B.exec
  have hb := B.bytes
  have hr := B.returns
  have hts := atoms_spec (ws := (ws_ yX2_allContent cX2_allContent 4 (some .boolean))) B.pre
  have hts : ∀ w ∈ lw_all, w.before _ s = true := fun w h => hts w (List.mem_cons_of_mem _ h)
  have hown : s.vm.findClass RX2 = some m.cls := findClass_of_methodNamed B.named
  have hlocks := B.notSynchronized
  have hl := lv_entry ([.ref h, .int (jI sv)]) (n := 4) (Nat.le_of_ble_eq_true rfl)
  rw [lg_entry_eq]
  generalize (lg_sl ([.ref h, .int (jI sv)]) ++ List.replicate (4 - (lg_sl ([.ref h, .int (jI sv)])).length) Slot.unset).toArray = ls at hl ⊢
  have hl : lv_has ls 4 [(0, .ref h), (1, .int (jI sv))] := hl
  have hok2 := hok
  obtain ⟨hLn, hwd, hwi, hwt⟩ := hok2
  refine ji_const hx hb dX2_allContent_0 ?_
  refine lv_istore_n (lv' := [(2, .int (jI 0)), (0, .ref h), (1, .int (jI sv))]) hx hb dX2_allContent_1 rfl hl (by decide) rfl (fun ls hl => ?_)
  refine ji_const hx hb dX2_allContent_2 ?_
  refine lv_istore_n (lv' := [(3, .int (jI 0)), (2, .int (jI 0)), (0, .ref h), (1, .int (jI sv))]) hx hb dX2_allContent_3 rfl hl (by decide) rfl (fun ls hl => ?_)
  have lo : ∀ (n_ : Nat) (en : Int) (k : Int) (hk : 0 ≤ k ∧ k ≤ n) (hen : 0 ≤ en ∧ en ≤ 100) (hA : Aci wd wi L sv k en) (hm_ : (n - k).toNat < n_) (ls : Array Slot) (hl : lv_has ls 4 [(0, .ref h), (1, .int (jI sv)), (2, .int (jI en)), (3, .int (jI k))]), W p l e (headSpec (ws_ yX2_allContent cX2_allContent 4 (some .boolean)) ({ frames := 0, cells := 0, slots := 0, locals := 0 })).room s m ([.ref h, .int (jI sv)] : List Value).toArray below meth c s.heap [] 0 0 (MQ below (vp_Si (fun r => ∃ z : Int, r = jI z ∧ ((z = 1 ∧ ∃ e, Aci wd wi L sv n e) ∨ (z = 0 ∧ ∀ e, ¬ Aci wd wi L sv n e)))) ([.ref h, .int (jI sv)] : List Value).toArray s 0 0 (fun _ => False)) (F0 m 4 ls []) := by
    intro n_
    induction n_ with
    | zero => intro en k hk hen hA hm_; exact absurd hm_ (by omega)
    | succ n_ ih_lo =>
      intro en k hk hen hA hm_ ls hl
      refine lv_iload_n hx hb dX2_allContent_4 rfl (lv_at hl 3 rfl) ?_
      refine lv_aload_n hx hb dX2_allContent_5 rfl (lv_at hl 0 rfl) ?_
      refine va_get (D := (dC, dI)) (ci := 1) (v := .int (jI n)) (C := RX2) (T := TX2) (N := 8) hx hb hts in_X2 hown hK hP 0 rfl rfl 1 (by decide) (hts _ q150) (fun _ h9 => h9) rfl dX2_allContent_6 ?_
      refine ji_icmp_ge (tgt := 73) hx hb dX2_allContent_9 (by decide) (by omega) (by omega) (fun c_1 => ?_) (fun c_1 => ?_)
      · refine ji_const hx hb dX2_allContent_73 ?_
        exact W.zret (v := jI 1) hx hb hr rfl (fun t_ ht_ hW_ => ⟨_, rfl, ⟨1, rfl, Or.inl ⟨rfl, en, (show k = n by omega) ▸ hA⟩⟩, ht_⟩) (fun q hq => by cases hq) dX2_allContent_74
      · refine lv_iload_n hx hb dX2_allContent_12 rfl (lv_at hl 1 rfl) ?_
        refine lv_iload_n hx hb dX2_allContent_13 rfl (lv_at hl 3 rfl) ?_
        refine ji_shr hx hb dX2_allContent_14 (by omega) (by omega) ?_
        have hsh_2 := sh_bd k (show 0 ≤ sv by omega)
        refine ji_const hx hb dX2_allContent_15 ?_
        refine ji_and1 hx hb dX2_allContent_16 (by omega) ?_
        refine ji_const hx hb dX2_allContent_17 ?_
        refine ji_icmp_ne (tgt := 67) hx hb dX2_allContent_18 (by decide) (by omega) (by omega) (fun c_3 => ?_) (fun c_3 => ?_)
        · refine ji_iinc (v := k + 1) (lv' := [(3, .int (jI (k + 1))), (0, .ref h), (1, .int (jI sv)), (2, .int (jI en))]) hx hb dX2_allContent_67 hl (k := 3) rfl (by omega) (by decide) rfl (fun ls hl => ?_)
          refine lv_goto (tgt := 4) hx hb dX2_allContent_70 (by decide) ?_
          exact ih_lo en (k + 1) (by omega) (by omega) (by first | exact (Aci_s hk.1).mpr ⟨en, hA, Or.inl ⟨by omega, rfl⟩⟩ | exact (Aci_s hk.1).mpr ⟨en, hA, Or.inr ⟨by omega, by omega, by omega, rfl⟩⟩) (by omega) ls (lv_sub hl [1, 2, 3, 0] rfl)
        · refine lv_aload_n hx hb dX2_allContent_21 rfl (lv_at hl 0 rfl) ?_
          refine va_get (D := (dC, dI)) (ci := 1) (v := .ref b2) (C := RX2) (T := TX2) (N := 8) hx hb hts in_X2 hown hK hP 0 rfl rfl 3 (by decide) (hts _ q152) (fun _ h9 => h9) rfl dX2_allContent_22 ?_
          refine lv_iload_n hx hb dX2_allContent_25 rfl (lv_at hl 3 rfl) ?_
          refine ji_ld (f := wi) (n := 10) (cA := d) hx hb hK hP 2 0 rfl rfl (by omega) (by decide) dX2_allContent_26 ?_
          have f_4 := hwi k (by omega) (by omega)
          refine lv_iload_n hx hb dX2_allContent_27 rfl (lv_at hl 2 rfl) ?_
          refine ji_icmp_lt (tgt := 51) hx hb dX2_allContent_28 (by decide) (by omega) (by omega) (fun c_5 => ?_) (fun c_5 => ?_)
          · refine ji_const hx hb dX2_allContent_51 ?_
            exact W.zret (v := jI 0) hx hb hr rfl (fun t_ ht_ hW_ => ⟨_, rfl, ⟨0, rfl, Or.inr ⟨rfl, Aci_stuck (by omega) hA (by omega) (by omega)⟩⟩, ht_⟩) (fun q hq => by cases hq) dX2_allContent_52
          · refine lv_aload_n hx hb dX2_allContent_31 rfl (lv_at hl 0 rfl) ?_
            refine va_get (D := (dC, dI)) (ci := 1) (v := .ref b2) (C := RX2) (T := TX2) (N := 8) hx hb hts in_X2 hown hK hP 0 rfl rfl 3 (by decide) (hts _ q152) (fun _ h9 => h9) rfl dX2_allContent_32 ?_
            refine lv_iload_n hx hb dX2_allContent_35 rfl (lv_at hl 3 rfl) ?_
            refine ji_ld (f := wi) (n := 10) (cA := d) hx hb hK hP 2 0 rfl rfl (by omega) (by decide) dX2_allContent_36 ?_
            have f_6 := hwi k (by omega) (by omega)
            refine lv_aload_n hx hb dX2_allContent_37 rfl (lv_at hl 0 rfl) ?_
            refine va_get (D := (dC, dI)) (ci := 1) (v := .ref b1) (C := RX2) (T := TX2) (N := 8) hx hb hts in_X2 hown hK hP 0 rfl rfl 2 (by decide) (hts _ q151) (fun _ h9 => h9) rfl dX2_allContent_38 ?_
            refine lv_iload_n hx hb dX2_allContent_41 rfl (lv_at hl 3 rfl) ?_
            refine ji_ld (f := wd) (n := 10) (cA := d) hx hb hK hP 1 0 rfl rfl (by omega) (by decide) dX2_allContent_42 ?_
            have f_7 := hwd k (by omega) (by omega)
            refine ji_add hx hb dX2_allContent_43 ?_
            refine lv_aload_n hx hb dX2_allContent_44 rfl (lv_at hl 0 rfl) ?_
            refine va_get (D := (dC, dI)) (ci := 1) (v := .int (jI L)) (C := RX2) (T := TX2) (N := 8) hx hb hts in_X2 hown hK hP 0 rfl rfl 0 (by decide) (hts _ q149) (fun _ h9 => h9) rfl dX2_allContent_45 ?_
            refine ji_icmp_le (tgt := 53) hx hb dX2_allContent_48 (by decide) (by omega) (by omega) (fun c_8 => ?_) (fun c_8 => ?_)
            · refine lv_aload_n hx hb dX2_allContent_53 rfl (lv_at hl 0 rfl) ?_
              refine va_get (D := (dC, dI)) (ci := 1) (v := .ref b2) (C := RX2) (T := TX2) (N := 8) hx hb hts in_X2 hown hK hP 0 rfl rfl 3 (by decide) (hts _ q152) (fun _ h9 => h9) rfl dX2_allContent_54 ?_
              refine lv_iload_n hx hb dX2_allContent_57 rfl (lv_at hl 3 rfl) ?_
              refine ji_ld (f := wi) (n := 10) (cA := d) hx hb hK hP 2 0 rfl rfl (by omega) (by decide) dX2_allContent_58 ?_
              have f_9 := hwi k (by omega) (by omega)
              refine lv_aload_n hx hb dX2_allContent_59 rfl (lv_at hl 0 rfl) ?_
              refine va_get (D := (dC, dI)) (ci := 1) (v := .ref b1) (C := RX2) (T := TX2) (N := 8) hx hb hts in_X2 hown hK hP 0 rfl rfl 2 (by decide) (hts _ q151) (fun _ h9 => h9) rfl dX2_allContent_60 ?_
              refine lv_iload_n hx hb dX2_allContent_63 rfl (lv_at hl 3 rfl) ?_
              refine ji_ld (f := wd) (n := 10) (cA := d) hx hb hK hP 1 0 rfl rfl (by omega) (by decide) dX2_allContent_64 ?_
              have f_10 := hwd k (by omega) (by omega)
              refine ji_add hx hb dX2_allContent_65 ?_
              refine lv_istore_n (lv' := [(2, .int (jI ((wi k) + (wd k)))), (0, .ref h), (1, .int (jI sv)), (3, .int (jI k))]) hx hb dX2_allContent_66 rfl hl (by decide) rfl (fun ls hl => ?_)
              refine ji_iinc (v := k + 1) (lv' := [(3, .int (jI (k + 1))), (2, .int (jI ((wi k) + (wd k)))), (0, .ref h), (1, .int (jI sv))]) hx hb dX2_allContent_67 hl (k := 3) rfl (by omega) (by decide) rfl (fun ls hl => ?_)
              refine lv_goto (tgt := 4) hx hb dX2_allContent_70 (by decide) ?_
              exact ih_lo ((wi k) + (wd k)) (k + 1) (by omega) (by omega) (by first | exact (Aci_s hk.1).mpr ⟨en, hA, Or.inl ⟨by omega, rfl⟩⟩ | exact (Aci_s hk.1).mpr ⟨en, hA, Or.inr ⟨by omega, by omega, by omega, rfl⟩⟩) (by omega) ls (lv_sub hl [2, 3, 1, 0] rfl)
            · refine ji_const hx hb dX2_allContent_51 ?_
              exact W.zret (v := jI 0) hx hb hr rfl (fun t_ ht_ hW_ => ⟨_, rfl, ⟨0, rfl, Or.inr ⟨rfl, Aci_stuck (by omega) hA (by omega) (by omega)⟩⟩, ht_⟩) (fun q hq => by cases hq) dX2_allContent_52
  exact lo _ 0 0 (by omega) (by omega) (Aci_0.mpr rfl) (Nat.lt_succ_self _) ls (lv_sub hl [2, 3, 1, 0] rfl)
set_option maxHeartbeats 4000000 in
set_option maxRecDepth 100000 in
theorem metX2_content (l : Launch) (dC : Nat → ClassId) (dI : Nat → Nat → Nat) (d : ClassId) (h b1 b2 b3 b4 b5 b6 : Nat) (L : Int) (n : Int) (wd : Int → Int) (wi : Int → Int) (wt : Int → Int) (up : Int → Int) (dn : Int → Int) (ch : Int → Int) (hok : Ok L n wd wi wt) : Met l yX2_content (ws_ yX2_content cX2_content 5 (some .int)) ({ frames := 1, cells := 0, slots := 0, locals := 23 }) (zPp dC dI (wM d h b1 b2 b3 b4 b5 b6 L n wd wi wt up dn ch) d [.ref h]) (vp_Si (fun r => ∃ z : Int, r = jI z ∧ (Mx wd wi L n L z))) 0 0 (fun _ => False) := by
  refine Met.ofW (cc := cX2_content) (maxL := 5) (ret := (some .int)) (by decide) rfl ?_
  intro p e s m args below meth c s₁ B hml hv
  obtain ⟨rfl, hP, hK⟩ := hv
  have hx := B.exec
  have hb := B.bytes
  have hr := B.returns
  have hts := atoms_spec (ws := (ws_ yX2_content cX2_content 5 (some .int))) B.pre
  have hts : ∀ w ∈ lw_all, w.before _ s = true := fun w h => hts w (List.mem_cons_of_mem _ h)
  have hown : s.vm.findClass RX2 = some m.cls := findClass_of_methodNamed B.named
  have hlocks := B.notSynchronized
  have hl := lv_entry ([.ref h]) (n := 5) (Nat.le_of_ble_eq_true rfl)
  rw [lg_entry_eq]
  generalize (lg_sl ([.ref h]) ++ List.replicate (5 - (lg_sl ([.ref h])).length) Slot.unset).toArray = ls at hl ⊢
  have hl : lv_has ls 5 [(0, .ref h)] := hl
  have hok2 := hok
  obtain ⟨hLn, hwd, hwi, hwt⟩ := hok2
  have hpw := pw_bd (n := n) (by omega)
  refine ji_const hx hb dX2_content_0 ?_
  refine lv_istore_n (lv' := [(1, .int (jI 0)), (0, .ref h)]) hx hb dX2_content_1 rfl hl (by decide) rfl (fun ls hl => ?_)
  refine ji_const hx hb dX2_content_2 ?_
  refine lv_istore_n (lv' := [(2, .int (jI 0)), (1, .int (jI 0)), (0, .ref h)]) hx hb dX2_content_3 rfl hl (by decide) rfl (fun ls hl => ?_)
  have lo1 : ∀ (n_ : Nat) (mo : Int) (sv : Int) (hsv : 0 ≤ sv ∧ sv ≤ pw n) (hmo : CM wd wi L n sv mo) (hm_ : (pw n - sv).toNat < n_) (ls : Array Slot) (hl : lv_has ls 5 [(0, .ref h), (1, .int (jI mo)), (2, .int (jI sv))]), W p l e (headSpec (ws_ yX2_content cX2_content 5 (some .int)) ({ frames := 1, cells := 0, slots := 0, locals := 23 })).room s m ([.ref h] : List Value).toArray below meth c s.heap [] 0 0 (MQ below (vp_Si (fun r => ∃ z : Int, r = jI z ∧ (Mx wd wi L n L z))) ([.ref h] : List Value).toArray s 0 0 (fun _ => False)) (F0 m 4 ls []) := by
    intro n_
    induction n_ with
    | zero => intro mo sv hsv hmo hm_; exact absurd hm_ (by omega)
    | succ n_ ih_lo1 =>
      intro mo sv hsv hmo hm_ ls hl
      have hmo1 := hmo.1
      refine lv_iload_n hx hb dX2_content_4 rfl (lv_at hl 2 rfl) ?_
      refine ji_const hx hb dX2_content_5 ?_
      refine lv_aload_n hx hb dX2_content_6 rfl (lv_at hl 0 rfl) ?_
      refine va_get (D := (dC, dI)) (ci := 1) (v := .int (jI n)) (C := RX2) (T := TX2) (N := 8) hx hb hts in_X2 hown hK hP 0 rfl rfl 1 (by decide) (hts _ q150) (fun _ h9 => h9) rfl dX2_content_7 ?_
      refine ji_shl1 hx hb dX2_content_10 (by omega) ?_
      refine ji_icmp_ge (tgt := 64) hx hb dX2_content_11 (by decide) (by omega) (by omega) (fun c_1 => ?_) (fun c_1 => ?_)
      · refine lv_iload_n hx hb dX2_content_64 rfl (lv_at hl 1 rfl) ?_
        exact W.iret (v := jI mo) hx hb hr (fun t_ ht_ hW_ => ⟨_, rfl, ⟨mo, rfl, CM_end (by omega) (by omega) hwi ((show sv = pw n by omega) ▸ hmo)⟩, ht_⟩) (fun q hq => by cases hq) dX2_content_65
      · refine ji_const hx hb dX2_content_14 ?_
        refine lv_istore_n (lv' := [(3, .int (jI 0)), (0, .ref h), (1, .int (jI mo)), (2, .int (jI sv))]) hx hb dX2_content_15 rfl hl (by decide) rfl (fun ls hl => ?_)
        refine ji_const hx hb dX2_content_16 ?_
        refine lv_istore (lv' := [(4, .int (jI 0)), (3, .int (jI 0)), (0, .ref h), (1, .int (jI mo)), (2, .int (jI sv))]) hx hb dX2_content_17 hl (by decide) rfl (fun ls hl => ?_)
        have lo2 : ∀ (n_ : Nat) (ct : Int) (i : Int) (hi : 0 ≤ i ∧ i ≤ n) (hct : ct = pop sv i) (hct2 : 0 ≤ ct ∧ ct ≤ i) (hm_ : (n - i).toNat < n_) (ls : Array Slot) (hl : lv_has ls 5 [(0, .ref h), (1, .int (jI mo)), (2, .int (jI sv)), (3, .int (jI ct)), (4, .int (jI i))]), W p l e (headSpec (ws_ yX2_content cX2_content 5 (some .int)) ({ frames := 1, cells := 0, slots := 0, locals := 23 })).room s m ([.ref h] : List Value).toArray below meth c s.heap [] 0 0 (MQ below (vp_Si (fun r => ∃ z : Int, r = jI z ∧ (Mx wd wi L n L z))) ([.ref h] : List Value).toArray s 0 0 (fun _ => False)) (F0 m 19 ls []) := by
          intro n_
          induction n_ with
          | zero => intro ct i hi hct hct2 hm_; exact absurd hm_ (by omega)
          | succ n_ ih_lo2 =>
            intro ct i hi hct hct2 hm_ ls hl
            refine lv_iload hx hb dX2_content_19 (lv_at hl 4 rfl) ?_
            refine lv_aload_n hx hb dX2_content_21 rfl (lv_at hl 0 rfl) ?_
            refine va_get (D := (dC, dI)) (ci := 1) (v := .int (jI n)) (C := RX2) (T := TX2) (N := 8) hx hb hts in_X2 hown hK hP 0 rfl rfl 1 (by decide) (hts _ q150) (fun _ h9 => h9) rfl dX2_content_22 ?_
            refine ji_icmp_ge (tgt := 43) hx hb dX2_content_25 (by decide) (by omega) (by omega) (fun c_2 => ?_) (fun c_2 => ?_)
            · have mg : ∀ (mo2 : Int) (hmo2 : CM wd wi L n (sv + 1) mo2) (ls : Array Slot) (hl : lv_has ls 5 [(0, .ref h), (1, .int (jI mo2)), (2, .int (jI sv))]), W p l e (headSpec (ws_ yX2_content cX2_content 5 (some .int)) ({ frames := 1, cells := 0, slots := 0, locals := 23 })).room s m ([.ref h] : List Value).toArray below meth c s.heap [] 0 0 (MQ below (vp_Si (fun r => ∃ z : Int, r = jI z ∧ (Mx wd wi L n L z))) ([.ref h] : List Value).toArray s 0 0 (fun _ => False)) (F0 m 58 ls []) := by
                intro mo2 hmo2 ls hl
                refine ji_iinc (v := sv + 1) (lv' := [(2, .int (jI (sv + 1))), (0, .ref h), (1, .int (jI mo2))]) hx hb dX2_content_58 hl (k := 2) rfl (by omega) (by decide) rfl (fun ls hl => ?_)
                refine lv_goto (tgt := 4) hx hb dX2_content_61 (by decide) ?_
                exact ih_lo1 mo2 (sv + 1) (by omega) hmo2 (by omega) ls (lv_sub hl [1, 2, 0] rfl)
              have hcn : pop sv n = ct := by rw [hct, show i = n by omega]
              refine lv_iload_n hx hb dX2_content_43 rfl (lv_at hl 3 rfl) ?_
              refine lv_iload_n hx hb dX2_content_44 rfl (lv_at hl 1 rfl) ?_
              refine ji_icmp_le (tgt := 58) hx hb dX2_content_45 (by decide) (by omega) (by omega) (fun c_3 => ?_) (fun c_3 => ?_)
              · exact mg mo (CM_keep hmo (fun _ => by omega)) ls (lv_sub hl [0, 1, 2] rfl)
              · refine lv_aload_n hx hb dX2_content_48 rfl (lv_at hl 0 rfl) ?_
                refine lv_iload_n hx hb dX2_content_49 rfl (lv_at hl 2 rfl) ?_
                refine vp_callSi (W.runV (As := [.int (jI sv)]) (rest := []) ⟨hx, hb, hml, hown, hts⟩ (metX2_allContent l dC dI d h b1 b2 b3 b4 b5 b6 L n wd wi wt up dn ch sv hok (by omega)) (cwV 1 hts (lw_V q256 q258 qs18 q21 q259) rfl rfl rfl (by decide +kernel) ⟨Nat.le_of_ble_eq_true rfl, Nat.le_of_ble_eq_true rfl⟩) ⟨zPp_bl, va_recv hK hP (ci := 1) (q0 := 0) rfl rfl, fun U hU hW => ⟨rfl, by rw [hU]; exact hP, va_K.moved hW.alike hK⟩⟩ rfl rfl hl.1 rfl (lv_room (Nat.le_of_ble_eq_true rfl)) dX2_content_50 ⟨Nat.le_of_ble_eq_true rfl, Nat.le_of_ble_eq_true rfl⟩) (fun r_ hr_ => ?_)
                obtain ⟨za, rfl, hza⟩ := hr_
                refine ji_if_eq (tgt := 58) hx hb dX2_content_53 (by decide) (by omega) (fun c_4 => ?_) (fun c_4 => ?_)
                · exact mg mo (CM_keep hmo (fun q9 => hza.elim (fun q8 => absurd q8.1 (by omega)) (fun q8 => q9.elim (fun e q7 => absurd q7 (q8.2 e))))) ls (lv_sub hl [0, 1, 2] rfl)
                · refine lv_iload_n hx hb dX2_content_56 rfl (lv_at hl 3 rfl) ?_
                  refine lv_istore_n (lv' := [(1, .int (jI ct)), (0, .ref h), (2, .int (jI sv)), (3, .int (jI ct)), (4, .int (jI i))]) hx hb dX2_content_57 rfl hl (by decide) rfl (fun ls hl => ?_)
                  exact mg ct (CM_new hsv.1 hmo (by omega) (hza.elim (fun q8 => q8.2) (fun q8 => absurd q8.1 (by omega))) hcn (by omega)) ls (lv_sub hl [1, 0, 2] rfl)
            · refine lv_iload_n hx hb dX2_content_28 rfl (lv_at hl 3 rfl) ?_
              refine lv_iload_n hx hb dX2_content_29 rfl (lv_at hl 2 rfl) ?_
              refine lv_iload hx hb dX2_content_30 (lv_at hl 4 rfl) ?_
              refine ji_shr hx hb dX2_content_32 (by omega) (by omega) ?_
              have hsh_5 := sh_bd i (show 0 ≤ sv by omega)
              refine ji_const hx hb dX2_content_33 ?_
              refine ji_and1 hx hb dX2_content_34 (by omega) ?_
              refine ji_add hx hb dX2_content_35 ?_
              refine lv_istore_n (lv' := [(3, .int (jI (ct + ((sh sv i) % 2)))), (0, .ref h), (1, .int (jI mo)), (2, .int (jI sv)), (4, .int (jI i))]) hx hb dX2_content_36 rfl hl (by decide) rfl (fun ls hl => ?_)
              refine ji_iinc (v := i + 1) (lv' := [(4, .int (jI (i + 1))), (3, .int (jI (ct + ((sh sv i) % 2)))), (0, .ref h), (1, .int (jI mo)), (2, .int (jI sv))]) hx hb dX2_content_37 hl (k := 4) rfl (by omega) (by decide) rfl (fun ls hl => ?_)
              refine lv_goto (tgt := 19) hx hb dX2_content_40 (by decide) ?_
              exact ih_lo2 (ct + ((sh sv i) % 2)) (i + 1) (by omega) (by rw [pop_s hi.1, hct]) (by omega) (by omega) ls (lv_sub hl [2, 3, 4, 1, 0] rfl)
        exact lo2 _ 0 0 (by omega) rfl (by omega) (Nat.lt_succ_self _) ls (lv_sub hl [2, 3, 4, 1, 0] rfl)
  exact lo1 _ 0 0 (by omega) (CM_0 wd wi L n) (Nat.lt_succ_self _) ls (lv_sub hl [2, 1, 0] rfl)
end
section
/-- the row's length, out of any number -/
def cL (x : Int) : Int := if x < 10 then 10 else if 60 < x then 60 else x
set_option maxHeartbeats 4000000 in
set_option maxRecDepth 100000 in
theorem metX1_init (l : Launch) (dC : Nat → ClassId) (dI : Nat → Nat → Nat) (h : Nat) (sz : Nat) (x : Int) (hx1 : -2147483648 ≤ x ∧ x < 2147483648) : Met l yX1_init (ws_ yX1_init cX1_init 3 none) ({ frames := 1, cells := 5, slots := 104, locals := 12 }) (va_Pc [.ref h, .int (jI x)] (fun U => U.heap.size = sz ∧ va_P (dC, dI) vwCl [(h, .inr (0, [.int (jI 0), .int (jI 0), .null, .null, .null, .int (jI 0), .null, .null]))] U.heap ∧ va_K (dC, dI) vwCl [] U ∧ va_D (fun _ => True) [(h, .inr (0, [.int (jI 0), .int (jI 0), .null, .null, .null, .int (jI 0), .null, .null]))])) (va_Qv (fun (_ : ClassId × Nat × Nat × Nat × Nat × Nat) => True) (fun (u : ClassId × Nat × Nat × Nat × Nat × Nat) t => va_P (dC, dI) vwCl (wX u.1 h u.2.1 u.2.2.1 u.2.2.2.1 u.2.2.2.2.1 u.2.2.2.2.2 (cL x) 0 (fun _ => 0) (fun _ => 0) (fun _ => 0) 0 (fun _ => 0) (fun _ => 0)) t.heap ∧ va_K (dC, dI) vwCl [(u.1, .int)] t ∧ va_D (va_A [(h, .inr (0, [.int (jI 0), .int (jI 0), .null, .null, .null, .int (jI 0), .null, .null]))] sz) (wX u.1 h u.2.1 u.2.2.1 u.2.2.2.1 u.2.2.2.2.1 u.2.2.2.2.2 (cL x) 0 (fun _ => 0) (fun _ => 0) (fun _ => 0) 0 (fun _ => 0) (fun _ => 0))) (va_A [(h, .inr (0, [.int (jI 0), .int (jI 0), .null, .null, .null, .int (jI 0), .null, .null]))] sz)) 5 104 (va_A [(h, .inr (0, [.int (jI 0), .int (jI 0), .null, .null, .null, .int (jI 0), .null, .null]))] sz) := by
  refine Met.ofW (cc := cX1_init) (maxL := 3) (ret := none) (by decide) rfl ?_
  intro p e s m args below meth c s₁ B hml hv
  obtain ⟨rfl, hsz, hP, hK, hD0⟩ := hv
  have hx := B.exec
  have hb := B.bytes
  have hr := B.returns
  have hts := atoms_spec (ws := (ws_ yX1_init cX1_init 3 none)) B.pre
  have hts : ∀ w ∈ lw_all, w.before _ s = true := fun w h => hts w (List.mem_cons_of_mem _ h)
  have hown : s.vm.findClass RX1 = some m.cls := findClass_of_methodNamed B.named
  have hlocks := B.notSynchronized
  subst hsz
  have hD := hD0.self (sz := s.heap.size)
  generalize hAe : va_A [(h, .inr (0, [.int (jI 0), .int (jI 0), .null, .null, .null, .int (jI 0), .null, .null]))] s.heap.size = A at hD ⊢
  have hA : ∀ q : Nat, s.heap.size ≤ q → A q := fun q h => by rw [← hAe]; exact Or.inr h
  have hS : va_S A s.heap s.heap [] := va_S.rf
  have hl := lv_entry ([.ref h, .int (jI x)]) (n := 3) (Nat.le_of_ble_eq_true rfl)
  rw [lg_entry_eq]
  generalize (lg_sl ([.ref h, .int (jI x)]) ++ List.replicate (3 - (lg_sl ([.ref h, .int (jI x)])).length) Slot.unset).toArray = ls at hl ⊢
  have hl : lv_has ls 3 [(0, .ref h), (1, .int (jI x))] := hl
  have hin : meth.name = "<init>" := (name_of_methodNamed B.named B.method).1
  refine lv_aload_n hx hb dX1_init_0 rfl (lv_at hl 0 rfl) ?_
  refine W.objInit hx hb hown (hts _ q27) (hts _ q28) (hts _ q29) rfl (by rw [hml]; exact hl.1) rfl dX1_init_1 (Nat.le_of_ble_eq_true rfl) (Nat.le_of_ble_eq_true rfl) ?_
  refine W.eq (g2 := F0 m 4 ls []) rfl ?_
  refine lv_aload_n hx hb dX1_init_4 rfl (lv_at hl 0 rfl) ?_
  refine lv_bipush (v := jI 10) hx hb dX1_init_5 (by decide) ?_
  refine va_newa (atype := .int) (ty := .int) (N' := 10) (a0 := (10, .inl (aI (fun _ => 0)))) hx hb (hts _ q55) rfl hK hP hD hS hA (fun _ => rfl) (by decide) (by decide) (by decide) (Nat.le_of_ble_eq_true rfl) (Nat.le_of_ble_eq_true rfl) dX1_init_7 (fun a1 d H hK hP hD hS => ?_)
  have hK : va_K (dC, dI) vwCl [(d, .int)] s := hK
  have hP : va_P (dC, dI) vwCl [(h, .inr (0, [.int (jI 0), .int (jI 0), .null, .null, .null, .int (jI 0), .null, .null])), (a1, .inl (d, 10, .inl (aI (fun _ => 0))))] H := hP
  have hD : va_D A [(h, .inr (0, [.int (jI 0), .int (jI 0), .null, .null, .null, .int (jI 0), .null, .null])), (a1, .inl (d, 10, .inl (aI (fun _ => 0))))] := hD
  refine va_putF (D := (dC, dI)) (ci := 0) (v := .ref a1) (ty := .array .int) (C := RX1) (T := TX1) (N := 8) hx hb hts in_X1 tyX1 tyX1_ok nmX1 hown hK hP hD hS 0 rfl rfl 2 (by decide) (hts _ q32) (fun _ h9 => h9) rfl hin rfl (by decide +kernel) rfl rfl (Nat.le_of_ble_eq_true rfl) dX1_init_9 (fun H locs hP hD hS => ?_)
  have hP : va_P (dC, dI) vwCl [(h, .inr (0, [.int (jI 0), .int (jI 0), .ref a1, .null, .null, .int (jI 0), .null, .null])), (a1, .inl (d, 10, .inl (aI (fun _ => 0))))] H := hP
  have hD : va_D A [(h, .inr (0, [.int (jI 0), .int (jI 0), .ref a1, .null, .null, .int (jI 0), .null, .null])), (a1, .inl (d, 10, .inl (aI (fun _ => 0))))] := hD
  refine lv_aload_n hx hb dX1_init_12 rfl (lv_at hl 0 rfl) ?_
  refine lv_bipush (v := jI 10) hx hb dX1_init_13 (by decide) ?_
  refine va_newa (atype := .int) (ty := .int) (N' := 10) (a0 := (10, .inl (aI (fun _ => 0)))) hx hb (hts _ q55) rfl hK hP hD hS hA (fun _ => rfl) (by decide) (by decide) (by decide) (Nat.le_of_ble_eq_true rfl) (Nat.le_of_ble_eq_true rfl) dX1_init_15 (fun a2 d1 H hK hP hD hS => ?_)
  have ed1 : d = d1 := va_one (i := 0) (j := 1) hK hK rfl rfl
  subst ed1
  have hK : va_K (dC, dI) vwCl [(d, .int)] s := hK.sub [0] rfl
  have hP : va_P (dC, dI) vwCl [(h, .inr (0, [.int (jI 0), .int (jI 0), .ref a1, .null, .null, .int (jI 0), .null, .null])), (a1, .inl (d, 10, .inl (aI (fun _ => 0)))), (a2, .inl (d, 10, .inl (aI (fun _ => 0))))] H := hP
  have hD : va_D A [(h, .inr (0, [.int (jI 0), .int (jI 0), .ref a1, .null, .null, .int (jI 0), .null, .null])), (a1, .inl (d, 10, .inl (aI (fun _ => 0)))), (a2, .inl (d, 10, .inl (aI (fun _ => 0))))] := hD
  refine va_putF (D := (dC, dI)) (ci := 0) (v := .ref a2) (ty := .array .int) (C := RX1) (T := TX1) (N := 8) hx hb hts in_X1 tyX1 tyX1_ok nmX1 hown hK hP hD hS 0 rfl rfl 3 (by decide) (hts _ q33) (fun _ h9 => h9) rfl hin rfl (by decide +kernel) rfl rfl (Nat.le_of_ble_eq_true rfl) dX1_init_17 (fun H locs hP hD hS => ?_)
  have hP : va_P (dC, dI) vwCl [(h, .inr (0, [.int (jI 0), .int (jI 0), .ref a1, .ref a2, .null, .int (jI 0), .null, .null])), (a1, .inl (d, 10, .inl (aI (fun _ => 0)))), (a2, .inl (d, 10, .inl (aI (fun _ => 0))))] H := hP
  have hD : va_D A [(h, .inr (0, [.int (jI 0), .int (jI 0), .ref a1, .ref a2, .null, .int (jI 0), .null, .null])), (a1, .inl (d, 10, .inl (aI (fun _ => 0)))), (a2, .inl (d, 10, .inl (aI (fun _ => 0))))] := hD
  refine lv_aload_n hx hb dX1_init_20 rfl (lv_at hl 0 rfl) ?_
  refine lv_bipush (v := jI 10) hx hb dX1_init_21 (by decide) ?_
  refine va_newa (atype := .int) (ty := .int) (N' := 10) (a0 := (10, .inl (aI (fun _ => 0)))) hx hb (hts _ q55) rfl hK hP hD hS hA (fun _ => rfl) (by decide) (by decide) (by decide) (Nat.le_of_ble_eq_true rfl) (Nat.le_of_ble_eq_true rfl) dX1_init_23 (fun a3 d2 H hK hP hD hS => ?_)
  have ed2 : d = d2 := va_one (i := 0) (j := 1) hK hK rfl rfl
  subst ed2
  have hK : va_K (dC, dI) vwCl [(d, .int)] s := hK.sub [0] rfl
  have hP : va_P (dC, dI) vwCl [(h, .inr (0, [.int (jI 0), .int (jI 0), .ref a1, .ref a2, .null, .int (jI 0), .null, .null])), (a1, .inl (d, 10, .inl (aI (fun _ => 0)))), (a2, .inl (d, 10, .inl (aI (fun _ => 0)))), (a3, .inl (d, 10, .inl (aI (fun _ => 0))))] H := hP
  have hD : va_D A [(h, .inr (0, [.int (jI 0), .int (jI 0), .ref a1, .ref a2, .null, .int (jI 0), .null, .null])), (a1, .inl (d, 10, .inl (aI (fun _ => 0)))), (a2, .inl (d, 10, .inl (aI (fun _ => 0)))), (a3, .inl (d, 10, .inl (aI (fun _ => 0))))] := hD
  refine va_putF (D := (dC, dI)) (ci := 0) (v := .ref a3) (ty := .array .int) (C := RX1) (T := TX1) (N := 8) hx hb hts in_X1 tyX1 tyX1_ok nmX1 hown hK hP hD hS 0 rfl rfl 4 (by decide) (hts _ q34) (fun _ h9 => h9) rfl hin rfl (by decide +kernel) rfl rfl (Nat.le_of_ble_eq_true rfl) dX1_init_25 (fun H locs hP hD hS => ?_)
  have hP : va_P (dC, dI) vwCl [(h, .inr (0, [.int (jI 0), .int (jI 0), .ref a1, .ref a2, .ref a3, .int (jI 0), .null, .null])), (a1, .inl (d, 10, .inl (aI (fun _ => 0)))), (a2, .inl (d, 10, .inl (aI (fun _ => 0)))), (a3, .inl (d, 10, .inl (aI (fun _ => 0))))] H := hP
  have hD : va_D A [(h, .inr (0, [.int (jI 0), .int (jI 0), .ref a1, .ref a2, .ref a3, .int (jI 0), .null, .null])), (a1, .inl (d, 10, .inl (aI (fun _ => 0)))), (a2, .inl (d, 10, .inl (aI (fun _ => 0)))), (a3, .inl (d, 10, .inl (aI (fun _ => 0))))] := hD
  refine lv_aload_n hx hb dX1_init_28 rfl (lv_at hl 0 rfl) ?_
  refine lv_bipush (v := jI 64) hx hb dX1_init_29 (by decide) ?_
  refine va_newa (atype := .int) (ty := .int) (N' := 64) (a0 := (64, .inl (aI (fun _ => 0)))) hx hb (hts _ q55) rfl hK hP hD hS hA (fun _ => rfl) (by decide) (by decide) (by decide) (Nat.le_of_ble_eq_true rfl) (Nat.le_of_ble_eq_true rfl) dX1_init_31 (fun a4 d3 H hK hP hD hS => ?_)
  have ed3 : d = d3 := va_one (i := 0) (j := 1) hK hK rfl rfl
  subst ed3
  have hK : va_K (dC, dI) vwCl [(d, .int)] s := hK.sub [0] rfl
  have hP : va_P (dC, dI) vwCl [(h, .inr (0, [.int (jI 0), .int (jI 0), .ref a1, .ref a2, .ref a3, .int (jI 0), .null, .null])), (a1, .inl (d, 10, .inl (aI (fun _ => 0)))), (a2, .inl (d, 10, .inl (aI (fun _ => 0)))), (a3, .inl (d, 10, .inl (aI (fun _ => 0)))), (a4, .inl (d, 64, .inl (aI (fun _ => 0))))] H := hP
  have hD : va_D A [(h, .inr (0, [.int (jI 0), .int (jI 0), .ref a1, .ref a2, .ref a3, .int (jI 0), .null, .null])), (a1, .inl (d, 10, .inl (aI (fun _ => 0)))), (a2, .inl (d, 10, .inl (aI (fun _ => 0)))), (a3, .inl (d, 10, .inl (aI (fun _ => 0)))), (a4, .inl (d, 64, .inl (aI (fun _ => 0))))] := hD
  refine va_putF (D := (dC, dI)) (ci := 0) (v := .ref a4) (ty := .array .int) (C := RX1) (T := TX1) (N := 8) hx hb hts in_X1 tyX1 tyX1_ok nmX1 hown hK hP hD hS 0 rfl rfl 6 (by decide) (hts _ q36) (fun _ h9 => h9) rfl hin rfl (by decide +kernel) rfl rfl (Nat.le_of_ble_eq_true rfl) dX1_init_33 (fun H locs hP hD hS => ?_)
  have hP : va_P (dC, dI) vwCl [(h, .inr (0, [.int (jI 0), .int (jI 0), .ref a1, .ref a2, .ref a3, .int (jI 0), .ref a4, .null])), (a1, .inl (d, 10, .inl (aI (fun _ => 0)))), (a2, .inl (d, 10, .inl (aI (fun _ => 0)))), (a3, .inl (d, 10, .inl (aI (fun _ => 0)))), (a4, .inl (d, 64, .inl (aI (fun _ => 0))))] H := hP
  have hD : va_D A [(h, .inr (0, [.int (jI 0), .int (jI 0), .ref a1, .ref a2, .ref a3, .int (jI 0), .ref a4, .null])), (a1, .inl (d, 10, .inl (aI (fun _ => 0)))), (a2, .inl (d, 10, .inl (aI (fun _ => 0)))), (a3, .inl (d, 10, .inl (aI (fun _ => 0)))), (a4, .inl (d, 64, .inl (aI (fun _ => 0))))] := hD
  refine lv_aload_n hx hb dX1_init_36 rfl (lv_at hl 0 rfl) ?_
  refine lv_bipush (v := jI 10) hx hb dX1_init_37 (by decide) ?_
  refine va_newa (atype := .int) (ty := .int) (N' := 10) (a0 := (10, .inl (aI (fun _ => 0)))) hx hb (hts _ q55) rfl hK hP hD hS hA (fun _ => rfl) (by decide) (by decide) (by decide) (Nat.le_of_ble_eq_true rfl) (Nat.le_of_ble_eq_true rfl) dX1_init_39 (fun a5 d4 H hK hP hD hS => ?_)
  have ed4 : d = d4 := va_one (i := 0) (j := 1) hK hK rfl rfl
  subst ed4
  have hK : va_K (dC, dI) vwCl [(d, .int)] s := hK.sub [0] rfl
  have hP : va_P (dC, dI) vwCl [(h, .inr (0, [.int (jI 0), .int (jI 0), .ref a1, .ref a2, .ref a3, .int (jI 0), .ref a4, .null])), (a1, .inl (d, 10, .inl (aI (fun _ => 0)))), (a2, .inl (d, 10, .inl (aI (fun _ => 0)))), (a3, .inl (d, 10, .inl (aI (fun _ => 0)))), (a4, .inl (d, 64, .inl (aI (fun _ => 0)))), (a5, .inl (d, 10, .inl (aI (fun _ => 0))))] H := hP
  have hD : va_D A [(h, .inr (0, [.int (jI 0), .int (jI 0), .ref a1, .ref a2, .ref a3, .int (jI 0), .ref a4, .null])), (a1, .inl (d, 10, .inl (aI (fun _ => 0)))), (a2, .inl (d, 10, .inl (aI (fun _ => 0)))), (a3, .inl (d, 10, .inl (aI (fun _ => 0)))), (a4, .inl (d, 64, .inl (aI (fun _ => 0)))), (a5, .inl (d, 10, .inl (aI (fun _ => 0))))] := hD
  refine va_putF (D := (dC, dI)) (ci := 0) (v := .ref a5) (ty := .array .int) (C := RX1) (T := TX1) (N := 8) hx hb hts in_X1 tyX1 tyX1_ok nmX1 hown hK hP hD hS 0 rfl rfl 7 (by decide) (hts _ q37) (fun _ h9 => h9) rfl hin rfl (by decide +kernel) rfl rfl (Nat.le_of_ble_eq_true rfl) dX1_init_41 (fun H locs hP hD hS => ?_)
  have hP : va_P (dC, dI) vwCl [(h, .inr (0, [.int (jI 0), .int (jI 0), .ref a1, .ref a2, .ref a3, .int (jI 0), .ref a4, .ref a5])), (a1, .inl (d, 10, .inl (aI (fun _ => 0)))), (a2, .inl (d, 10, .inl (aI (fun _ => 0)))), (a3, .inl (d, 10, .inl (aI (fun _ => 0)))), (a4, .inl (d, 64, .inl (aI (fun _ => 0)))), (a5, .inl (d, 10, .inl (aI (fun _ => 0))))] H := hP
  have hD : va_D A [(h, .inr (0, [.int (jI 0), .int (jI 0), .ref a1, .ref a2, .ref a3, .int (jI 0), .ref a4, .ref a5])), (a1, .inl (d, 10, .inl (aI (fun _ => 0)))), (a2, .inl (d, 10, .inl (aI (fun _ => 0)))), (a3, .inl (d, 10, .inl (aI (fun _ => 0)))), (a4, .inl (d, 64, .inl (aI (fun _ => 0)))), (a5, .inl (d, 10, .inl (aI (fun _ => 0))))] := hD
  refine W.widen (k := 5) (n := 104) (by omega) (by omega) ?_
  refine lv_iload_n hx hb dX1_init_44 rfl (lv_at hl 1 rfl) ?_
  refine lv_istore_n (lv' := [(2, .int (jI x)), (0, .ref h), (1, .int (jI x))]) hx hb dX1_init_45 rfl hl (by decide) rfl (fun ls hl => ?_)
  have m2 : ∀ (w : Int) (hw : (x < 10 ∧ w = 10) ∨ (10 ≤ x ∧ x ≤ 60 ∧ w = x) ∨ (60 < x ∧ w = 60)) (H : Heap) (locs : List Loc) (hP : va_P (dC, dI) vwCl [(h, .inr (0, [.int (jI 0), .int (jI 0), .ref a1, .ref a2, .ref a3, .int (jI 0), .ref a4, .ref a5])), (a1, .inl (d, 10, .inl (aI (fun _ => 0)))), (a2, .inl (d, 10, .inl (aI (fun _ => 0)))), (a3, .inl (d, 10, .inl (aI (fun _ => 0)))), (a4, .inl (d, 64, .inl (aI (fun _ => 0)))), (a5, .inl (d, 10, .inl (aI (fun _ => 0))))] H) (hD : va_D A [(h, .inr (0, [.int (jI 0), .int (jI 0), .ref a1, .ref a2, .ref a3, .int (jI 0), .ref a4, .ref a5])), (a1, .inl (d, 10, .inl (aI (fun _ => 0)))), (a2, .inl (d, 10, .inl (aI (fun _ => 0)))), (a3, .inl (d, 10, .inl (aI (fun _ => 0)))), (a4, .inl (d, 64, .inl (aI (fun _ => 0)))), (a5, .inl (d, 10, .inl (aI (fun _ => 0))))]) (hS : va_S A s.heap H locs) (ls : Array Slot) (hl : lv_has ls 3 [(0, .ref h), (1, .int (jI x)), (2, .int (jI w))]), W p l e (headSpec (ws_ yX1_init cX1_init 3 none) ({ frames := 1, cells := 5, slots := 104, locals := 12 })).room s m ([.ref h, .int (jI x)] : List Value).toArray below meth c H locs 5 104 (MQ below (va_Qv (fun (_ : ClassId × Nat × Nat × Nat × Nat × Nat) => True) (fun (u : ClassId × Nat × Nat × Nat × Nat × Nat) t => va_P (dC, dI) vwCl (wX u.1 h u.2.1 u.2.2.1 u.2.2.2.1 u.2.2.2.2.1 u.2.2.2.2.2 (cL x) 0 (fun _ => 0) (fun _ => 0) (fun _ => 0) 0 (fun _ => 0) (fun _ => 0)) t.heap ∧ va_K (dC, dI) vwCl [(u.1, .int)] t ∧ va_D A (wX u.1 h u.2.1 u.2.2.1 u.2.2.2.1 u.2.2.2.2.1 u.2.2.2.2.2 (cL x) 0 (fun _ => 0) (fun _ => 0) (fun _ => 0) 0 (fun _ => 0) (fun _ => 0))) A) ([.ref h, .int (jI x)] : List Value).toArray s 5 104 A) (F0 m 64 ls []) := by
    intro w hw H locs hP hD hS ls hl
    refine lv_aload_n hx hb dX1_init_64 rfl (lv_at hl 0 rfl) ?_
    refine lv_iload_n hx hb dX1_init_65 rfl (lv_at hl 2 rfl) ?_
    refine va_putF (D := (dC, dI)) (ci := 0) (v := .int (jI w)) (ty := .int) (C := RX1) (T := TX1) (N := 8) hx hb hts in_X1 tyX1 tyX1_ok nmX1 hown hK hP hD hS 0 rfl rfl 0 (by decide) (hts _ q30) (fun _ h9 => h9) rfl hin rfl (by decide +kernel) rfl rfl (Nat.le_of_ble_eq_true rfl) dX1_init_66 (fun H locs hP hD hS => ?_)
    have hP : va_P (dC, dI) vwCl [(h, .inr (0, [.int (jI w), .int (jI 0), .ref a1, .ref a2, .ref a3, .int (jI 0), .ref a4, .ref a5])), (a1, .inl (d, 10, .inl (aI (fun _ => 0)))), (a2, .inl (d, 10, .inl (aI (fun _ => 0)))), (a3, .inl (d, 10, .inl (aI (fun _ => 0)))), (a4, .inl (d, 64, .inl (aI (fun _ => 0)))), (a5, .inl (d, 10, .inl (aI (fun _ => 0))))] H := hP
    have hD : va_D A [(h, .inr (0, [.int (jI w), .int (jI 0), .ref a1, .ref a2, .ref a3, .int (jI 0), .ref a4, .ref a5])), (a1, .inl (d, 10, .inl (aI (fun _ => 0)))), (a2, .inl (d, 10, .inl (aI (fun _ => 0)))), (a3, .inl (d, 10, .inl (aI (fun _ => 0)))), (a4, .inl (d, 64, .inl (aI (fun _ => 0)))), (a5, .inl (d, 10, .inl (aI (fun _ => 0))))] := hD
    have ew : w = cL x := by unfold cL; split <;> (try split) <;> omega
    subst ew
    exact W.vret hx hb hr (fun t_ ht_ hW_ => ⟨⟨(d, a1, a2, a3, a4, a5), rfl, trivial, by rw [ht_]; exact hP, va_K.moved hW_.alike hK, hD⟩, hS.F ht_⟩) hS.2.2 dX1_init_69
  have m1 : ∀ (v : Int) (hv : (x < 10 ∧ v = 10) ∨ (10 ≤ x ∧ v = x)) (H : Heap) (locs : List Loc) (hP : va_P (dC, dI) vwCl [(h, .inr (0, [.int (jI 0), .int (jI 0), .ref a1, .ref a2, .ref a3, .int (jI 0), .ref a4, .ref a5])), (a1, .inl (d, 10, .inl (aI (fun _ => 0)))), (a2, .inl (d, 10, .inl (aI (fun _ => 0)))), (a3, .inl (d, 10, .inl (aI (fun _ => 0)))), (a4, .inl (d, 64, .inl (aI (fun _ => 0)))), (a5, .inl (d, 10, .inl (aI (fun _ => 0))))] H) (hD : va_D A [(h, .inr (0, [.int (jI 0), .int (jI 0), .ref a1, .ref a2, .ref a3, .int (jI 0), .ref a4, .ref a5])), (a1, .inl (d, 10, .inl (aI (fun _ => 0)))), (a2, .inl (d, 10, .inl (aI (fun _ => 0)))), (a3, .inl (d, 10, .inl (aI (fun _ => 0)))), (a4, .inl (d, 64, .inl (aI (fun _ => 0)))), (a5, .inl (d, 10, .inl (aI (fun _ => 0))))]) (hS : va_S A s.heap H locs) (ls : Array Slot) (hl : lv_has ls 3 [(0, .ref h), (1, .int (jI x)), (2, .int (jI v))]), W p l e (headSpec (ws_ yX1_init cX1_init 3 none) ({ frames := 1, cells := 5, slots := 104, locals := 12 })).room s m ([.ref h, .int (jI x)] : List Value).toArray below meth c H locs 5 104 (MQ below (va_Qv (fun (_ : ClassId × Nat × Nat × Nat × Nat × Nat) => True) (fun (u : ClassId × Nat × Nat × Nat × Nat × Nat) t => va_P (dC, dI) vwCl (wX u.1 h u.2.1 u.2.2.1 u.2.2.2.1 u.2.2.2.2.1 u.2.2.2.2.2 (cL x) 0 (fun _ => 0) (fun _ => 0) (fun _ => 0) 0 (fun _ => 0) (fun _ => 0)) t.heap ∧ va_K (dC, dI) vwCl [(u.1, .int)] t ∧ va_D A (wX u.1 h u.2.1 u.2.2.1 u.2.2.2.1 u.2.2.2.2.1 u.2.2.2.2.2 (cL x) 0 (fun _ => 0) (fun _ => 0) (fun _ => 0) 0 (fun _ => 0) (fun _ => 0))) A) ([.ref h, .int (jI x)] : List Value).toArray s 5 104 A) (F0 m 55 ls []) := by
    intro v hv H locs hP hD hS ls hl
    refine lv_iload_n hx hb dX1_init_55 rfl (lv_at hl 2 rfl) ?_
    refine lv_bipush (v := jI 60) hx hb dX1_init_56 (by decide) ?_
    refine ji_icmp_le (tgt := 64) hx hb dX1_init_58 (by decide) (by omega) (by omega) (fun c_1 => ?_) (fun c_1 => ?_)
    · exact m2 v (by omega) _ _ hP hD hS ls (lv_sub hl [0, 1, 2] rfl)
    · refine lv_bipush (v := jI 60) hx hb dX1_init_61 (by decide) ?_
      refine lv_istore_n (lv' := [(2, .int (jI 60)), (0, .ref h), (1, .int (jI x))]) hx hb dX1_init_63 rfl hl (by decide) rfl (fun ls hl => ?_)
      exact m2 60 (by omega) _ _ hP hD hS ls (lv_sub hl [1, 2, 0] rfl)
  refine lv_iload_n hx hb dX1_init_46 rfl (lv_at hl 0 rfl) ?_
  refine lv_bipush (v := jI 10) hx hb dX1_init_47 (by decide) ?_
  refine ji_icmp_ge (tgt := 55) hx hb dX1_init_49 (by decide) (by omega) (by omega) (fun c_2 => ?_) (fun c_2 => ?_)
  · exact m1 x (by omega) _ _ hP hD hS ls (lv_sub hl [1, 2, 0] rfl)
  · refine lv_bipush (v := jI 10) hx hb dX1_init_52 (by decide) ?_
    refine lv_istore_n (lv' := [(2, .int (jI 10)), (0, .ref h), (1, .int (jI x))]) hx hb dX1_init_54 rfl hl (by decide) rfl (fun ls hl => ?_)
    exact m1 10 (by omega) _ _ hP hD hS ls (lv_sub hl [1, 2, 0] rfl)
set_option maxHeartbeats 4000000 in
set_option maxRecDepth 100000 in
theorem metX2_init (l : Launch) (dC : Nat → ClassId) (dI : Nat → Nat → Nat) (h : Nat) (sz : Nat) (x : Int) (hx1 : -2147483648 ≤ x ∧ x < 2147483648) : Met l yX2_init (ws_ yX2_init cX2_init 3 none) ({ frames := 1, cells := 6, slots := 1260, locals := 12 }) (va_Pc [.ref h, .int (jI x)] (fun U => U.heap.size = sz ∧ va_P (dC, dI) vwCl [(h, .inr (1, [.int (jI 0), .int (jI 0), .null, .null, .null, .null, .null, .null]))] U.heap ∧ va_K (dC, dI) vwCl [] U ∧ va_D (fun _ => True) [(h, .inr (1, [.int (jI 0), .int (jI 0), .null, .null, .null, .null, .null, .null]))])) (va_Qv (fun (_ : ClassId × Nat × Nat × Nat × Nat × Nat × Nat) => True) (fun (u : ClassId × Nat × Nat × Nat × Nat × Nat × Nat) t => va_P (dC, dI) vwCl (wM u.1 h u.2.1 u.2.2.1 u.2.2.2.1 u.2.2.2.2.1 u.2.2.2.2.2.1 u.2.2.2.2.2.2 (cL x) 0 (fun _ => 0) (fun _ => 0) (fun _ => 0) (fun _ => 0) (fun _ => 0) (fun _ => 0)) t.heap ∧ va_K (dC, dI) vwCl [(u.1, .int)] t ∧ va_D (va_A [(h, .inr (1, [.int (jI 0), .int (jI 0), .null, .null, .null, .null, .null, .null]))] sz) (wM u.1 h u.2.1 u.2.2.1 u.2.2.2.1 u.2.2.2.2.1 u.2.2.2.2.2.1 u.2.2.2.2.2.2 (cL x) 0 (fun _ => 0) (fun _ => 0) (fun _ => 0) (fun _ => 0) (fun _ => 0) (fun _ => 0))) (va_A [(h, .inr (1, [.int (jI 0), .int (jI 0), .null, .null, .null, .null, .null, .null]))] sz)) 6 1260 (va_A [(h, .inr (1, [.int (jI 0), .int (jI 0), .null, .null, .null, .null, .null, .null]))] sz) := by
  refine Met.ofW (cc := cX2_init) (maxL := 3) (ret := none) (by decide) rfl ?_
  intro p e s m args below meth c s₁ B hml hv
  obtain ⟨rfl, hsz, hP, hK, hD0⟩ := hv
  have hx := B.exec
  have hb := B.bytes
  have hr := B.returns
  have hts := atoms_spec (ws := (ws_ yX2_init cX2_init 3 none)) B.pre
  have hts : ∀ w ∈ lw_all, w.before _ s = true := fun w h => hts w (List.mem_cons_of_mem _ h)
  have hown : s.vm.findClass RX2 = some m.cls := findClass_of_methodNamed B.named
  have hlocks := B.notSynchronized
  subst hsz
  have hD := hD0.self (sz := s.heap.size)
  generalize hAe : va_A [(h, .inr (1, [.int (jI 0), .int (jI 0), .null, .null, .null, .null, .null, .null]))] s.heap.size = A at hD ⊢
  have hA : ∀ q : Nat, s.heap.size ≤ q → A q := fun q h => by rw [← hAe]; exact Or.inr h
  have hS : va_S A s.heap s.heap [] := va_S.rf
  have hl := lv_entry ([.ref h, .int (jI x)]) (n := 3) (Nat.le_of_ble_eq_true rfl)
  rw [lg_entry_eq]
  generalize (lg_sl ([.ref h, .int (jI x)]) ++ List.replicate (3 - (lg_sl ([.ref h, .int (jI x)])).length) Slot.unset).toArray = ls at hl ⊢
  have hl : lv_has ls 3 [(0, .ref h), (1, .int (jI x))] := hl
  have hin : meth.name = "<init>" := (name_of_methodNamed B.named B.method).1
  refine lv_aload_n hx hb dX2_init_0 rfl (lv_at hl 0 rfl) ?_
  refine W.objInit hx hb hown (hts _ q148) (hts _ q28) (hts _ q29) rfl (by rw [hml]; exact hl.1) rfl dX2_init_1 (Nat.le_of_ble_eq_true rfl) (Nat.le_of_ble_eq_true rfl) ?_
  refine W.eq (g2 := F0 m 4 ls []) rfl ?_
  refine lv_aload_n hx hb dX2_init_4 rfl (lv_at hl 0 rfl) ?_
  refine lv_bipush (v := jI 10) hx hb dX2_init_5 (by decide) ?_
  refine va_newa (atype := .int) (ty := .int) (N' := 10) (a0 := (10, .inl (aI (fun _ => 0)))) hx hb (hts _ q55) rfl hK hP hD hS hA (fun _ => rfl) (by decide) (by decide) (by decide) (Nat.le_of_ble_eq_true rfl) (Nat.le_of_ble_eq_true rfl) dX2_init_7 (fun b1 d H hK hP hD hS => ?_)
  have hK : va_K (dC, dI) vwCl [(d, .int)] s := hK
  have hP : va_P (dC, dI) vwCl [(h, .inr (1, [.int (jI 0), .int (jI 0), .null, .null, .null, .null, .null, .null])), (b1, .inl (d, 10, .inl (aI (fun _ => 0))))] H := hP
  have hD : va_D A [(h, .inr (1, [.int (jI 0), .int (jI 0), .null, .null, .null, .null, .null, .null])), (b1, .inl (d, 10, .inl (aI (fun _ => 0))))] := hD
  refine va_putF (D := (dC, dI)) (ci := 1) (v := .ref b1) (ty := .array .int) (C := RX2) (T := TX2) (N := 8) hx hb hts in_X2 tyX2 tyX2_ok nmX2 hown hK hP hD hS 0 rfl rfl 2 (by decide) (hts _ q151) (fun _ h9 => h9) rfl hin rfl (by decide +kernel) rfl rfl (Nat.le_of_ble_eq_true rfl) dX2_init_9 (fun H locs hP hD hS => ?_)
  have hP : va_P (dC, dI) vwCl [(h, .inr (1, [.int (jI 0), .int (jI 0), .ref b1, .null, .null, .null, .null, .null])), (b1, .inl (d, 10, .inl (aI (fun _ => 0))))] H := hP
  have hD : va_D A [(h, .inr (1, [.int (jI 0), .int (jI 0), .ref b1, .null, .null, .null, .null, .null])), (b1, .inl (d, 10, .inl (aI (fun _ => 0))))] := hD
  refine lv_aload_n hx hb dX2_init_12 rfl (lv_at hl 0 rfl) ?_
  refine lv_bipush (v := jI 10) hx hb dX2_init_13 (by decide) ?_
  refine va_newa (atype := .int) (ty := .int) (N' := 10) (a0 := (10, .inl (aI (fun _ => 0)))) hx hb (hts _ q55) rfl hK hP hD hS hA (fun _ => rfl) (by decide) (by decide) (by decide) (Nat.le_of_ble_eq_true rfl) (Nat.le_of_ble_eq_true rfl) dX2_init_15 (fun b2 d1 H hK hP hD hS => ?_)
  have ed1 : d = d1 := va_one (i := 0) (j := 1) hK hK rfl rfl
  subst ed1
  have hK : va_K (dC, dI) vwCl [(d, .int)] s := hK.sub [0] rfl
  have hP : va_P (dC, dI) vwCl [(h, .inr (1, [.int (jI 0), .int (jI 0), .ref b1, .null, .null, .null, .null, .null])), (b1, .inl (d, 10, .inl (aI (fun _ => 0)))), (b2, .inl (d, 10, .inl (aI (fun _ => 0))))] H := hP
  have hD : va_D A [(h, .inr (1, [.int (jI 0), .int (jI 0), .ref b1, .null, .null, .null, .null, .null])), (b1, .inl (d, 10, .inl (aI (fun _ => 0)))), (b2, .inl (d, 10, .inl (aI (fun _ => 0))))] := hD
  refine va_putF (D := (dC, dI)) (ci := 1) (v := .ref b2) (ty := .array .int) (C := RX2) (T := TX2) (N := 8) hx hb hts in_X2 tyX2 tyX2_ok nmX2 hown hK hP hD hS 0 rfl rfl 3 (by decide) (hts _ q152) (fun _ h9 => h9) rfl hin rfl (by decide +kernel) rfl rfl (Nat.le_of_ble_eq_true rfl) dX2_init_17 (fun H locs hP hD hS => ?_)
  have hP : va_P (dC, dI) vwCl [(h, .inr (1, [.int (jI 0), .int (jI 0), .ref b1, .ref b2, .null, .null, .null, .null])), (b1, .inl (d, 10, .inl (aI (fun _ => 0)))), (b2, .inl (d, 10, .inl (aI (fun _ => 0))))] H := hP
  have hD : va_D A [(h, .inr (1, [.int (jI 0), .int (jI 0), .ref b1, .ref b2, .null, .null, .null, .null])), (b1, .inl (d, 10, .inl (aI (fun _ => 0)))), (b2, .inl (d, 10, .inl (aI (fun _ => 0))))] := hD
  refine lv_aload_n hx hb dX2_init_20 rfl (lv_at hl 0 rfl) ?_
  refine lv_bipush (v := jI 10) hx hb dX2_init_21 (by decide) ?_
  refine va_newa (atype := .int) (ty := .int) (N' := 10) (a0 := (10, .inl (aI (fun _ => 0)))) hx hb (hts _ q55) rfl hK hP hD hS hA (fun _ => rfl) (by decide) (by decide) (by decide) (Nat.le_of_ble_eq_true rfl) (Nat.le_of_ble_eq_true rfl) dX2_init_23 (fun b3 d2 H hK hP hD hS => ?_)
  have ed2 : d = d2 := va_one (i := 0) (j := 1) hK hK rfl rfl
  subst ed2
  have hK : va_K (dC, dI) vwCl [(d, .int)] s := hK.sub [0] rfl
  have hP : va_P (dC, dI) vwCl [(h, .inr (1, [.int (jI 0), .int (jI 0), .ref b1, .ref b2, .null, .null, .null, .null])), (b1, .inl (d, 10, .inl (aI (fun _ => 0)))), (b2, .inl (d, 10, .inl (aI (fun _ => 0)))), (b3, .inl (d, 10, .inl (aI (fun _ => 0))))] H := hP
  have hD : va_D A [(h, .inr (1, [.int (jI 0), .int (jI 0), .ref b1, .ref b2, .null, .null, .null, .null])), (b1, .inl (d, 10, .inl (aI (fun _ => 0)))), (b2, .inl (d, 10, .inl (aI (fun _ => 0)))), (b3, .inl (d, 10, .inl (aI (fun _ => 0))))] := hD
  refine va_putF (D := (dC, dI)) (ci := 1) (v := .ref b3) (ty := .array .int) (C := RX2) (T := TX2) (N := 8) hx hb hts in_X2 tyX2 tyX2_ok nmX2 hown hK hP hD hS 0 rfl rfl 4 (by decide) (hts _ q153) (fun _ h9 => h9) rfl hin rfl (by decide +kernel) rfl rfl (Nat.le_of_ble_eq_true rfl) dX2_init_25 (fun H locs hP hD hS => ?_)
  have hP : va_P (dC, dI) vwCl [(h, .inr (1, [.int (jI 0), .int (jI 0), .ref b1, .ref b2, .ref b3, .null, .null, .null])), (b1, .inl (d, 10, .inl (aI (fun _ => 0)))), (b2, .inl (d, 10, .inl (aI (fun _ => 0)))), (b3, .inl (d, 10, .inl (aI (fun _ => 0))))] H := hP
  have hD : va_D A [(h, .inr (1, [.int (jI 0), .int (jI 0), .ref b1, .ref b2, .ref b3, .null, .null, .null])), (b1, .inl (d, 10, .inl (aI (fun _ => 0)))), (b2, .inl (d, 10, .inl (aI (fun _ => 0)))), (b3, .inl (d, 10, .inl (aI (fun _ => 0))))] := hD
  refine lv_aload_n hx hb dX2_init_28 rfl (lv_at hl 0 rfl) ?_
  refine lv_sipush (v := jI 610) hx hb dX2_init_29 (by decide) ?_
  refine va_newa (atype := .int) (ty := .int) (N' := 610) (a0 := (610, .inl (aI (fun _ => 0)))) hx hb (hts _ q55) rfl hK hP hD hS hA (fun _ => rfl) (by decide) (by decide) (by decide) (Nat.le_of_ble_eq_true rfl) (Nat.le_of_ble_eq_true rfl) dX2_init_32 (fun b4 d3 H hK hP hD hS => ?_)
  have ed3 : d = d3 := va_one (i := 0) (j := 1) hK hK rfl rfl
  subst ed3
  have hK : va_K (dC, dI) vwCl [(d, .int)] s := hK.sub [0] rfl
  have hP : va_P (dC, dI) vwCl [(h, .inr (1, [.int (jI 0), .int (jI 0), .ref b1, .ref b2, .ref b3, .null, .null, .null])), (b1, .inl (d, 10, .inl (aI (fun _ => 0)))), (b2, .inl (d, 10, .inl (aI (fun _ => 0)))), (b3, .inl (d, 10, .inl (aI (fun _ => 0)))), (b4, .inl (d, 610, .inl (aI (fun _ => 0))))] H := hP
  have hD : va_D A [(h, .inr (1, [.int (jI 0), .int (jI 0), .ref b1, .ref b2, .ref b3, .null, .null, .null])), (b1, .inl (d, 10, .inl (aI (fun _ => 0)))), (b2, .inl (d, 10, .inl (aI (fun _ => 0)))), (b3, .inl (d, 10, .inl (aI (fun _ => 0)))), (b4, .inl (d, 610, .inl (aI (fun _ => 0))))] := hD
  refine va_putF (D := (dC, dI)) (ci := 1) (v := .ref b4) (ty := .array .int) (C := RX2) (T := TX2) (N := 8) hx hb hts in_X2 tyX2 tyX2_ok nmX2 hown hK hP hD hS 0 rfl rfl 5 (by decide) (hts _ q154) (fun _ h9 => h9) rfl hin rfl (by decide +kernel) rfl rfl (Nat.le_of_ble_eq_true rfl) dX2_init_34 (fun H locs hP hD hS => ?_)
  have hP : va_P (dC, dI) vwCl [(h, .inr (1, [.int (jI 0), .int (jI 0), .ref b1, .ref b2, .ref b3, .ref b4, .null, .null])), (b1, .inl (d, 10, .inl (aI (fun _ => 0)))), (b2, .inl (d, 10, .inl (aI (fun _ => 0)))), (b3, .inl (d, 10, .inl (aI (fun _ => 0)))), (b4, .inl (d, 610, .inl (aI (fun _ => 0))))] H := hP
  have hD : va_D A [(h, .inr (1, [.int (jI 0), .int (jI 0), .ref b1, .ref b2, .ref b3, .ref b4, .null, .null])), (b1, .inl (d, 10, .inl (aI (fun _ => 0)))), (b2, .inl (d, 10, .inl (aI (fun _ => 0)))), (b3, .inl (d, 10, .inl (aI (fun _ => 0)))), (b4, .inl (d, 610, .inl (aI (fun _ => 0))))] := hD
  refine lv_aload_n hx hb dX2_init_37 rfl (lv_at hl 0 rfl) ?_
  refine lv_sipush (v := jI 610) hx hb dX2_init_38 (by decide) ?_
  refine va_newa (atype := .int) (ty := .int) (N' := 610) (a0 := (610, .inl (aI (fun _ => 0)))) hx hb (hts _ q55) rfl hK hP hD hS hA (fun _ => rfl) (by decide) (by decide) (by decide) (Nat.le_of_ble_eq_true rfl) (Nat.le_of_ble_eq_true rfl) dX2_init_41 (fun b5 d4 H hK hP hD hS => ?_)
  have ed4 : d = d4 := va_one (i := 0) (j := 1) hK hK rfl rfl
  subst ed4
  have hK : va_K (dC, dI) vwCl [(d, .int)] s := hK.sub [0] rfl
  have hP : va_P (dC, dI) vwCl [(h, .inr (1, [.int (jI 0), .int (jI 0), .ref b1, .ref b2, .ref b3, .ref b4, .null, .null])), (b1, .inl (d, 10, .inl (aI (fun _ => 0)))), (b2, .inl (d, 10, .inl (aI (fun _ => 0)))), (b3, .inl (d, 10, .inl (aI (fun _ => 0)))), (b4, .inl (d, 610, .inl (aI (fun _ => 0)))), (b5, .inl (d, 610, .inl (aI (fun _ => 0))))] H := hP
  have hD : va_D A [(h, .inr (1, [.int (jI 0), .int (jI 0), .ref b1, .ref b2, .ref b3, .ref b4, .null, .null])), (b1, .inl (d, 10, .inl (aI (fun _ => 0)))), (b2, .inl (d, 10, .inl (aI (fun _ => 0)))), (b3, .inl (d, 10, .inl (aI (fun _ => 0)))), (b4, .inl (d, 610, .inl (aI (fun _ => 0)))), (b5, .inl (d, 610, .inl (aI (fun _ => 0))))] := hD
  refine va_putF (D := (dC, dI)) (ci := 1) (v := .ref b5) (ty := .array .int) (C := RX2) (T := TX2) (N := 8) hx hb hts in_X2 tyX2 tyX2_ok nmX2 hown hK hP hD hS 0 rfl rfl 6 (by decide) (hts _ q155) (fun _ h9 => h9) rfl hin rfl (by decide +kernel) rfl rfl (Nat.le_of_ble_eq_true rfl) dX2_init_43 (fun H locs hP hD hS => ?_)
  have hP : va_P (dC, dI) vwCl [(h, .inr (1, [.int (jI 0), .int (jI 0), .ref b1, .ref b2, .ref b3, .ref b4, .ref b5, .null])), (b1, .inl (d, 10, .inl (aI (fun _ => 0)))), (b2, .inl (d, 10, .inl (aI (fun _ => 0)))), (b3, .inl (d, 10, .inl (aI (fun _ => 0)))), (b4, .inl (d, 610, .inl (aI (fun _ => 0)))), (b5, .inl (d, 610, .inl (aI (fun _ => 0))))] H := hP
  have hD : va_D A [(h, .inr (1, [.int (jI 0), .int (jI 0), .ref b1, .ref b2, .ref b3, .ref b4, .ref b5, .null])), (b1, .inl (d, 10, .inl (aI (fun _ => 0)))), (b2, .inl (d, 10, .inl (aI (fun _ => 0)))), (b3, .inl (d, 10, .inl (aI (fun _ => 0)))), (b4, .inl (d, 610, .inl (aI (fun _ => 0)))), (b5, .inl (d, 610, .inl (aI (fun _ => 0))))] := hD
  refine lv_aload_n hx hb dX2_init_46 rfl (lv_at hl 0 rfl) ?_
  refine lv_bipush (v := jI 10) hx hb dX2_init_47 (by decide) ?_
  refine va_newa (atype := .int) (ty := .int) (N' := 10) (a0 := (10, .inl (aI (fun _ => 0)))) hx hb (hts _ q55) rfl hK hP hD hS hA (fun _ => rfl) (by decide) (by decide) (by decide) (Nat.le_of_ble_eq_true rfl) (Nat.le_of_ble_eq_true rfl) dX2_init_49 (fun b6 d5 H hK hP hD hS => ?_)
  have ed5 : d = d5 := va_one (i := 0) (j := 1) hK hK rfl rfl
  subst ed5
  have hK : va_K (dC, dI) vwCl [(d, .int)] s := hK.sub [0] rfl
  have hP : va_P (dC, dI) vwCl [(h, .inr (1, [.int (jI 0), .int (jI 0), .ref b1, .ref b2, .ref b3, .ref b4, .ref b5, .null])), (b1, .inl (d, 10, .inl (aI (fun _ => 0)))), (b2, .inl (d, 10, .inl (aI (fun _ => 0)))), (b3, .inl (d, 10, .inl (aI (fun _ => 0)))), (b4, .inl (d, 610, .inl (aI (fun _ => 0)))), (b5, .inl (d, 610, .inl (aI (fun _ => 0)))), (b6, .inl (d, 10, .inl (aI (fun _ => 0))))] H := hP
  have hD : va_D A [(h, .inr (1, [.int (jI 0), .int (jI 0), .ref b1, .ref b2, .ref b3, .ref b4, .ref b5, .null])), (b1, .inl (d, 10, .inl (aI (fun _ => 0)))), (b2, .inl (d, 10, .inl (aI (fun _ => 0)))), (b3, .inl (d, 10, .inl (aI (fun _ => 0)))), (b4, .inl (d, 610, .inl (aI (fun _ => 0)))), (b5, .inl (d, 610, .inl (aI (fun _ => 0)))), (b6, .inl (d, 10, .inl (aI (fun _ => 0))))] := hD
  refine va_putF (D := (dC, dI)) (ci := 1) (v := .ref b6) (ty := .array .int) (C := RX2) (T := TX2) (N := 8) hx hb hts in_X2 tyX2 tyX2_ok nmX2 hown hK hP hD hS 0 rfl rfl 7 (by decide) (hts _ q156) (fun _ h9 => h9) rfl hin rfl (by decide +kernel) rfl rfl (Nat.le_of_ble_eq_true rfl) dX2_init_51 (fun H locs hP hD hS => ?_)
  have hP : va_P (dC, dI) vwCl [(h, .inr (1, [.int (jI 0), .int (jI 0), .ref b1, .ref b2, .ref b3, .ref b4, .ref b5, .ref b6])), (b1, .inl (d, 10, .inl (aI (fun _ => 0)))), (b2, .inl (d, 10, .inl (aI (fun _ => 0)))), (b3, .inl (d, 10, .inl (aI (fun _ => 0)))), (b4, .inl (d, 610, .inl (aI (fun _ => 0)))), (b5, .inl (d, 610, .inl (aI (fun _ => 0)))), (b6, .inl (d, 10, .inl (aI (fun _ => 0))))] H := hP
  have hD : va_D A [(h, .inr (1, [.int (jI 0), .int (jI 0), .ref b1, .ref b2, .ref b3, .ref b4, .ref b5, .ref b6])), (b1, .inl (d, 10, .inl (aI (fun _ => 0)))), (b2, .inl (d, 10, .inl (aI (fun _ => 0)))), (b3, .inl (d, 10, .inl (aI (fun _ => 0)))), (b4, .inl (d, 610, .inl (aI (fun _ => 0)))), (b5, .inl (d, 610, .inl (aI (fun _ => 0)))), (b6, .inl (d, 10, .inl (aI (fun _ => 0))))] := hD
  refine W.widen (k := 6) (n := 1260) (by omega) (by omega) ?_
  refine lv_iload_n hx hb dX2_init_54 rfl (lv_at hl 1 rfl) ?_
  refine lv_istore_n (lv' := [(2, .int (jI x)), (0, .ref h), (1, .int (jI x))]) hx hb dX2_init_55 rfl hl (by decide) rfl (fun ls hl => ?_)
  have m2 : ∀ (w : Int) (hw : (x < 10 ∧ w = 10) ∨ (10 ≤ x ∧ x ≤ 60 ∧ w = x) ∨ (60 < x ∧ w = 60)) (H : Heap) (locs : List Loc) (hP : va_P (dC, dI) vwCl [(h, .inr (1, [.int (jI 0), .int (jI 0), .ref b1, .ref b2, .ref b3, .ref b4, .ref b5, .ref b6])), (b1, .inl (d, 10, .inl (aI (fun _ => 0)))), (b2, .inl (d, 10, .inl (aI (fun _ => 0)))), (b3, .inl (d, 10, .inl (aI (fun _ => 0)))), (b4, .inl (d, 610, .inl (aI (fun _ => 0)))), (b5, .inl (d, 610, .inl (aI (fun _ => 0)))), (b6, .inl (d, 10, .inl (aI (fun _ => 0))))] H) (hD : va_D A [(h, .inr (1, [.int (jI 0), .int (jI 0), .ref b1, .ref b2, .ref b3, .ref b4, .ref b5, .ref b6])), (b1, .inl (d, 10, .inl (aI (fun _ => 0)))), (b2, .inl (d, 10, .inl (aI (fun _ => 0)))), (b3, .inl (d, 10, .inl (aI (fun _ => 0)))), (b4, .inl (d, 610, .inl (aI (fun _ => 0)))), (b5, .inl (d, 610, .inl (aI (fun _ => 0)))), (b6, .inl (d, 10, .inl (aI (fun _ => 0))))]) (hS : va_S A s.heap H locs) (ls : Array Slot) (hl : lv_has ls 3 [(0, .ref h), (1, .int (jI x)), (2, .int (jI w))]), W p l e (headSpec (ws_ yX2_init cX2_init 3 none) ({ frames := 1, cells := 6, slots := 1260, locals := 12 })).room s m ([.ref h, .int (jI x)] : List Value).toArray below meth c H locs 6 1260 (MQ below (va_Qv (fun (_ : ClassId × Nat × Nat × Nat × Nat × Nat × Nat) => True) (fun (u : ClassId × Nat × Nat × Nat × Nat × Nat × Nat) t => va_P (dC, dI) vwCl (wM u.1 h u.2.1 u.2.2.1 u.2.2.2.1 u.2.2.2.2.1 u.2.2.2.2.2.1 u.2.2.2.2.2.2 (cL x) 0 (fun _ => 0) (fun _ => 0) (fun _ => 0) (fun _ => 0) (fun _ => 0) (fun _ => 0)) t.heap ∧ va_K (dC, dI) vwCl [(u.1, .int)] t ∧ va_D A (wM u.1 h u.2.1 u.2.2.1 u.2.2.2.1 u.2.2.2.2.1 u.2.2.2.2.2.1 u.2.2.2.2.2.2 (cL x) 0 (fun _ => 0) (fun _ => 0) (fun _ => 0) (fun _ => 0) (fun _ => 0) (fun _ => 0))) A) ([.ref h, .int (jI x)] : List Value).toArray s 6 1260 A) (F0 m 74 ls []) := by
    intro w hw H locs hP hD hS ls hl
    refine lv_aload_n hx hb dX2_init_74 rfl (lv_at hl 0 rfl) ?_
    refine lv_iload_n hx hb dX2_init_75 rfl (lv_at hl 2 rfl) ?_
    refine va_putF (D := (dC, dI)) (ci := 1) (v := .int (jI w)) (ty := .int) (C := RX2) (T := TX2) (N := 8) hx hb hts in_X2 tyX2 tyX2_ok nmX2 hown hK hP hD hS 0 rfl rfl 0 (by decide) (hts _ q149) (fun _ h9 => h9) rfl hin rfl (by decide +kernel) rfl rfl (Nat.le_of_ble_eq_true rfl) dX2_init_76 (fun H locs hP hD hS => ?_)
    have hP : va_P (dC, dI) vwCl [(h, .inr (1, [.int (jI w), .int (jI 0), .ref b1, .ref b2, .ref b3, .ref b4, .ref b5, .ref b6])), (b1, .inl (d, 10, .inl (aI (fun _ => 0)))), (b2, .inl (d, 10, .inl (aI (fun _ => 0)))), (b3, .inl (d, 10, .inl (aI (fun _ => 0)))), (b4, .inl (d, 610, .inl (aI (fun _ => 0)))), (b5, .inl (d, 610, .inl (aI (fun _ => 0)))), (b6, .inl (d, 10, .inl (aI (fun _ => 0))))] H := hP
    have hD : va_D A [(h, .inr (1, [.int (jI w), .int (jI 0), .ref b1, .ref b2, .ref b3, .ref b4, .ref b5, .ref b6])), (b1, .inl (d, 10, .inl (aI (fun _ => 0)))), (b2, .inl (d, 10, .inl (aI (fun _ => 0)))), (b3, .inl (d, 10, .inl (aI (fun _ => 0)))), (b4, .inl (d, 610, .inl (aI (fun _ => 0)))), (b5, .inl (d, 610, .inl (aI (fun _ => 0)))), (b6, .inl (d, 10, .inl (aI (fun _ => 0))))] := hD
    have ew : w = cL x := by unfold cL; split <;> (try split) <;> omega
    subst ew
    exact W.vret hx hb hr (fun t_ ht_ hW_ => ⟨⟨(d, b1, b2, b3, b4, b5, b6), rfl, trivial, by rw [ht_]; exact hP, va_K.moved hW_.alike hK, hD⟩, hS.F ht_⟩) hS.2.2 dX2_init_79
  have m1 : ∀ (v : Int) (hv : (x < 10 ∧ v = 10) ∨ (10 ≤ x ∧ v = x)) (H : Heap) (locs : List Loc) (hP : va_P (dC, dI) vwCl [(h, .inr (1, [.int (jI 0), .int (jI 0), .ref b1, .ref b2, .ref b3, .ref b4, .ref b5, .ref b6])), (b1, .inl (d, 10, .inl (aI (fun _ => 0)))), (b2, .inl (d, 10, .inl (aI (fun _ => 0)))), (b3, .inl (d, 10, .inl (aI (fun _ => 0)))), (b4, .inl (d, 610, .inl (aI (fun _ => 0)))), (b5, .inl (d, 610, .inl (aI (fun _ => 0)))), (b6, .inl (d, 10, .inl (aI (fun _ => 0))))] H) (hD : va_D A [(h, .inr (1, [.int (jI 0), .int (jI 0), .ref b1, .ref b2, .ref b3, .ref b4, .ref b5, .ref b6])), (b1, .inl (d, 10, .inl (aI (fun _ => 0)))), (b2, .inl (d, 10, .inl (aI (fun _ => 0)))), (b3, .inl (d, 10, .inl (aI (fun _ => 0)))), (b4, .inl (d, 610, .inl (aI (fun _ => 0)))), (b5, .inl (d, 610, .inl (aI (fun _ => 0)))), (b6, .inl (d, 10, .inl (aI (fun _ => 0))))]) (hS : va_S A s.heap H locs) (ls : Array Slot) (hl : lv_has ls 3 [(0, .ref h), (1, .int (jI x)), (2, .int (jI v))]), W p l e (headSpec (ws_ yX2_init cX2_init 3 none) ({ frames := 1, cells := 6, slots := 1260, locals := 12 })).room s m ([.ref h, .int (jI x)] : List Value).toArray below meth c H locs 6 1260 (MQ below (va_Qv (fun (_ : ClassId × Nat × Nat × Nat × Nat × Nat × Nat) => True) (fun (u : ClassId × Nat × Nat × Nat × Nat × Nat × Nat) t => va_P (dC, dI) vwCl (wM u.1 h u.2.1 u.2.2.1 u.2.2.2.1 u.2.2.2.2.1 u.2.2.2.2.2.1 u.2.2.2.2.2.2 (cL x) 0 (fun _ => 0) (fun _ => 0) (fun _ => 0) (fun _ => 0) (fun _ => 0) (fun _ => 0)) t.heap ∧ va_K (dC, dI) vwCl [(u.1, .int)] t ∧ va_D A (wM u.1 h u.2.1 u.2.2.1 u.2.2.2.1 u.2.2.2.2.1 u.2.2.2.2.2.1 u.2.2.2.2.2.2 (cL x) 0 (fun _ => 0) (fun _ => 0) (fun _ => 0) (fun _ => 0) (fun _ => 0) (fun _ => 0))) A) ([.ref h, .int (jI x)] : List Value).toArray s 6 1260 A) (F0 m 65 ls []) := by
    intro v hv H locs hP hD hS ls hl
    refine lv_iload_n hx hb dX2_init_65 rfl (lv_at hl 2 rfl) ?_
    refine lv_bipush (v := jI 60) hx hb dX2_init_66 (by decide) ?_
    refine ji_icmp_le (tgt := 74) hx hb dX2_init_68 (by decide) (by omega) (by omega) (fun c_1 => ?_) (fun c_1 => ?_)
    · exact m2 v (by omega) _ _ hP hD hS ls (lv_sub hl [0, 1, 2] rfl)
    · refine lv_bipush (v := jI 60) hx hb dX2_init_71 (by decide) ?_
      refine lv_istore_n (lv' := [(2, .int (jI 60)), (0, .ref h), (1, .int (jI x))]) hx hb dX2_init_73 rfl hl (by decide) rfl (fun ls hl => ?_)
      exact m2 60 (by omega) _ _ hP hD hS ls (lv_sub hl [1, 2, 0] rfl)
  refine lv_iload_n hx hb dX2_init_56 rfl (lv_at hl 0 rfl) ?_
  refine lv_bipush (v := jI 10) hx hb dX2_init_57 (by decide) ?_
  refine ji_icmp_ge (tgt := 65) hx hb dX2_init_59 (by decide) (by omega) (by omega) (fun c_2 => ?_) (fun c_2 => ?_)
  · exact m1 x (by omega) _ _ hP hD hS ls (lv_sub hl [1, 2, 0] rfl)
  · refine lv_bipush (v := jI 10) hx hb dX2_init_62 (by decide) ?_
    refine lv_istore_n (lv' := [(2, .int (jI 10)), (0, .ref h), (1, .int (jI x))]) hx hb dX2_init_64 rfl hl (by decide) rfl (fun ls hl => ?_)
    exact m1 10 (by omega) _ _ hP hD hS ls (lv_sub hl [1, 2, 0] rfl)
end
section
/-! THE CLAIM OUT OF ONE WALK OF THE LAW'S BODY. Your part is whole_start (and what it stands on); all else here is the same for every law, but numbers. -/
def R_law : String := "RowLegaliserLaw"
def lw_P (b : Addr) (xs : List Int32) (args : Array Value) (s : State) : Prop := args = #[.ref b] ∧ s.IntsAt b xs ∧ xs.length ≤ 257 ∧ (Jvm.Cond.and given_1 narrow_1).before args s = true
def lw_Q (_ : Array Value) (s : State) (o : Outcome) (t : State) : Prop := o = .returned (some (.int 1)) ∧ Framed s o t [] 600000 7290000
def lw_Z (below : List Frame) (a : Array Value) (s : State) : State → Prop := fun t => ∃ o, t.status = .running ∧ Ended t below o ∧ lw_Q a s o t
/-- the law's own end, with 1 on the stack, nothing written that was there before, its room as the claim has it -/
theorem lw_ret {p : Program} {l : Launch} {e : Env} {s : State} {m : MethodId} {below : List Frame} {meth : Method} {c : Code} {b : Nat} (hx : p.tables.exec = Jvm.exec) (hb : c.code = code) (hr : meth.sig.returnType = ret) (hlocks : meth.locks = false) {pc : Nat} {H : Heap} {ls : Array Slot} (hdg : decode code pc = .ok (.ireturn, 1)) : W p l e room_1 s m #[Value.ref b] below meth c H [] 600000 7290000 (lw_Z below #[Value.ref b] s) (F0 m pc ls [.int 1]) := by
  intro T hT X
  obtain ⟨fs, hret, hrun, hended, hW, hframe⟩ := X.leave (v := some (.int 1)) (hlocks := hlocks) (fun h => by rw [hr] at h; cases h)
  have hmeth' : T.vm.method? m = some meth := X.method'
  refine ⟨T.setFrames fs, ?_, .returned (some (.int 1)), hrun, hended, rfl, ⟨_, rfl⟩, hW, hframe⟩
  jvm_step X.here [X.here.top, hx, hb, hdg, hmeth', hr, ret, narrow_b1]
  (try refine ⟨rfl, ?_⟩); (try refine ⟨rfl, ?_⟩)
  first | (intro acts; rw [hret _ acts rfl rfl rfl]) | rw [hret _ _ rfl rfl rfl]
  exact Steps.refl _
/-- what holds at the law's entry: the machine, the code, the tables' words (any of lw_tbl by 'hts w (by decide +kernel)'), the script of L ints xs at the cell b, what the Statement gives of the start (any of its parts by flat_of_before) -/
def lw_At (p : Program) (s : State) (m : MethodId) (meth : Method) (c : Code) (b L : Nat) (xs : Nat → Int32) : Prop :=
  p.tables.exec = Jvm.exec ∧ c.code = code ∧ meth.sig.returnType = ret ∧ c.maxLocals = 4 ∧ s.vm.findClass R_law = some m.cls ∧ (∀ w ∈ lw_tbl, w.before #[Value.ref b] s = true) ∧ va_X b L xs s s.heap ∧ b < s.heap.size ∧ meth.locks = false ∧ (Jvm.Cond.and given_1 narrow_1).before #[Value.ref b] s = true
end
section
/-! THE PLAIN LAW: both classes answer alike, and go on alike -/
theorem App_u {n x y w z z' n1 n2 : Int} {wd wi wt wd1 wi1 wt1 wd2 wi2 wt2 : Int → Int} (h1 : App n wd wi wt x y w z n1 wd1 wi1 wt1) (h2 : App n wd wi wt x y w z' n2 wd2 wi2 wt2) : z = z' ∧ n2 = n1 ∧ wd2 = wd1 ∧ wi2 = wi1 ∧ wt2 = wt1 := by
  rcases h1 with ⟨c1, e1, e2, e3, e4⟩ | ⟨c1, e1, e2, e3, e4⟩ <;> rcases h2 with ⟨c2, f1, f2, f3, f4⟩ | ⟨c2, f1, f2, f3, f4⟩ <;>
    first
    | (exfalso; omega)
    | exact ⟨by omega, by omega, by rw [e2, f2], by rw [e3, f3], by rw [e4, f4]⟩
theorem Mov_u {n x y z z' : Int} {wi wi1 wi2 : Int → Int} (h1 : Mov n wi x y z wi1) (h2 : Mov n wi x y z' wi2) : z = z' ∧ wi2 = wi1 := by
  rcases h1 with ⟨c1, e1⟩ | ⟨c1, e0, e1⟩ <;> rcases h2 with ⟨c2, f1⟩ | ⟨c2, f0, f1⟩ <;>
    first
    | (exfalso; omega)
    | exact ⟨by omega, by rw [e1, f1]⟩
theorem Rew_u {n x y z z' : Int} {wi wi1 wi2 : Int → Int} (h1 : Rew n wi x y z wi1) (h2 : Rew n wi x y z' wi2) : z = z' ∧ wi2 = wi1 := by
  rcases h1 with ⟨c1, e1⟩ | ⟨c1, e0, e1⟩ <;> rcases h2 with ⟨c2, f1⟩ | ⟨c2, f0, f1⟩ <;>
    first
    | (exfalso; omega)
    | exact ⟨by omega, by rw [e1, f1]⟩
theorem Drp_u {n z z' n1 n2 : Int} (h1 : Drp n z n1) (h2 : Drp n z' n2) : z = z' ∧ n2 = n1 := by
  unfold Drp at h1 h2
  omega
theorem Exc_u {n x z z' : Int} {wd wi wt wd1 wi1 wt1 wd2 wi2 wt2 : Int → Int} (h1 : Exc n wd wi wt x z wd1 wi1 wt1) (h2 : Exc n wd wi wt x z' wd2 wi2 wt2) : z = z' ∧ wd2 = wd1 ∧ wi2 = wi1 ∧ wt2 = wt1 := by
  rcases h1 with ⟨c1, e2, e3, e4⟩ | ⟨c1, e2, e3, e4⟩ <;> rcases h2 with ⟨c2, f2, f3, f4⟩ | ⟨c2, f2, f3, f4⟩ <;>
    first
    | (exfalso; omega)
    | exact ⟨by omega, by rw [e2, f2], by rw [e3, f3], by rw [e4, f4]⟩
theorem in_put {f : Int → Int} {n lo hi i x : Int} (h : ∀ j, 0 ≤ j → j < n → lo ≤ f j ∧ f j ≤ hi) (hx : lo ≤ x ∧ x ≤ hi) {n1 : Int} (hn : n1 ≤ n ∨ (n1 = n + 1 ∧ i = n)) : ∀ j, 0 ≤ j → j < n1 → lo ≤ uI f i x j ∧ uI f i x j ≤ hi := by
  intro j h1 h2
  by_cases q : j = i
  · rw [q, uI_s]; exact hx
  · rw [uI_n q]; exact h j h1 (by omega)
theorem Ok_app {L n x y w z n1 : Int} {wd wi wt wd1 wi1 wt1 : Int → Int} (hok : Ok L n wd wi wt) (h : App n wd wi wt x y w z n1 wd1 wi1 wt1) : Ok L n1 wd1 wi1 wt1 := by
  obtain ⟨h0, h1, h2, h3⟩ := hok
  rcases h with ⟨c1, e1, e2, e3, e4⟩ | ⟨c1, e1, e2, e3, e4⟩
  · rw [e1, e2, e3, e4]
    exact ⟨h0, h1, h2, h3⟩
  · rw [e2, e3, e4]
    exact ⟨by omega, in_put h1 (by omega) (by omega), in_put h2 (by omega) (by omega), in_put h3 (by omega) (by omega)⟩
theorem Ok_mov {L n x y z : Int} {wd wi wt wi1 : Int → Int} (hok : Ok L n wd wi wt) (h : Mov n wi x y z wi1) : Ok L n wd wi1 wt := by
  obtain ⟨h0, h1, h2, h3⟩ := hok
  rcases h with ⟨c1, e1⟩ | ⟨c1, e0, e1⟩
  · rw [e1]; exact ⟨h0, h1, h2, h3⟩
  · rw [e1]; exact ⟨h0, h1, in_put h2 (by omega) (by omega), h3⟩
theorem Ok_rew {L n x y z : Int} {wd wi wt wt1 : Int → Int} (hok : Ok L n wd wi wt) (h : Rew n wt x y z wt1) : Ok L n wd wi wt1 := by
  obtain ⟨h0, h1, h2, h3⟩ := hok
  rcases h with ⟨c1, e1⟩ | ⟨c1, e0, e1⟩
  · rw [e1]; exact ⟨h0, h1, h2, h3⟩
  · rw [e1]; exact ⟨h0, h1, h2, in_put h3 (by omega) (by omega)⟩
theorem Ok_drp {L n z n1 : Int} {wd wi wt : Int → Int} (hok : Ok L n wd wi wt) (h : Drp n z n1) : Ok L n1 wd wi wt := by
  obtain ⟨h0, h1, h2, h3⟩ := hok
  unfold Drp at h
  exact ⟨by omega, fun j a b => h1 j a (by omega), fun j a b => h2 j a (by omega), fun j a b => h3 j a (by omega)⟩
theorem Ok_exc {L n x z : Int} {wd wi wt wd1 wi1 wt1 : Int → Int} (hok : Ok L n wd wi wt) (h : Exc n wd wi wt x z wd1 wi1 wt1) : Ok L n wd1 wi1 wt1 := by
  obtain ⟨h0, h1, h2, h3⟩ := hok
  rcases h with ⟨c1, e2, e3, e4⟩ | ⟨c1, e2, e3, e4⟩
  · rw [e2, e3, e4]; exact ⟨h0, h1, h2, h3⟩
  · rw [e2, e3, e4]
    refine ⟨h0, ?_, ?_, ?_⟩
    · exact in_put (in_put h1 (h1 (x + 1) (by omega) (by omega)) (Or.inl (Int.le_refl n))) (h1 x (by omega) (by omega)) (Or.inl (Int.le_refl n))
    · exact in_put (in_put h2 (h2 (x + 1) (by omega) (by omega)) (Or.inl (Int.le_refl n))) (h2 x (by omega) (by omega)) (Or.inl (Int.le_refl n))
    · exact in_put (in_put h3 (h3 (x + 1) (by omega) (by omega)) (Or.inl (Int.le_refl n))) (h3 x (by omega) (by omega)) (Or.inl (Int.le_refl n))
theorem Ok_new {x : Int} : Ok (cL x) 0 (fun _ => 0) (fun _ => 0) (fun _ => 0) := by
  refine ⟨?_, fun j a b => by omega, fun j a b => by omega, fun j a b => by omega⟩
  unfold cL
  split
  · omega
  · split <;> omega
theorem Mx_u {wd wi : Int → Int} {L k e a b : Int} (h1 : Mx wd wi L k e a) (h2 : Mx wd wi L k e b) : a = b := by
  have e1 := h1.2 _ h2.1
  have e2 := h2.2 _ h1.1
  omega
theorem Lm_u {wd wi wt : Int → Int} {c rt a b : Int} (h1 : Lm wd wi wt c rt a) (h2 : Lm wd wi wt c rt b) : a = b := by
  obtain ⟨a0, u, a1, a2, a3⟩ := h1
  obtain ⟨b0, v, b1, b2, b3⟩ := h2
  have e : u = v := by
    have := a1.2 _ b1.1
    have := b1.2 _ a1.1
    omega
  subst e
  rcases Int.lt_trichotomy a b with q | q | q
  · exact absurd a2 (b3 a a0 q)
  · exact q
  · exact absurd b2 (a3 b b0 q)
theorem Plc_u {wd wi wt : Int → Int} {n L x : Int} {q q' : Int → Int} (h1 : Plc wd wi wt n L x q) (h2 : Plc wd wi wt n L x q') : ∀ k : Nat, x ≤ n - 1 - k → q (n - 1 - k) = q' (n - 1 - k)
  | 0, h => by
    have a1 := h1 (n - 1 - (0 : Nat)) h (by omega)
    have a2 := h2 (n - 1 - (0 : Nat)) h (by omega)
    have e : nx n L q (n - 1 - (0 : Nat)) = nx n L q' (n - 1 - (0 : Nat)) := by
      unfold nx
      rw [if_pos (by omega), if_pos (by omega)]
    rw [e] at a1
    exact Lm_u a1 a2
  | k + 1, h => by
    have ih := Plc_u h1 h2 k (by omega)
    have a1 := h1 (n - 1 - (k + 1 : Nat)) h (by omega)
    have a2 := h2 (n - 1 - (k + 1 : Nat)) h (by omega)
    have e : nx n L q (n - 1 - (k + 1 : Nat)) = nx n L q' (n - 1 - (k + 1 : Nat)) := by
      unfold nx
      rw [if_neg (by omega), if_neg (by omega), show n - 1 - ((k + 1 : Nat) : Int) + 1 = n - 1 - k by omega]
      exact ih
    rw [e] at a1
    exact Lm_u a1 a2
theorem Lmo_u {wd wi wt : Int → Int} {n L x a b : Int} (hx : 0 ≤ x ∧ x < n) (h1 : Lmo wd wi wt n L x a) (h2 : Lmo wd wi wt n L x b) : a = b := by
  rcases h1 with ⟨n1, e1⟩ | ⟨⟨v1, f1⟩, q1, p1, e1⟩ <;> rcases h2 with ⟨n2, e2⟩ | ⟨⟨v2, f2⟩, q2, p2, e2⟩
  · omega
  · exact absurd f2 (n1 _)
  · exact absurd f1 (n2 _)
  · have := Plc_u p1 p2 (n - 1 - x).toNat (by omega)
    rw [show n - 1 - ((n - 1 - x).toNat : Int) = x by omega] at this
    omega
/-- an answer: -4 out of range, else as P says, which says one thing -/
theorem two_u {A B : Prop} {P : Int → Prop} {a b : Int} (hu : ∀ a b, P a → P b → a = b) (hAB : A → ¬ B) (h1 : (A ∧ a = -4) ∨ (B ∧ P a)) (h2 : (A ∧ b = -4) ∨ (B ∧ P b)) : a = b := by
  rcases h1 with ⟨a1, e1⟩ | ⟨b1, p1⟩ <;> rcases h2 with ⟨a2, e2⟩ | ⟨b2, p2⟩
  · omega
  · exact absurd b2 (hAB a1)
  · exact absurd b1 (hAB a2)
  · exact hu a b p1 p2
theorem and3 {A B C D : Prop} {P : Int → Prop} {a : Int} (h : (A ∧ D) ∨ (B ∧ C ∧ P a)) : (A ∧ D) ∨ ((B ∧ C) ∧ P a) := by
  rcases h with h | h
  · exact Or.inl h
  · exact Or.inr ⟨⟨h.1, h.2.1⟩, h.2.2⟩
/-! the script -/
def sI (xs : Nat → Int32) (i : Int) : Int := (xs i.toNat).toInt
section JI4
variable {p : Program} {l : Launch} {e : Env} {R : Room} {s : State} {m : MethodId} {args : Array Value} {below : List Frame} {meth : Method} {c : Code} {H : Heap} {locs : List Loc} {cells slots : Nat} {Q : State → Prop}
variable {cc : ByteArray} {pc : Nat} {ls : Array Slot} {rest : List Value} {A : Nat → Prop} {H0 : Heap}
theorem ji_sld (hexec : p.tables.exec = Jvm.exec) (hb : c.code = cc) {b L : Nat} {xs : Nat → Int32} (hX : va_X b L xs s H0) (hbl : b < H0.size) (hbA : ¬ A b) (hS : va_S A H0 H locs) {i : Int} (hi : 0 ≤ i ∧ i < (L : Int)) (hL : L ≤ 257) (hdg : decode cc pc = .ok (.iaload, 1)) (kk : W p l e R s m args below meth c H locs cells slots Q (F0 m (pc + 1) ls (.int (jI (sI xs i)) :: rest))) : W p l e R s m args below meth c H locs cells slots Q (F0 m pc ls (.int (jI i) :: .ref b :: rest)) := by
  refine va_sld hexec hb hX hbl hbA hS (jI_in hi (by omega)) hdg ?_
  rw [jI_clamp (by omega), show xs i.toNat = jI (sI xs i) from (jI_of _).symm]
  exact kk
theorem ji_slen (hexec : p.tables.exec = Jvm.exec) (hb : c.code = cc) {b L : Nat} {xs : Nat → Int32} (hX : va_X b L xs s H0) (hbl : b < H0.size) (hbA : ¬ A b) (hS : va_S A H0 H locs) (hL : L ≤ 257) (hdg : decode cc pc = .ok (.arraylength, 1)) (kk : W p l e R s m args below meth c H locs cells slots Q (F0 m (pc + 1) ls (.int (jI (L : Int)) :: rest))) : W p l e R s m args below meth c H locs cells slots Q (F0 m pc ls (.ref b :: rest)) := by
  refine va_slen hexec hb hX hbl hbA hS hdg ?_
  rw [show Int32.ofNat L = jI (L : Int) by rw [jI_nI (by omega)]; rfl]
  exact kk
end JI4
/-- what the law reads off the script first -/
def c0 (L : Nat) (xs : Nat → Int32) : Int := if 0 < L then sI xs 0 else 0
theorem c0_rng (L : Nat) (xs : Nat → Int32) : -2147483648 ≤ c0 L xs ∧ c0 L xs < 2147483648 := by
  unfold c0
  split
  · exact jI_rng _
  · omega
set_option maxHeartbeats 4000000 in
set_option maxRecDepth 100000 in
theorem metX0_cell (l : Launch) (b L : Nat) (xs : Nat → Int32) (hL : L ≤ 257) : Met l yX0_cell (ws_ yX0_cell cX0_cell 2 (some .int)) ({ frames := 0, cells := 0, slots := 0, locals := 0 }) (va_Pc [.ref b, .int (jI 0)] (fun U => va_X b L xs U U.heap)) (vp_Si (fun r => r = jI (c0 L xs))) 0 0 (fun _ => False) := by
  refine Met.ofW (cc := cX0_cell) (maxL := 2) (ret := (some .int)) (by decide) rfl ?_
  intro p e s m args below meth c s₁ B hml hv
  obtain ⟨rfl, hX⟩ := hv
  have hx := B.exec
  have hb := B.bytes
  have hr := B.returns
  have hlocks := B.notSynchronized
  have hS : va_S (fun _ => False) s.heap s.heap [] := va_S.rf
  have hbl : b < s.heap.size := by
    obtain ⟨scr, h1, -⟩ := hX
    exact (Array.getElem?_eq_some_iff.mp h1).1
  have hl := lv_entry ([.ref b, .int (jI 0)]) (n := 2) (Nat.le_of_ble_eq_true rfl)
  rw [lg_entry_eq]
  generalize (lg_sl ([.ref b, .int (jI 0)]) ++ List.replicate (2 - (lg_sl ([.ref b, .int (jI 0)])).length) Slot.unset).toArray = ls at hl ⊢
  have hl : lv_has ls 2 [(0, .ref b), (1, .int (jI 0))] := hl
  refine lv_iload_n hx hb dX0_cell_0 rfl (lv_at hl 1 rfl) ?_
  refine lv_aload_n hx hb dX0_cell_1 rfl (lv_at hl 0 rfl) ?_
  refine ji_slen hx hb hX hbl (fun h => h) hS hL dX0_cell_2 ?_
  refine ji_icmp_ge (tgt := 12) hx hb dX0_cell_3 (by decide) (by omega) (by omega) (fun c_1 => ?_) (fun c_1 => ?_)
  · refine ji_const hx hb dX0_cell_12 ?_
    exact W.iret (v := jI 0) hx hb hr (fun t_ ht_ hW_ => ⟨_, rfl, by unfold c0; rw [if_neg (by omega)], ht_⟩) (fun q hq => by cases hq) dX0_cell_13
  · refine lv_aload_n hx hb dX0_cell_6 rfl (lv_at hl 0 rfl) ?_
    refine lv_iload_n hx hb dX0_cell_7 rfl (lv_at hl 1 rfl) ?_
    refine ji_sld hx hb hX hbl (fun h => h) hS (by omega) hL dX0_cell_8 ?_
    refine lv_goto (tgt := 13) hx hb dX0_cell_9 (by decide) ?_
    exact W.iret (v := jI (sI xs 0)) hx hb hr (fun t_ ht_ hW_ => ⟨_, rfl, by unfold c0; rw [if_pos (by omega)], ht_⟩) (fun q hq => by cases hq) dX0_cell_13
end
section
set_option maxHeartbeats 16000000 in
set_option maxRecDepth 100000 in
/-- the law's loop at its head: both objects hold the same row -/
theorem law_loop {p : Program} {l : Launch} {e : Env} {s : State} {m : MethodId} {below : List Frame} {meth : Method} {c : Code} {dC : Nat → ClassId} {dI : Nat → Nat → Nat} {d : ClassId} {qx a1 a2 a3 a4 a5 qm b1 b2 b3 b4 b5 b6 : Nat} {Lr : Int} {b L : Nat} {xs : Nat → Int32} (hL : L ≤ 257) (C0 : lw_At p s m meth c b L xs) (hK : va_K (dC, dI) vwCl [(d, .int)] s) :
  ∀ (n_ : Nat) (i : Int) (hi : 1 ≤ i ∧ i ≤ 300) (hm_ : (300 - i).toNat < n_) (n : Int) (wd wi wt : Int → Int) (hok : Ok Lr n wd wi wt) (pts : Int) (pt pl up dn ch : Int → Int) (H : Heap) (locs : List Loc) (hP : va_P (dC, dI) vwCl ((wX d qx a1 a2 a3 a4 a5 Lr n wd wi wt pts pt pl) ++ (wM d qm b1 b2 b3 b4 b5 b6 Lr n wd wi wt up dn ch)) H) (hD : va_D (fun q : Nat => s.heap.size ≤ q) ((wX d qx a1 a2 a3 a4 a5 Lr n wd wi wt pts pt pl) ++ (wM d qm b1 b2 b3 b4 b5 b6 Lr n wd wi wt up dn ch))) (hS : va_S (fun q : Nat => s.heap.size ≤ q) s.heap H locs) (ls : Array Slot) (hl : lv_has ls 4 [(0, .ref b), (1, .ref qx), (2, .ref qm), (3, .int (jI i))]), W p l e room_1 s m #[Value.ref b] below meth c H locs 13 1380 (lw_Z below #[Value.ref b] s) (F0 m 28 ls []) := by
  obtain ⟨hx, hb, hr, hml, hown, hts0, hX, hbl, hlocks, hgv⟩ := id C0
  have hts : ∀ w ∈ lw_all, w.before #[Value.ref b] s = true := fun w h => hts0 w (lw_all_tbl h)
  have hA : ∀ q : Nat, s.heap.size ≤ q → (fun q : Nat => s.heap.size ≤ q) q := fun _ h => h
  have hbA : ¬ (fun q : Nat => s.heap.size ≤ q) b := Nat.not_le.mpr hbl
  intro n_
  induction n_ with
  | zero => intro i hi hm_; exact absurd hm_ (by omega)
  | succ n_ ih =>
    intro i hi hm_ n wd wi wt hok pts pt pl up dn ch H locs hP hD hS ls hl
    refine lv_iload_n hx hb dL_law_28 rfl (lv_at hl 3 rfl) ?_
    refine lv_aload_n hx hb dL_law_29 rfl (lv_at hl 0 rfl) ?_
    refine ji_slen hx hb hX hbl hbA hS hL dL_law_30 ?_
    refine ji_const hx hb dL_law_31 ?_
    refine ji_sub hx hb dL_law_32 ?_
    refine ji_icmp_gt (tgt := 369) hx hb dL_law_33 (by decide) (by omega) (by omega) (fun c_1 => ?_) (fun c_1 => ?_)
    · refine ji_const hx hb dL_law_369 ?_
      refine va_forget (fun q hq => hS.2.2 q hq) ?_
      refine W.widen (k := 600000) (n := 7290000) (by omega) (by omega) ?_
      exact lw_ret hx hb hr hlocks dL_law_370
    · have nxt : ∀ (n : Int) (wd wi wt : Int → Int) (hok : Ok Lr n wd wi wt) (pts : Int) (pt pl up dn ch : Int → Int) (H : Heap) (locs : List Loc) (hP : va_P (dC, dI) vwCl ((wX d qx a1 a2 a3 a4 a5 Lr n wd wi wt pts pt pl) ++ (wM d qm b1 b2 b3 b4 b5 b6 Lr n wd wi wt up dn ch)) H) (hD : va_D (fun q : Nat => s.heap.size ≤ q) ((wX d qx a1 a2 a3 a4 a5 Lr n wd wi wt pts pt pl) ++ (wM d qm b1 b2 b3 b4 b5 b6 Lr n wd wi wt up dn ch))) (hS : va_S (fun q : Nat => s.heap.size ≤ q) s.heap H locs) (ls : Array Slot) (hl : lv_has ls 4 [(0, .ref b), (1, .ref qx), (2, .ref qm), (3, .int (jI i))]), W p l e room_1 s m #[Value.ref b] below meth c H locs 13 1380 (lw_Z below #[Value.ref b] s) (F0 m 363 ls []) := by
        intro n wd wi wt hok pts pt pl up dn ch H locs hP hD hS ls hl
        refine ji_iinc (v := i + 4) (lv' := [(3, .int (jI (i + 4))), (0, .ref b), (1, .ref qx), (2, .ref qm)]) hx hb dL_law_363 hl (k := 3) rfl (by omega) (by decide) rfl (fun ls hl => ?_)
        refine lv_goto (tgt := 28) hx hb dL_law_366 (by decide) ?_
        exact ih (i + 4) (by omega) (by omega) n wd wi wt hok pts pt pl up dn ch _ _ hP hD hS ls (lv_sub hl [1, 2, 3, 0] rfl)
      refine lv_aload_n hx hb dL_law_36 rfl (lv_at hl 0 rfl) ?_
      refine lv_iload_n hx hb dL_law_37 rfl (lv_at hl 3 rfl) ?_
      refine ji_sld hx hb hX hbl hbA hS (by omega) hL dL_law_38 ?_
      refine lv_bipush (v := jI 15) hx hb dL_law_39 (by decide) ?_
      refine lv_iand hx hb dL_law_41 ?_
      obtain ⟨j, hj, ej⟩ := pk_andE (jI (sI xs i)) (m := jI 15) 4 (by decide)
      rw [ej]
      rcases (show j = 0 ∨ j = 1 ∨ j = 2 ∨ j = 3 ∨ j = 4 ∨ j = 5 ∨ j = 6 ∨ j = 7 ∨ j = 8 ∨ j = 9 ∨ j = 10 ∨ j = 11 ∨ j = 12 ∨ j = 13 ∨ j = 14 ∨ j = 15 by omega) with rfl | rfl | rfl | rfl | rfl | rfl | rfl | rfl | rfl | rfl | rfl | rfl | rfl | rfl | rfl | rfl
      · refine lv_tableIn (off := 58) (tgt := 100) hx hb dL_law_42 (by decide) (by decide) (by decide) (by decide) ?_
        refine lv_aload_n hx hb dL_law_100 rfl (lv_at hl 1 rfl) ?_
        refine lv_aload_n hx hb dL_law_101 rfl (lv_at hl 0 rfl) ?_
        refine lv_iload_n hx hb dL_law_102 rfl (lv_at hl 3 rfl) ?_
        refine ji_const hx hb dL_law_103 ?_
        refine ji_add hx hb dL_law_104 ?_
        refine ji_sld hx hb hX hbl hbA hS (by omega) hL dL_law_105 ?_
        refine lv_aload_n hx hb dL_law_106 rfl (lv_at hl 0 rfl) ?_
        refine lv_iload_n hx hb dL_law_107 rfl (lv_at hl 3 rfl) ?_
        refine ji_const hx hb dL_law_108 ?_
        refine ji_add hx hb dL_law_109 ?_
        refine ji_sld hx hb hX hbl hbA hS (by omega) hL dL_law_110 ?_
        refine lv_aload_n hx hb dL_law_111 rfl (lv_at hl 0 rfl) ?_
        refine lv_iload_n hx hb dL_law_112 rfl (lv_at hl 3 rfl) ?_
        refine ji_const hx hb dL_law_113 ?_
        refine ji_add hx hb dL_law_114 ?_
        refine ji_sld hx hb hX hbl hbA hS (by omega) hL dL_law_115 ?_
        have hPc : va_P (dC, dI) vwCl (wX d qx a1 a2 a3 a4 a5 Lr n wd wi wt pts pt pl) H := hP.sub [0, 1, 2, 3, 4, 5] rfl
        have hDc : va_D (fun q : Nat => s.heap.size ≤ q) (wX d qx a1 a2 a3 a4 a5 Lr n wd wi wt pts pt pl) := hD.sub [0, 1, 2, 3, 4, 5] (by decide) rfl
        have hFc := va_free (wc := (wX d qx a1 a2 a3 a4 a5 Lr n wd wi wt pts pt pl)) hD hS hA [0, 1, 2, 3, 4, 5] rfl
        refine va_calli (va_runV (As := [.int (jI (sI xs (i + 1))), .int (jI (sI xs (i + 2))), .int (jI (sI xs (i + 3)))]) (rest := []) ⟨hx, hb, hml, hown, hts⟩ (metX1_append l dC dI d qx a1 a2 a3 a4 a5 Lr n wd wi wt pts pt pl H.size (sI xs (i + 1)) (sI xs (i + 2)) (sI xs (i + 3)) hok (jI_rng _) (jI_rng _) (jI_rng _)) (cwV 3 hts (lw_V q56 q57 q58 q20 q59) rfl rfl rfl (by decide +kernel) ⟨Nat.le_of_ble_eq_true rfl, Nat.le_of_ble_eq_true rfl⟩) ⟨zPw_bl, va_recv hK hPc (ci := 0) (q0 := 0) rfl rfl, fun U hU hW => ⟨rfl, by rw [hU], by rw [hU]; exact hPc, va_K.moved hW.alike hK, hDc.weaken (fun _ _ _ _ => trivial)⟩⟩ rfl rfl hl.1 rfl (lv_room (Nat.le_of_ble_eq_true rfl)) dL_law_116 ⟨Nat.le_of_ble_eq_true rfl, Nat.le_of_ble_eq_true rfl⟩) hS (fun q _ h => hFc q h) hFc (fun r_ u_ t_ H1 locs ht_ hvm_ hw_ hB_ hz_ hk_ hS => ?_)
        obtain ⟨zx, rfl, nx, wdx, wix, wtx, rfl, hzx⟩ := hw_
        obtain ⟨hP1_, -, hD1_⟩ := hB_
        rw [ht_] at hP1_
        obtain ⟨hP, hD⟩ := va_join (wr := (wM d qm b1 b2 b3 b4 b5 b6 Lr n wd wi wt up dn ch)) (w1 := (wX d qx a1 a2 a3 a4 a5 Lr nx wdx wix wtx pts pt pl)) hP hD [0, 1, 2, 3, 4, 5] [6, 7, 8, 9, 10, 11, 12] rfl rfl (by decide) (by decide) hk_ hFc hP1_ hD1_
        have hP : va_P (dC, dI) vwCl ((wX d qx a1 a2 a3 a4 a5 Lr nx wdx wix wtx pts pt pl) ++ (wM d qm b1 b2 b3 b4 b5 b6 Lr n wd wi wt up dn ch)) H1 := hP.sub [7, 8, 9, 10, 11, 12, 0, 1, 2, 3, 4, 5, 6] rfl
        have hD : va_D (fun q : Nat => s.heap.size ≤ q) ((wX d qx a1 a2 a3 a4 a5 Lr nx wdx wix wtx pts pt pl) ++ (wM d qm b1 b2 b3 b4 b5 b6 Lr n wd wi wt up dn ch)) := hD.sub [7, 8, 9, 10, 11, 12, 0, 1, 2, 3, 4, 5, 6] (by decide) rfl
        clear hD1_ hP1_ hz_ hk_ hFc ht_ hvm_ hDc hPc
        generalize H1 = H at hP hS ⊢
        refine lv_aload_n hx hb dL_law_119 rfl (lv_at hl 2 rfl) ?_
        refine lv_aload_n hx hb dL_law_120 rfl (lv_at hl 0 rfl) ?_
        refine lv_iload_n hx hb dL_law_121 rfl (lv_at hl 3 rfl) ?_
        refine ji_const hx hb dL_law_122 ?_
        refine ji_add hx hb dL_law_123 ?_
        refine ji_sld hx hb hX hbl hbA hS (by omega) hL dL_law_124 ?_
        refine lv_aload_n hx hb dL_law_125 rfl (lv_at hl 0 rfl) ?_
        refine lv_iload_n hx hb dL_law_126 rfl (lv_at hl 3 rfl) ?_
        refine ji_const hx hb dL_law_127 ?_
        refine ji_add hx hb dL_law_128 ?_
        refine ji_sld hx hb hX hbl hbA hS (by omega) hL dL_law_129 ?_
        refine lv_aload_n hx hb dL_law_130 rfl (lv_at hl 0 rfl) ?_
        refine lv_iload_n hx hb dL_law_131 rfl (lv_at hl 3 rfl) ?_
        refine ji_const hx hb dL_law_132 ?_
        refine ji_add hx hb dL_law_133 ?_
        refine ji_sld hx hb hX hbl hbA hS (by omega) hL dL_law_134 ?_
        have hPc : va_P (dC, dI) vwCl (wM d qm b1 b2 b3 b4 b5 b6 Lr n wd wi wt up dn ch) H := hP.sub [6, 7, 8, 9, 10, 11, 12] rfl
        have hDc : va_D (fun q : Nat => s.heap.size ≤ q) (wM d qm b1 b2 b3 b4 b5 b6 Lr n wd wi wt up dn ch) := hD.sub [6, 7, 8, 9, 10, 11, 12] (by decide) rfl
        have hFc := va_free (wc := (wM d qm b1 b2 b3 b4 b5 b6 Lr n wd wi wt up dn ch)) hD hS hA [6, 7, 8, 9, 10, 11, 12] rfl
        refine va_calli (va_runV (As := [.int (jI (sI xs (i + 1))), .int (jI (sI xs (i + 2))), .int (jI (sI xs (i + 3)))]) (rest := [.int (jI zx)]) ⟨hx, hb, hml, hown, hts⟩ (metX2_append l dC dI d qm b1 b2 b3 b4 b5 b6 Lr n wd wi wt up dn ch H.size (sI xs (i + 1)) (sI xs (i + 2)) (sI xs (i + 3)) hok (jI_rng _) (jI_rng _) (jI_rng _)) (cwV 3 hts (lw_V q174 q175 q176 q21 q177) rfl rfl rfl (by decide +kernel) ⟨Nat.le_of_ble_eq_true rfl, Nat.le_of_ble_eq_true rfl⟩) ⟨zPw_bl, va_recv hK hPc (ci := 1) (q0 := 0) rfl rfl, fun U hU hW => ⟨rfl, by rw [hU], by rw [hU]; exact hPc, va_K.moved hW.alike hK, hDc.weaken (fun _ _ _ _ => trivial)⟩⟩ rfl rfl hl.1 rfl (lv_room (Nat.le_of_ble_eq_true rfl)) dL_law_135 ⟨Nat.le_of_ble_eq_true rfl, Nat.le_of_ble_eq_true rfl⟩) hS (fun q _ h => hFc q h) hFc (fun r_ u_ t_ H1 locs ht_ hvm_ hw_ hB_ hz_ hk_ hS => ?_)
        obtain ⟨zm, rfl, nm, wdm, wim, wtm, rfl, hzm⟩ := hw_
        obtain ⟨hP1_, -, hD1_⟩ := hB_
        rw [ht_] at hP1_
        obtain ⟨hP, hD⟩ := va_join (wr := (wX d qx a1 a2 a3 a4 a5 Lr nx wdx wix wtx pts pt pl)) (w1 := (wM d qm b1 b2 b3 b4 b5 b6 Lr nm wdm wim wtm up dn ch)) hP hD [6, 7, 8, 9, 10, 11, 12] [0, 1, 2, 3, 4, 5] rfl rfl (by decide) (by decide) hk_ hFc hP1_ hD1_
        have hP : va_P (dC, dI) vwCl ((wX d qx a1 a2 a3 a4 a5 Lr nx wdx wix wtx pts pt pl) ++ (wM d qm b1 b2 b3 b4 b5 b6 Lr nm wdm wim wtm up dn ch)) H1 := hP
        have hD : va_D (fun q : Nat => s.heap.size ≤ q) ((wX d qx a1 a2 a3 a4 a5 Lr nx wdx wix wtx pts pt pl) ++ (wM d qm b1 b2 b3 b4 b5 b6 Lr nm wdm wim wtm up dn ch)) := hD
        clear hD1_ hP1_ hz_ hk_ hFc ht_ hvm_ hDc hPc
        generalize H1 = H at hP hS ⊢
        obtain ⟨ez, e0, e1, e2, e3⟩ := App_u hzx hzm
        rw [e0, e1, e2, e3] at hP hD
        refine lv_icmp_eq (tgt := 363) hx hb dL_law_138 (by decide) (fun _ => ?_) (fun c_9 => absurd (by rw [ez]) c_9)
        exact nxt nx wdx wix wtx (Ok_app hok hzx) pts pt pl up dn ch _ _ hP hD hS ls hl
      · refine lv_tableIn (off := 101) (tgt := 143) hx hb dL_law_42 (by decide) (by decide) (by decide) (by decide) ?_
        refine lv_aload_n hx hb dL_law_143 rfl (lv_at hl 1 rfl) ?_
        refine lv_aload_n hx hb dL_law_144 rfl (lv_at hl 0 rfl) ?_
        refine lv_iload_n hx hb dL_law_145 rfl (lv_at hl 3 rfl) ?_
        refine ji_const hx hb dL_law_146 ?_
        refine ji_add hx hb dL_law_147 ?_
        refine ji_sld hx hb hX hbl hbA hS (by omega) hL dL_law_148 ?_
        refine lv_aload_n hx hb dL_law_149 rfl (lv_at hl 0 rfl) ?_
        refine lv_iload_n hx hb dL_law_150 rfl (lv_at hl 3 rfl) ?_
        refine ji_const hx hb dL_law_151 ?_
        refine ji_add hx hb dL_law_152 ?_
        refine ji_sld hx hb hX hbl hbA hS (by omega) hL dL_law_153 ?_
        have hPc : va_P (dC, dI) vwCl (wX d qx a1 a2 a3 a4 a5 Lr n wd wi wt pts pt pl) H := hP.sub [0, 1, 2, 3, 4, 5] rfl
        have hDc : va_D (fun q : Nat => s.heap.size ≤ q) (wX d qx a1 a2 a3 a4 a5 Lr n wd wi wt pts pt pl) := hD.sub [0, 1, 2, 3, 4, 5] (by decide) rfl
        have hFc := va_free (wc := (wX d qx a1 a2 a3 a4 a5 Lr n wd wi wt pts pt pl)) hD hS hA [0, 1, 2, 3, 4, 5] rfl
        refine va_calli (va_runV (As := [.int (jI (sI xs (i + 1))), .int (jI (sI xs (i + 2)))]) (rest := []) ⟨hx, hb, hml, hown, hts⟩ (metX1_move l dC dI d qx a1 a2 a3 a4 a5 Lr n wd wi wt pts pt pl H.size (sI xs (i + 1)) (sI xs (i + 2)) hok (jI_rng _) (jI_rng _)) (cwV 2 hts (lw_V q60 q61 q62 q20 q63) rfl rfl rfl (by decide +kernel) ⟨Nat.le_of_ble_eq_true rfl, Nat.le_of_ble_eq_true rfl⟩) ⟨zPw_bl, va_recv hK hPc (ci := 0) (q0 := 0) rfl rfl, fun U hU hW => ⟨rfl, by rw [hU], by rw [hU]; exact hPc, va_K.moved hW.alike hK, hDc.weaken (fun _ _ _ _ => trivial)⟩⟩ rfl rfl hl.1 rfl (lv_room (Nat.le_of_ble_eq_true rfl)) dL_law_154 ⟨Nat.le_of_ble_eq_true rfl, Nat.le_of_ble_eq_true rfl⟩) hS (fun q _ h => hFc q h) hFc (fun r_ u_ t_ H1 locs ht_ hvm_ hw_ hB_ hz_ hk_ hS => ?_)
        obtain ⟨zx, rfl, wix, rfl, hzx⟩ := hw_
        obtain ⟨hP1_, -, hD1_⟩ := hB_
        rw [ht_] at hP1_
        obtain ⟨hP, hD⟩ := va_join (wr := (wM d qm b1 b2 b3 b4 b5 b6 Lr n wd wi wt up dn ch)) (w1 := (wX d qx a1 a2 a3 a4 a5 Lr n wd wix wt pts pt pl)) hP hD [0, 1, 2, 3, 4, 5] [6, 7, 8, 9, 10, 11, 12] rfl rfl (by decide) (by decide) hk_ hFc hP1_ hD1_
        have hP : va_P (dC, dI) vwCl ((wX d qx a1 a2 a3 a4 a5 Lr n wd wix wt pts pt pl) ++ (wM d qm b1 b2 b3 b4 b5 b6 Lr n wd wi wt up dn ch)) H1 := hP.sub [7, 8, 9, 10, 11, 12, 0, 1, 2, 3, 4, 5, 6] rfl
        have hD : va_D (fun q : Nat => s.heap.size ≤ q) ((wX d qx a1 a2 a3 a4 a5 Lr n wd wix wt pts pt pl) ++ (wM d qm b1 b2 b3 b4 b5 b6 Lr n wd wi wt up dn ch)) := hD.sub [7, 8, 9, 10, 11, 12, 0, 1, 2, 3, 4, 5, 6] (by decide) rfl
        clear hD1_ hP1_ hz_ hk_ hFc ht_ hvm_ hDc hPc
        generalize H1 = H at hP hS ⊢
        refine lv_aload_n hx hb dL_law_157 rfl (lv_at hl 2 rfl) ?_
        refine lv_aload_n hx hb dL_law_158 rfl (lv_at hl 0 rfl) ?_
        refine lv_iload_n hx hb dL_law_159 rfl (lv_at hl 3 rfl) ?_
        refine ji_const hx hb dL_law_160 ?_
        refine ji_add hx hb dL_law_161 ?_
        refine ji_sld hx hb hX hbl hbA hS (by omega) hL dL_law_162 ?_
        refine lv_aload_n hx hb dL_law_163 rfl (lv_at hl 0 rfl) ?_
        refine lv_iload_n hx hb dL_law_164 rfl (lv_at hl 3 rfl) ?_
        refine ji_const hx hb dL_law_165 ?_
        refine ji_add hx hb dL_law_166 ?_
        refine ji_sld hx hb hX hbl hbA hS (by omega) hL dL_law_167 ?_
        have hPc : va_P (dC, dI) vwCl (wM d qm b1 b2 b3 b4 b5 b6 Lr n wd wi wt up dn ch) H := hP.sub [6, 7, 8, 9, 10, 11, 12] rfl
        have hDc : va_D (fun q : Nat => s.heap.size ≤ q) (wM d qm b1 b2 b3 b4 b5 b6 Lr n wd wi wt up dn ch) := hD.sub [6, 7, 8, 9, 10, 11, 12] (by decide) rfl
        have hFc := va_free (wc := (wM d qm b1 b2 b3 b4 b5 b6 Lr n wd wi wt up dn ch)) hD hS hA [6, 7, 8, 9, 10, 11, 12] rfl
        refine va_calli (va_runV (As := [.int (jI (sI xs (i + 1))), .int (jI (sI xs (i + 2)))]) (rest := [.int (jI zx)]) ⟨hx, hb, hml, hown, hts⟩ (metX2_move l dC dI d qm b1 b2 b3 b4 b5 b6 Lr n wd wi wt up dn ch H.size (sI xs (i + 1)) (sI xs (i + 2)) hok (jI_rng _) (jI_rng _)) (cwV 2 hts (lw_V q186 q187 q188 q21 q189) rfl rfl rfl (by decide +kernel) ⟨Nat.le_of_ble_eq_true rfl, Nat.le_of_ble_eq_true rfl⟩) ⟨zPw_bl, va_recv hK hPc (ci := 1) (q0 := 0) rfl rfl, fun U hU hW => ⟨rfl, by rw [hU], by rw [hU]; exact hPc, va_K.moved hW.alike hK, hDc.weaken (fun _ _ _ _ => trivial)⟩⟩ rfl rfl hl.1 rfl (lv_room (Nat.le_of_ble_eq_true rfl)) dL_law_168 ⟨Nat.le_of_ble_eq_true rfl, Nat.le_of_ble_eq_true rfl⟩) hS (fun q _ h => hFc q h) hFc (fun r_ u_ t_ H1 locs ht_ hvm_ hw_ hB_ hz_ hk_ hS => ?_)
        obtain ⟨zm, rfl, wim, rfl, hzm⟩ := hw_
        obtain ⟨hP1_, -, hD1_⟩ := hB_
        rw [ht_] at hP1_
        obtain ⟨hP, hD⟩ := va_join (wr := (wX d qx a1 a2 a3 a4 a5 Lr n wd wix wt pts pt pl)) (w1 := (wM d qm b1 b2 b3 b4 b5 b6 Lr n wd wim wt up dn ch)) hP hD [6, 7, 8, 9, 10, 11, 12] [0, 1, 2, 3, 4, 5] rfl rfl (by decide) (by decide) hk_ hFc hP1_ hD1_
        have hP : va_P (dC, dI) vwCl ((wX d qx a1 a2 a3 a4 a5 Lr n wd wix wt pts pt pl) ++ (wM d qm b1 b2 b3 b4 b5 b6 Lr n wd wim wt up dn ch)) H1 := hP
        have hD : va_D (fun q : Nat => s.heap.size ≤ q) ((wX d qx a1 a2 a3 a4 a5 Lr n wd wix wt pts pt pl) ++ (wM d qm b1 b2 b3 b4 b5 b6 Lr n wd wim wt up dn ch)) := hD
        clear hD1_ hP1_ hz_ hk_ hFc ht_ hvm_ hDc hPc
        generalize H1 = H at hP hS ⊢
        obtain ⟨ez, e0⟩ := Mov_u hzx hzm
        rw [e0] at hP hD
        refine lv_icmp_eq (tgt := 363) hx hb dL_law_171 (by decide) (fun _ => ?_) (fun c_9 => absurd (by rw [ez]) c_9)
        exact nxt n wd wix wt (Ok_mov hok hzx) pts pt pl up dn ch _ _ hP hD hS ls hl
      · refine lv_tableIn (off := 134) (tgt := 176) hx hb dL_law_42 (by decide) (by decide) (by decide) (by decide) ?_
        refine lv_aload_n hx hb dL_law_176 rfl (lv_at hl 1 rfl) ?_
        refine lv_aload_n hx hb dL_law_177 rfl (lv_at hl 0 rfl) ?_
        refine lv_iload_n hx hb dL_law_178 rfl (lv_at hl 3 rfl) ?_
        refine ji_const hx hb dL_law_179 ?_
        refine ji_add hx hb dL_law_180 ?_
        refine ji_sld hx hb hX hbl hbA hS (by omega) hL dL_law_181 ?_
        refine lv_aload_n hx hb dL_law_182 rfl (lv_at hl 0 rfl) ?_
        refine lv_iload_n hx hb dL_law_183 rfl (lv_at hl 3 rfl) ?_
        refine ji_const hx hb dL_law_184 ?_
        refine ji_add hx hb dL_law_185 ?_
        refine ji_sld hx hb hX hbl hbA hS (by omega) hL dL_law_186 ?_
        have hPc : va_P (dC, dI) vwCl (wX d qx a1 a2 a3 a4 a5 Lr n wd wi wt pts pt pl) H := hP.sub [0, 1, 2, 3, 4, 5] rfl
        have hDc : va_D (fun q : Nat => s.heap.size ≤ q) (wX d qx a1 a2 a3 a4 a5 Lr n wd wi wt pts pt pl) := hD.sub [0, 1, 2, 3, 4, 5] (by decide) rfl
        have hFc := va_free (wc := (wX d qx a1 a2 a3 a4 a5 Lr n wd wi wt pts pt pl)) hD hS hA [0, 1, 2, 3, 4, 5] rfl
        refine va_calli (va_runV (As := [.int (jI (sI xs (i + 1))), .int (jI (sI xs (i + 2)))]) (rest := []) ⟨hx, hb, hml, hown, hts⟩ (metX1_reweigh l dC dI d qx a1 a2 a3 a4 a5 Lr n wd wi wt pts pt pl H.size (sI xs (i + 1)) (sI xs (i + 2)) hok (jI_rng _) (jI_rng _)) (cwV 2 hts (lw_V q68 q69 q70 q20 q71) rfl rfl rfl (by decide +kernel) ⟨Nat.le_of_ble_eq_true rfl, Nat.le_of_ble_eq_true rfl⟩) ⟨zPw_bl, va_recv hK hPc (ci := 0) (q0 := 0) rfl rfl, fun U hU hW => ⟨rfl, by rw [hU], by rw [hU]; exact hPc, va_K.moved hW.alike hK, hDc.weaken (fun _ _ _ _ => trivial)⟩⟩ rfl rfl hl.1 rfl (lv_room (Nat.le_of_ble_eq_true rfl)) dL_law_187 ⟨Nat.le_of_ble_eq_true rfl, Nat.le_of_ble_eq_true rfl⟩) hS (fun q _ h => hFc q h) hFc (fun r_ u_ t_ H1 locs ht_ hvm_ hw_ hB_ hz_ hk_ hS => ?_)
        obtain ⟨zx, rfl, wtx, rfl, hzx⟩ := hw_
        obtain ⟨hP1_, -, hD1_⟩ := hB_
        rw [ht_] at hP1_
        obtain ⟨hP, hD⟩ := va_join (wr := (wM d qm b1 b2 b3 b4 b5 b6 Lr n wd wi wt up dn ch)) (w1 := (wX d qx a1 a2 a3 a4 a5 Lr n wd wi wtx pts pt pl)) hP hD [0, 1, 2, 3, 4, 5] [6, 7, 8, 9, 10, 11, 12] rfl rfl (by decide) (by decide) hk_ hFc hP1_ hD1_
        have hP : va_P (dC, dI) vwCl ((wX d qx a1 a2 a3 a4 a5 Lr n wd wi wtx pts pt pl) ++ (wM d qm b1 b2 b3 b4 b5 b6 Lr n wd wi wt up dn ch)) H1 := hP.sub [7, 8, 9, 10, 11, 12, 0, 1, 2, 3, 4, 5, 6] rfl
        have hD : va_D (fun q : Nat => s.heap.size ≤ q) ((wX d qx a1 a2 a3 a4 a5 Lr n wd wi wtx pts pt pl) ++ (wM d qm b1 b2 b3 b4 b5 b6 Lr n wd wi wt up dn ch)) := hD.sub [7, 8, 9, 10, 11, 12, 0, 1, 2, 3, 4, 5, 6] (by decide) rfl
        clear hD1_ hP1_ hz_ hk_ hFc ht_ hvm_ hDc hPc
        generalize H1 = H at hP hS ⊢
        refine lv_aload_n hx hb dL_law_190 rfl (lv_at hl 2 rfl) ?_
        refine lv_aload_n hx hb dL_law_191 rfl (lv_at hl 0 rfl) ?_
        refine lv_iload_n hx hb dL_law_192 rfl (lv_at hl 3 rfl) ?_
        refine ji_const hx hb dL_law_193 ?_
        refine ji_add hx hb dL_law_194 ?_
        refine ji_sld hx hb hX hbl hbA hS (by omega) hL dL_law_195 ?_
        refine lv_aload_n hx hb dL_law_196 rfl (lv_at hl 0 rfl) ?_
        refine lv_iload_n hx hb dL_law_197 rfl (lv_at hl 3 rfl) ?_
        refine ji_const hx hb dL_law_198 ?_
        refine ji_add hx hb dL_law_199 ?_
        refine ji_sld hx hb hX hbl hbA hS (by omega) hL dL_law_200 ?_
        have hPc : va_P (dC, dI) vwCl (wM d qm b1 b2 b3 b4 b5 b6 Lr n wd wi wt up dn ch) H := hP.sub [6, 7, 8, 9, 10, 11, 12] rfl
        have hDc : va_D (fun q : Nat => s.heap.size ≤ q) (wM d qm b1 b2 b3 b4 b5 b6 Lr n wd wi wt up dn ch) := hD.sub [6, 7, 8, 9, 10, 11, 12] (by decide) rfl
        have hFc := va_free (wc := (wM d qm b1 b2 b3 b4 b5 b6 Lr n wd wi wt up dn ch)) hD hS hA [6, 7, 8, 9, 10, 11, 12] rfl
        refine va_calli (va_runV (As := [.int (jI (sI xs (i + 1))), .int (jI (sI xs (i + 2)))]) (rest := [.int (jI zx)]) ⟨hx, hb, hml, hown, hts⟩ (metX2_reweigh l dC dI d qm b1 b2 b3 b4 b5 b6 Lr n wd wi wt up dn ch H.size (sI xs (i + 1)) (sI xs (i + 2)) hok (jI_rng _) (jI_rng _)) (cwV 2 hts (lw_V q194 q195 q196 q21 q197) rfl rfl rfl (by decide +kernel) ⟨Nat.le_of_ble_eq_true rfl, Nat.le_of_ble_eq_true rfl⟩) ⟨zPw_bl, va_recv hK hPc (ci := 1) (q0 := 0) rfl rfl, fun U hU hW => ⟨rfl, by rw [hU], by rw [hU]; exact hPc, va_K.moved hW.alike hK, hDc.weaken (fun _ _ _ _ => trivial)⟩⟩ rfl rfl hl.1 rfl (lv_room (Nat.le_of_ble_eq_true rfl)) dL_law_201 ⟨Nat.le_of_ble_eq_true rfl, Nat.le_of_ble_eq_true rfl⟩) hS (fun q _ h => hFc q h) hFc (fun r_ u_ t_ H1 locs ht_ hvm_ hw_ hB_ hz_ hk_ hS => ?_)
        obtain ⟨zm, rfl, wtm, rfl, hzm⟩ := hw_
        obtain ⟨hP1_, -, hD1_⟩ := hB_
        rw [ht_] at hP1_
        obtain ⟨hP, hD⟩ := va_join (wr := (wX d qx a1 a2 a3 a4 a5 Lr n wd wi wtx pts pt pl)) (w1 := (wM d qm b1 b2 b3 b4 b5 b6 Lr n wd wi wtm up dn ch)) hP hD [6, 7, 8, 9, 10, 11, 12] [0, 1, 2, 3, 4, 5] rfl rfl (by decide) (by decide) hk_ hFc hP1_ hD1_
        have hP : va_P (dC, dI) vwCl ((wX d qx a1 a2 a3 a4 a5 Lr n wd wi wtx pts pt pl) ++ (wM d qm b1 b2 b3 b4 b5 b6 Lr n wd wi wtm up dn ch)) H1 := hP
        have hD : va_D (fun q : Nat => s.heap.size ≤ q) ((wX d qx a1 a2 a3 a4 a5 Lr n wd wi wtx pts pt pl) ++ (wM d qm b1 b2 b3 b4 b5 b6 Lr n wd wi wtm up dn ch)) := hD
        clear hD1_ hP1_ hz_ hk_ hFc ht_ hvm_ hDc hPc
        generalize H1 = H at hP hS ⊢
        obtain ⟨ez, e0⟩ := Rew_u hzx hzm
        rw [e0] at hP hD
        refine lv_icmp_eq (tgt := 363) hx hb dL_law_204 (by decide) (fun _ => ?_) (fun c_9 => absurd (by rw [ez]) c_9)
        exact nxt n wd wi wtx (Ok_rew hok hzx) pts pt pl up dn ch _ _ hP hD hS ls hl
      · refine lv_tableIn (off := 167) (tgt := 209) hx hb dL_law_42 (by decide) (by decide) (by decide) (by decide) ?_
        refine lv_aload_n hx hb dL_law_209 rfl (lv_at hl 1 rfl) ?_
        refine lv_aload_n hx hb dL_law_210 rfl (lv_at hl 0 rfl) ?_
        refine lv_iload_n hx hb dL_law_211 rfl (lv_at hl 3 rfl) ?_
        refine ji_const hx hb dL_law_212 ?_
        refine ji_add hx hb dL_law_213 ?_
        refine ji_sld hx hb hX hbl hbA hS (by omega) hL dL_law_214 ?_
        have hPc : va_P (dC, dI) vwCl (wX d qx a1 a2 a3 a4 a5 Lr n wd wi wt pts pt pl) H := hP.sub [0, 1, 2, 3, 4, 5] rfl
        have hDc : va_D (fun q : Nat => s.heap.size ≤ q) (wX d qx a1 a2 a3 a4 a5 Lr n wd wi wt pts pt pl) := hD.sub [0, 1, 2, 3, 4, 5] (by decide) rfl
        have hFc := va_free (wc := (wX d qx a1 a2 a3 a4 a5 Lr n wd wi wt pts pt pl)) hD hS hA [0, 1, 2, 3, 4, 5] rfl
        refine va_calli (va_runV (As := [.int (jI (sI xs (i + 1)))]) (rest := []) ⟨hx, hb, hml, hown, hts⟩ (metX1_exchange l dC dI d qx a1 a2 a3 a4 a5 Lr n wd wi wt pts pt pl H.size (sI xs (i + 1)) hok (jI_rng _)) (cwV 1 hts (lw_V q72 q73 q74 q20 q75) rfl rfl rfl (by decide +kernel) ⟨Nat.le_of_ble_eq_true rfl, Nat.le_of_ble_eq_true rfl⟩) ⟨zPw_bl, va_recv hK hPc (ci := 0) (q0 := 0) rfl rfl, fun U hU hW => ⟨rfl, by rw [hU], by rw [hU]; exact hPc, va_K.moved hW.alike hK, hDc.weaken (fun _ _ _ _ => trivial)⟩⟩ rfl rfl hl.1 rfl (lv_room (Nat.le_of_ble_eq_true rfl)) dL_law_215 ⟨Nat.le_of_ble_eq_true rfl, Nat.le_of_ble_eq_true rfl⟩) hS (fun q _ h => hFc q h) hFc (fun r_ u_ t_ H1 locs ht_ hvm_ hw_ hB_ hz_ hk_ hS => ?_)
        obtain ⟨zx, rfl, wdx, wix, wtx, rfl, hzx⟩ := hw_
        obtain ⟨hP1_, -, hD1_⟩ := hB_
        rw [ht_] at hP1_
        obtain ⟨hP, hD⟩ := va_join (wr := (wM d qm b1 b2 b3 b4 b5 b6 Lr n wd wi wt up dn ch)) (w1 := (wX d qx a1 a2 a3 a4 a5 Lr n wdx wix wtx pts pt pl)) hP hD [0, 1, 2, 3, 4, 5] [6, 7, 8, 9, 10, 11, 12] rfl rfl (by decide) (by decide) hk_ hFc hP1_ hD1_
        have hP : va_P (dC, dI) vwCl ((wX d qx a1 a2 a3 a4 a5 Lr n wdx wix wtx pts pt pl) ++ (wM d qm b1 b2 b3 b4 b5 b6 Lr n wd wi wt up dn ch)) H1 := hP.sub [7, 8, 9, 10, 11, 12, 0, 1, 2, 3, 4, 5, 6] rfl
        have hD : va_D (fun q : Nat => s.heap.size ≤ q) ((wX d qx a1 a2 a3 a4 a5 Lr n wdx wix wtx pts pt pl) ++ (wM d qm b1 b2 b3 b4 b5 b6 Lr n wd wi wt up dn ch)) := hD.sub [7, 8, 9, 10, 11, 12, 0, 1, 2, 3, 4, 5, 6] (by decide) rfl
        clear hD1_ hP1_ hz_ hk_ hFc ht_ hvm_ hDc hPc
        generalize H1 = H at hP hS ⊢
        refine lv_aload_n hx hb dL_law_218 rfl (lv_at hl 2 rfl) ?_
        refine lv_aload_n hx hb dL_law_219 rfl (lv_at hl 0 rfl) ?_
        refine lv_iload_n hx hb dL_law_220 rfl (lv_at hl 3 rfl) ?_
        refine ji_const hx hb dL_law_221 ?_
        refine ji_add hx hb dL_law_222 ?_
        refine ji_sld hx hb hX hbl hbA hS (by omega) hL dL_law_223 ?_
        have hPc : va_P (dC, dI) vwCl (wM d qm b1 b2 b3 b4 b5 b6 Lr n wd wi wt up dn ch) H := hP.sub [6, 7, 8, 9, 10, 11, 12] rfl
        have hDc : va_D (fun q : Nat => s.heap.size ≤ q) (wM d qm b1 b2 b3 b4 b5 b6 Lr n wd wi wt up dn ch) := hD.sub [6, 7, 8, 9, 10, 11, 12] (by decide) rfl
        have hFc := va_free (wc := (wM d qm b1 b2 b3 b4 b5 b6 Lr n wd wi wt up dn ch)) hD hS hA [6, 7, 8, 9, 10, 11, 12] rfl
        refine va_calli (va_runV (As := [.int (jI (sI xs (i + 1)))]) (rest := [.int (jI zx)]) ⟨hx, hb, hml, hown, hts⟩ (metX2_exchange l dC dI d qm b1 b2 b3 b4 b5 b6 Lr n wd wi wt up dn ch H.size (sI xs (i + 1)) hok (jI_rng _)) (cwV 1 hts (lw_V q198 q199 q200 q21 q201) rfl rfl rfl (by decide +kernel) ⟨Nat.le_of_ble_eq_true rfl, Nat.le_of_ble_eq_true rfl⟩) ⟨zPw_bl, va_recv hK hPc (ci := 1) (q0 := 0) rfl rfl, fun U hU hW => ⟨rfl, by rw [hU], by rw [hU]; exact hPc, va_K.moved hW.alike hK, hDc.weaken (fun _ _ _ _ => trivial)⟩⟩ rfl rfl hl.1 rfl (lv_room (Nat.le_of_ble_eq_true rfl)) dL_law_224 ⟨Nat.le_of_ble_eq_true rfl, Nat.le_of_ble_eq_true rfl⟩) hS (fun q _ h => hFc q h) hFc (fun r_ u_ t_ H1 locs ht_ hvm_ hw_ hB_ hz_ hk_ hS => ?_)
        obtain ⟨zm, rfl, wdm, wim, wtm, rfl, hzm⟩ := hw_
        obtain ⟨hP1_, -, hD1_⟩ := hB_
        rw [ht_] at hP1_
        obtain ⟨hP, hD⟩ := va_join (wr := (wX d qx a1 a2 a3 a4 a5 Lr n wdx wix wtx pts pt pl)) (w1 := (wM d qm b1 b2 b3 b4 b5 b6 Lr n wdm wim wtm up dn ch)) hP hD [6, 7, 8, 9, 10, 11, 12] [0, 1, 2, 3, 4, 5] rfl rfl (by decide) (by decide) hk_ hFc hP1_ hD1_
        have hP : va_P (dC, dI) vwCl ((wX d qx a1 a2 a3 a4 a5 Lr n wdx wix wtx pts pt pl) ++ (wM d qm b1 b2 b3 b4 b5 b6 Lr n wdm wim wtm up dn ch)) H1 := hP
        have hD : va_D (fun q : Nat => s.heap.size ≤ q) ((wX d qx a1 a2 a3 a4 a5 Lr n wdx wix wtx pts pt pl) ++ (wM d qm b1 b2 b3 b4 b5 b6 Lr n wdm wim wtm up dn ch)) := hD
        clear hD1_ hP1_ hz_ hk_ hFc ht_ hvm_ hDc hPc
        generalize H1 = H at hP hS ⊢
        obtain ⟨ez, e1, e2, e3⟩ := Exc_u hzx hzm
        rw [e1, e2, e3] at hP hD
        refine lv_icmp_eq (tgt := 363) hx hb dL_law_227 (by decide) (fun _ => ?_) (fun c_9 => absurd (by rw [ez]) c_9)
        exact nxt n wdx wix wtx (Ok_exc hok hzx) pts pt pl up dn ch _ _ hP hD hS ls hl
      · refine lv_tableIn (off := 190) (tgt := 232) hx hb dL_law_42 (by decide) (by decide) (by decide) (by decide) ?_
        refine lv_aload_n hx hb dL_law_232 rfl (lv_at hl 1 rfl) ?_
        have hPc : va_P (dC, dI) vwCl (wX d qx a1 a2 a3 a4 a5 Lr n wd wi wt pts pt pl) H := hP.sub [0, 1, 2, 3, 4, 5] rfl
        have hDc : va_D (fun q : Nat => s.heap.size ≤ q) (wX d qx a1 a2 a3 a4 a5 Lr n wd wi wt pts pt pl) := hD.sub [0, 1, 2, 3, 4, 5] (by decide) rfl
        have hFc := va_free (wc := (wX d qx a1 a2 a3 a4 a5 Lr n wd wi wt pts pt pl)) hD hS hA [0, 1, 2, 3, 4, 5] rfl
        refine va_calli (va_runV (As := []) (rest := []) ⟨hx, hb, hml, hown, hts⟩ (metX1_drop l dC dI d qx a1 a2 a3 a4 a5 Lr n wd wi wt pts pt pl H.size hok) (cwV 0 hts (lw_V q76 q77 q78 q20 q79) rfl rfl rfl (by decide +kernel) ⟨Nat.le_of_ble_eq_true rfl, Nat.le_of_ble_eq_true rfl⟩) ⟨zPw_bl, va_recv hK hPc (ci := 0) (q0 := 0) rfl rfl, fun U hU hW => ⟨rfl, by rw [hU], by rw [hU]; exact hPc, va_K.moved hW.alike hK, hDc.weaken (fun _ _ _ _ => trivial)⟩⟩ rfl rfl hl.1 rfl (lv_room (Nat.le_of_ble_eq_true rfl)) dL_law_233 ⟨Nat.le_of_ble_eq_true rfl, Nat.le_of_ble_eq_true rfl⟩) hS (fun q _ h => hFc q h) hFc (fun r_ u_ t_ H1 locs ht_ hvm_ hw_ hB_ hz_ hk_ hS => ?_)
        obtain ⟨zx, rfl, nx, rfl, hzx⟩ := hw_
        obtain ⟨hP1_, -, hD1_⟩ := hB_
        rw [ht_] at hP1_
        obtain ⟨hP, hD⟩ := va_join (wr := (wM d qm b1 b2 b3 b4 b5 b6 Lr n wd wi wt up dn ch)) (w1 := (wX d qx a1 a2 a3 a4 a5 Lr nx wd wi wt pts pt pl)) hP hD [0, 1, 2, 3, 4, 5] [6, 7, 8, 9, 10, 11, 12] rfl rfl (by decide) (by decide) hk_ hFc hP1_ hD1_
        have hP : va_P (dC, dI) vwCl ((wX d qx a1 a2 a3 a4 a5 Lr nx wd wi wt pts pt pl) ++ (wM d qm b1 b2 b3 b4 b5 b6 Lr n wd wi wt up dn ch)) H1 := hP.sub [7, 8, 9, 10, 11, 12, 0, 1, 2, 3, 4, 5, 6] rfl
        have hD : va_D (fun q : Nat => s.heap.size ≤ q) ((wX d qx a1 a2 a3 a4 a5 Lr nx wd wi wt pts pt pl) ++ (wM d qm b1 b2 b3 b4 b5 b6 Lr n wd wi wt up dn ch)) := hD.sub [7, 8, 9, 10, 11, 12, 0, 1, 2, 3, 4, 5, 6] (by decide) rfl
        clear hD1_ hP1_ hz_ hk_ hFc ht_ hvm_ hDc hPc
        generalize H1 = H at hP hS ⊢
        refine lv_aload_n hx hb dL_law_236 rfl (lv_at hl 2 rfl) ?_
        have hPc : va_P (dC, dI) vwCl (wM d qm b1 b2 b3 b4 b5 b6 Lr n wd wi wt up dn ch) H := hP.sub [6, 7, 8, 9, 10, 11, 12] rfl
        have hDc : va_D (fun q : Nat => s.heap.size ≤ q) (wM d qm b1 b2 b3 b4 b5 b6 Lr n wd wi wt up dn ch) := hD.sub [6, 7, 8, 9, 10, 11, 12] (by decide) rfl
        have hFc := va_free (wc := (wM d qm b1 b2 b3 b4 b5 b6 Lr n wd wi wt up dn ch)) hD hS hA [6, 7, 8, 9, 10, 11, 12] rfl
        refine va_calli (va_runV (As := []) (rest := [.int (jI zx)]) ⟨hx, hb, hml, hown, hts⟩ (metX2_drop l dC dI d qm b1 b2 b3 b4 b5 b6 Lr n wd wi wt up dn ch H.size hok) (cwV 0 hts (lw_V q202 q203 q204 q21 q205) rfl rfl rfl (by decide +kernel) ⟨Nat.le_of_ble_eq_true rfl, Nat.le_of_ble_eq_true rfl⟩) ⟨zPw_bl, va_recv hK hPc (ci := 1) (q0 := 0) rfl rfl, fun U hU hW => ⟨rfl, by rw [hU], by rw [hU]; exact hPc, va_K.moved hW.alike hK, hDc.weaken (fun _ _ _ _ => trivial)⟩⟩ rfl rfl hl.1 rfl (lv_room (Nat.le_of_ble_eq_true rfl)) dL_law_237 ⟨Nat.le_of_ble_eq_true rfl, Nat.le_of_ble_eq_true rfl⟩) hS (fun q _ h => hFc q h) hFc (fun r_ u_ t_ H1 locs ht_ hvm_ hw_ hB_ hz_ hk_ hS => ?_)
        obtain ⟨zm, rfl, nm, rfl, hzm⟩ := hw_
        obtain ⟨hP1_, -, hD1_⟩ := hB_
        rw [ht_] at hP1_
        obtain ⟨hP, hD⟩ := va_join (wr := (wX d qx a1 a2 a3 a4 a5 Lr nx wd wi wt pts pt pl)) (w1 := (wM d qm b1 b2 b3 b4 b5 b6 Lr nm wd wi wt up dn ch)) hP hD [6, 7, 8, 9, 10, 11, 12] [0, 1, 2, 3, 4, 5] rfl rfl (by decide) (by decide) hk_ hFc hP1_ hD1_
        have hP : va_P (dC, dI) vwCl ((wX d qx a1 a2 a3 a4 a5 Lr nx wd wi wt pts pt pl) ++ (wM d qm b1 b2 b3 b4 b5 b6 Lr nm wd wi wt up dn ch)) H1 := hP
        have hD : va_D (fun q : Nat => s.heap.size ≤ q) ((wX d qx a1 a2 a3 a4 a5 Lr nx wd wi wt pts pt pl) ++ (wM d qm b1 b2 b3 b4 b5 b6 Lr nm wd wi wt up dn ch)) := hD
        clear hD1_ hP1_ hz_ hk_ hFc ht_ hvm_ hDc hPc
        generalize H1 = H at hP hS ⊢
        obtain ⟨ez, e0⟩ := Drp_u hzx hzm
        rw [e0] at hP hD
        refine lv_icmp_eq (tgt := 363) hx hb dL_law_240 (by decide) (fun _ => ?_) (fun c_9 => absurd (by rw [ez]) c_9)
        exact nxt nx wd wi wt (Ok_drp hok hzx) pts pt pl up dn ch _ _ hP hD hS ls hl
      · refine lv_tableIn (off := 203) (tgt := 245) hx hb dL_law_42 (by decide) (by decide) (by decide) (by decide) ?_
        refine lv_aload_n hx hb dL_law_245 rfl (lv_at hl 1 rfl) ?_
        have hPc : va_P (dC, dI) vwCl (wX d qx a1 a2 a3 a4 a5 Lr n wd wi wt pts pt pl) H := hP.sub [0, 1, 2, 3, 4, 5] rfl
        have hDc : va_D (fun q : Nat => s.heap.size ≤ q) (wX d qx a1 a2 a3 a4 a5 Lr n wd wi wt pts pt pl) := hD.sub [0, 1, 2, 3, 4, 5] (by decide) rfl
        have hFc := va_free (wc := (wX d qx a1 a2 a3 a4 a5 Lr n wd wi wt pts pt pl)) hD hS hA [0, 1, 2, 3, 4, 5] rfl
        refine va_calli (va_runV (As := []) (rest := []) ⟨hx, hb, hml, hown, hts⟩ (metX1_cost l dC dI d qx a1 a2 a3 a4 a5 Lr n wd wi wt pts pt pl H.size hok) (cwV 0 hts (lw_V q80 q81 q82 q20 q83) rfl rfl rfl (by decide +kernel) ⟨Nat.le_of_ble_eq_true rfl, Nat.le_of_ble_eq_true rfl⟩) ⟨zPw_bl, va_recv hK hPc (ci := 0) (q0 := 0) rfl rfl, fun U hU hW => ⟨rfl, by rw [hU], by rw [hU]; exact hPc, va_K.moved hW.alike hK, hDc.weaken (fun _ _ _ _ => trivial)⟩⟩ rfl rfl hl.1 rfl (lv_room (Nat.le_of_ble_eq_true rfl)) dL_law_246 ⟨Nat.le_of_ble_eq_true rfl, Nat.le_of_ble_eq_true rfl⟩) hS (fun q _ h => hFc q h) hFc (fun r_ u_ t_ H1 locs ht_ hvm_ hw_ hB_ hz_ hk_ hS => ?_)
        obtain ⟨zx, rfl, ptsx, ptx, plx, rfl, hzx⟩ := hw_
        obtain ⟨hP1_, -, hD1_⟩ := hB_
        rw [ht_] at hP1_
        obtain ⟨hP, hD⟩ := va_join (wr := (wM d qm b1 b2 b3 b4 b5 b6 Lr n wd wi wt up dn ch)) (w1 := (wX d qx a1 a2 a3 a4 a5 Lr n wd wi wt ptsx ptx plx)) hP hD [0, 1, 2, 3, 4, 5] [6, 7, 8, 9, 10, 11, 12] rfl rfl (by decide) (by decide) hk_ hFc hP1_ hD1_
        have hP : va_P (dC, dI) vwCl ((wX d qx a1 a2 a3 a4 a5 Lr n wd wi wt ptsx ptx plx) ++ (wM d qm b1 b2 b3 b4 b5 b6 Lr n wd wi wt up dn ch)) H1 := hP.sub [7, 8, 9, 10, 11, 12, 0, 1, 2, 3, 4, 5, 6] rfl
        have hD : va_D (fun q : Nat => s.heap.size ≤ q) ((wX d qx a1 a2 a3 a4 a5 Lr n wd wi wt ptsx ptx plx) ++ (wM d qm b1 b2 b3 b4 b5 b6 Lr n wd wi wt up dn ch)) := hD.sub [7, 8, 9, 10, 11, 12, 0, 1, 2, 3, 4, 5, 6] (by decide) rfl
        clear hD1_ hP1_ hz_ hk_ hFc ht_ hvm_ hDc hPc
        generalize H1 = H at hP hS ⊢
        refine lv_aload_n hx hb dL_law_249 rfl (lv_at hl 2 rfl) ?_
        have hPc : va_P (dC, dI) vwCl (wM d qm b1 b2 b3 b4 b5 b6 Lr n wd wi wt up dn ch) H := hP.sub [6, 7, 8, 9, 10, 11, 12] rfl
        have hDc : va_D (fun q : Nat => s.heap.size ≤ q) (wM d qm b1 b2 b3 b4 b5 b6 Lr n wd wi wt up dn ch) := hD.sub [6, 7, 8, 9, 10, 11, 12] (by decide) rfl
        have hFc := va_free (wc := (wM d qm b1 b2 b3 b4 b5 b6 Lr n wd wi wt up dn ch)) hD hS hA [6, 7, 8, 9, 10, 11, 12] rfl
        refine va_calli (va_runV (As := []) (rest := [.int (jI zx)]) ⟨hx, hb, hml, hown, hts⟩ (metX2_cost l dC dI d qm b1 b2 b3 b4 b5 b6 Lr n wd wi wt up dn ch H.size hok) (cwV 0 hts (lw_V q206 q207 q208 q21 q209) rfl rfl rfl (by decide +kernel) ⟨Nat.le_of_ble_eq_true rfl, Nat.le_of_ble_eq_true rfl⟩) ⟨zPw_bl, va_recv hK hPc (ci := 1) (q0 := 0) rfl rfl, fun U hU hW => ⟨rfl, by rw [hU], by rw [hU]; exact hPc, va_K.moved hW.alike hK, hDc.weaken (fun _ _ _ _ => trivial)⟩⟩ rfl rfl hl.1 rfl (lv_room (Nat.le_of_ble_eq_true rfl)) dL_law_250 ⟨Nat.le_of_ble_eq_true rfl, Nat.le_of_ble_eq_true rfl⟩) hS (fun q _ h => hFc q h) hFc (fun r_ u_ t_ H1 locs ht_ hvm_ hw_ hB_ hz_ hk_ hS => ?_)
        obtain ⟨zm, rfl, upm, dnm, chm, rfl, hzm⟩ := hw_
        obtain ⟨hP1_, -, hD1_⟩ := hB_
        rw [ht_] at hP1_
        obtain ⟨hP, hD⟩ := va_join (wr := (wX d qx a1 a2 a3 a4 a5 Lr n wd wi wt ptsx ptx plx)) (w1 := (wM d qm b1 b2 b3 b4 b5 b6 Lr n wd wi wt upm dnm chm)) hP hD [6, 7, 8, 9, 10, 11, 12] [0, 1, 2, 3, 4, 5] rfl rfl (by decide) (by decide) hk_ hFc hP1_ hD1_
        have hP : va_P (dC, dI) vwCl ((wX d qx a1 a2 a3 a4 a5 Lr n wd wi wt ptsx ptx plx) ++ (wM d qm b1 b2 b3 b4 b5 b6 Lr n wd wi wt upm dnm chm)) H1 := hP
        have hD : va_D (fun q : Nat => s.heap.size ≤ q) ((wX d qx a1 a2 a3 a4 a5 Lr n wd wi wt ptsx ptx plx) ++ (wM d qm b1 b2 b3 b4 b5 b6 Lr n wd wi wt upm dnm chm)) := hD
        clear hD1_ hP1_ hz_ hk_ hFc ht_ hvm_ hDc hPc
        generalize H1 = H at hP hS ⊢
        have ez : zx = zm := Res_u hzx.2 hzm
        refine lv_icmp_eq (tgt := 363) hx hb dL_law_253 (by decide) (fun _ => ?_) (fun c_9 => absurd (by rw [ez]) c_9)
        exact nxt n wd wi wt (hok) ptsx ptx plx upm dnm chm _ _ hP hD hS ls hl
      · refine lv_tableIn (off := 216) (tgt := 258) hx hb dL_law_42 (by decide) (by decide) (by decide) (by decide) ?_
        refine lv_aload_n hx hb dL_law_258 rfl (lv_at hl 1 rfl) ?_
        refine lv_aload_n hx hb dL_law_259 rfl (lv_at hl 0 rfl) ?_
        refine lv_iload_n hx hb dL_law_260 rfl (lv_at hl 3 rfl) ?_
        refine ji_const hx hb dL_law_261 ?_
        refine ji_add hx hb dL_law_262 ?_
        refine ji_sld hx hb hX hbl hbA hS (by omega) hL dL_law_263 ?_
        have hPc : va_P (dC, dI) vwCl (wX d qx a1 a2 a3 a4 a5 Lr n wd wi wt pts pt pl) H := hP.sub [0, 1, 2, 3, 4, 5] rfl
        have hDc : va_D (fun q : Nat => s.heap.size ≤ q) (wX d qx a1 a2 a3 a4 a5 Lr n wd wi wt pts pt pl) := hD.sub [0, 1, 2, 3, 4, 5] (by decide) rfl
        have hFc := va_free (wc := (wX d qx a1 a2 a3 a4 a5 Lr n wd wi wt pts pt pl)) hD hS hA [0, 1, 2, 3, 4, 5] rfl
        refine va_calli (va_runV (As := [.int (jI (sI xs (i + 1)))]) (rest := []) ⟨hx, hb, hml, hown, hts⟩ (metX1_costOf l dC dI d qx a1 a2 a3 a4 a5 Lr n wd wi wt pts pt pl H.size (sI xs (i + 1)) hok (jI_rng _)) (cwV 1 hts (lw_V q103 q104 q105 q20 q106) rfl rfl rfl (by decide +kernel) ⟨Nat.le_of_ble_eq_true rfl, Nat.le_of_ble_eq_true rfl⟩) ⟨zPw_bl, va_recv hK hPc (ci := 0) (q0 := 0) rfl rfl, fun U hU hW => ⟨rfl, by rw [hU], by rw [hU]; exact hPc, va_K.moved hW.alike hK, hDc.weaken (fun _ _ _ _ => trivial)⟩⟩ rfl rfl hl.1 rfl (lv_room (Nat.le_of_ble_eq_true rfl)) dL_law_264 ⟨Nat.le_of_ble_eq_true rfl, Nat.le_of_ble_eq_true rfl⟩) hS (fun q _ h => hFc q h) hFc (fun r_ u_ t_ H1 locs ht_ hvm_ hw_ hB_ hz_ hk_ hS => ?_)
        obtain ⟨zx, rfl, ptsx, ptx, plx, rfl, hzx⟩ := hw_
        obtain ⟨hP1_, -, hD1_⟩ := hB_
        rw [ht_] at hP1_
        obtain ⟨hP, hD⟩ := va_join (wr := (wM d qm b1 b2 b3 b4 b5 b6 Lr n wd wi wt up dn ch)) (w1 := (wX d qx a1 a2 a3 a4 a5 Lr n wd wi wt ptsx ptx plx)) hP hD [0, 1, 2, 3, 4, 5] [6, 7, 8, 9, 10, 11, 12] rfl rfl (by decide) (by decide) hk_ hFc hP1_ hD1_
        have hP : va_P (dC, dI) vwCl ((wX d qx a1 a2 a3 a4 a5 Lr n wd wi wt ptsx ptx plx) ++ (wM d qm b1 b2 b3 b4 b5 b6 Lr n wd wi wt up dn ch)) H1 := hP.sub [7, 8, 9, 10, 11, 12, 0, 1, 2, 3, 4, 5, 6] rfl
        have hD : va_D (fun q : Nat => s.heap.size ≤ q) ((wX d qx a1 a2 a3 a4 a5 Lr n wd wi wt ptsx ptx plx) ++ (wM d qm b1 b2 b3 b4 b5 b6 Lr n wd wi wt up dn ch)) := hD.sub [7, 8, 9, 10, 11, 12, 0, 1, 2, 3, 4, 5, 6] (by decide) rfl
        clear hD1_ hP1_ hz_ hk_ hFc ht_ hvm_ hDc hPc
        generalize H1 = H at hP hS ⊢
        refine lv_aload_n hx hb dL_law_267 rfl (lv_at hl 2 rfl) ?_
        refine lv_aload_n hx hb dL_law_268 rfl (lv_at hl 0 rfl) ?_
        refine lv_iload_n hx hb dL_law_269 rfl (lv_at hl 3 rfl) ?_
        refine ji_const hx hb dL_law_270 ?_
        refine ji_add hx hb dL_law_271 ?_
        refine ji_sld hx hb hX hbl hbA hS (by omega) hL dL_law_272 ?_
        have hPc : va_P (dC, dI) vwCl (wM d qm b1 b2 b3 b4 b5 b6 Lr n wd wi wt up dn ch) H := hP.sub [6, 7, 8, 9, 10, 11, 12] rfl
        have hDc : va_D (fun q : Nat => s.heap.size ≤ q) (wM d qm b1 b2 b3 b4 b5 b6 Lr n wd wi wt up dn ch) := hD.sub [6, 7, 8, 9, 10, 11, 12] (by decide) rfl
        have hFc := va_free (wc := (wM d qm b1 b2 b3 b4 b5 b6 Lr n wd wi wt up dn ch)) hD hS hA [6, 7, 8, 9, 10, 11, 12] rfl
        refine va_calli (va_runV (As := [.int (jI (sI xs (i + 1)))]) (rest := [.int (jI zx)]) ⟨hx, hb, hml, hown, hts⟩ (metX2_costOf l dC dI d qm b1 b2 b3 b4 b5 b6 Lr n wd wi wt up dn ch H.size (sI xs (i + 1)) hok (jI_rng _)) (cwV 1 hts (lw_V q235 q211 q212 q21 q213) rfl rfl rfl (by decide +kernel) ⟨Nat.le_of_ble_eq_true rfl, Nat.le_of_ble_eq_true rfl⟩) ⟨zPw_bl, va_recv hK hPc (ci := 1) (q0 := 0) rfl rfl, fun U hU hW => ⟨rfl, by rw [hU], by rw [hU]; exact hPc, va_K.moved hW.alike hK, hDc.weaken (fun _ _ _ _ => trivial)⟩⟩ rfl rfl hl.1 rfl (lv_room (Nat.le_of_ble_eq_true rfl)) dL_law_273 ⟨Nat.le_of_ble_eq_true rfl, Nat.le_of_ble_eq_true rfl⟩) hS (fun q _ h => hFc q h) hFc (fun r_ u_ t_ H1 locs ht_ hvm_ hw_ hB_ hz_ hk_ hS => ?_)
        obtain ⟨zm, rfl, upm, dnm, chm, rfl, hzm⟩ := hw_
        obtain ⟨hP1_, -, hD1_⟩ := hB_
        rw [ht_] at hP1_
        obtain ⟨hP, hD⟩ := va_join (wr := (wX d qx a1 a2 a3 a4 a5 Lr n wd wi wt ptsx ptx plx)) (w1 := (wM d qm b1 b2 b3 b4 b5 b6 Lr n wd wi wt upm dnm chm)) hP hD [6, 7, 8, 9, 10, 11, 12] [0, 1, 2, 3, 4, 5] rfl rfl (by decide) (by decide) hk_ hFc hP1_ hD1_
        have hP : va_P (dC, dI) vwCl ((wX d qx a1 a2 a3 a4 a5 Lr n wd wi wt ptsx ptx plx) ++ (wM d qm b1 b2 b3 b4 b5 b6 Lr n wd wi wt upm dnm chm)) H1 := hP
        have hD : va_D (fun q : Nat => s.heap.size ≤ q) ((wX d qx a1 a2 a3 a4 a5 Lr n wd wi wt ptsx ptx plx) ++ (wM d qm b1 b2 b3 b4 b5 b6 Lr n wd wi wt upm dnm chm)) := hD
        clear hD1_ hP1_ hz_ hk_ hFc ht_ hvm_ hDc hPc
        generalize H1 = H at hP hS ⊢
        have ez : zx = zm := two_u (fun a b => Res_u) (fun q1 q2 => by omega) (and3 hzx) (and3 hzm)
        refine lv_icmp_eq (tgt := 363) hx hb dL_law_276 (by decide) (fun _ => ?_) (fun c_9 => absurd (by rw [ez]) c_9)
        exact nxt n wd wi wt (hok) ptsx ptx plx upm dnm chm _ _ hP hD hS ls hl
      · refine lv_tableIn (off := 239) (tgt := 281) hx hb dL_law_42 (by decide) (by decide) (by decide) (by decide) ?_
        refine lv_aload_n hx hb dL_law_281 rfl (lv_at hl 1 rfl) ?_
        refine lv_aload_n hx hb dL_law_282 rfl (lv_at hl 0 rfl) ?_
        refine lv_iload_n hx hb dL_law_283 rfl (lv_at hl 3 rfl) ?_
        refine ji_const hx hb dL_law_284 ?_
        refine ji_add hx hb dL_law_285 ?_
        refine ji_sld hx hb hX hbl hbA hS (by omega) hL dL_law_286 ?_
        have hPc : va_P (dC, dI) vwCl (wX d qx a1 a2 a3 a4 a5 Lr n wd wi wt pts pt pl) H := hP.sub [0, 1, 2, 3, 4, 5] rfl
        have hDc : va_D (fun q : Nat => s.heap.size ≤ q) (wX d qx a1 a2 a3 a4 a5 Lr n wd wi wt pts pt pl) := hD.sub [0, 1, 2, 3, 4, 5] (by decide) rfl
        have hFc := va_free (wc := (wX d qx a1 a2 a3 a4 a5 Lr n wd wi wt pts pt pl)) hD hS hA [0, 1, 2, 3, 4, 5] rfl
        refine va_calli (va_runV (As := [.int (jI (sI xs (i + 1)))]) (rest := []) ⟨hx, hb, hml, hown, hts⟩ (metX1_leftmost l dC dI d qx a1 a2 a3 a4 a5 Lr n wd wi wt pts pt pl H.size (sI xs (i + 1)) hok (jI_rng _)) (cwV 1 hts (lw_V q107 q108 q109 q20 q110) rfl rfl rfl (by decide +kernel) ⟨Nat.le_of_ble_eq_true rfl, Nat.le_of_ble_eq_true rfl⟩) ⟨zPw_bl, va_recv hK hPc (ci := 0) (q0 := 0) rfl rfl, fun U hU hW => ⟨rfl, by rw [hU], by rw [hU]; exact hPc, va_K.moved hW.alike hK, hDc.weaken (fun _ _ _ _ => trivial)⟩⟩ rfl rfl hl.1 rfl (lv_room (Nat.le_of_ble_eq_true rfl)) dL_law_287 ⟨Nat.le_of_ble_eq_true rfl, Nat.le_of_ble_eq_true rfl⟩) hS (fun q _ h => hFc q h) hFc (fun r_ u_ t_ H1 locs ht_ hvm_ hw_ hB_ hz_ hk_ hS => ?_)
        obtain ⟨zx, rfl, ptsx, ptx, plx, rfl, hzx⟩ := hw_
        obtain ⟨hP1_, -, hD1_⟩ := hB_
        rw [ht_] at hP1_
        obtain ⟨hP, hD⟩ := va_join (wr := (wM d qm b1 b2 b3 b4 b5 b6 Lr n wd wi wt up dn ch)) (w1 := (wX d qx a1 a2 a3 a4 a5 Lr n wd wi wt ptsx ptx plx)) hP hD [0, 1, 2, 3, 4, 5] [6, 7, 8, 9, 10, 11, 12] rfl rfl (by decide) (by decide) hk_ hFc hP1_ hD1_
        have hP : va_P (dC, dI) vwCl ((wX d qx a1 a2 a3 a4 a5 Lr n wd wi wt ptsx ptx plx) ++ (wM d qm b1 b2 b3 b4 b5 b6 Lr n wd wi wt up dn ch)) H1 := hP.sub [7, 8, 9, 10, 11, 12, 0, 1, 2, 3, 4, 5, 6] rfl
        have hD : va_D (fun q : Nat => s.heap.size ≤ q) ((wX d qx a1 a2 a3 a4 a5 Lr n wd wi wt ptsx ptx plx) ++ (wM d qm b1 b2 b3 b4 b5 b6 Lr n wd wi wt up dn ch)) := hD.sub [7, 8, 9, 10, 11, 12, 0, 1, 2, 3, 4, 5, 6] (by decide) rfl
        clear hD1_ hP1_ hz_ hk_ hFc ht_ hvm_ hDc hPc
        generalize H1 = H at hP hS ⊢
        refine lv_aload_n hx hb dL_law_290 rfl (lv_at hl 2 rfl) ?_
        refine lv_aload_n hx hb dL_law_291 rfl (lv_at hl 0 rfl) ?_
        refine lv_iload_n hx hb dL_law_292 rfl (lv_at hl 3 rfl) ?_
        refine ji_const hx hb dL_law_293 ?_
        refine ji_add hx hb dL_law_294 ?_
        refine ji_sld hx hb hX hbl hbA hS (by omega) hL dL_law_295 ?_
        have hPc : va_P (dC, dI) vwCl (wM d qm b1 b2 b3 b4 b5 b6 Lr n wd wi wt up dn ch) H := hP.sub [6, 7, 8, 9, 10, 11, 12] rfl
        have hDc : va_D (fun q : Nat => s.heap.size ≤ q) (wM d qm b1 b2 b3 b4 b5 b6 Lr n wd wi wt up dn ch) := hD.sub [6, 7, 8, 9, 10, 11, 12] (by decide) rfl
        have hFc := va_free (wc := (wM d qm b1 b2 b3 b4 b5 b6 Lr n wd wi wt up dn ch)) hD hS hA [6, 7, 8, 9, 10, 11, 12] rfl
        refine va_calli (va_runV (As := [.int (jI (sI xs (i + 1)))]) (rest := [.int (jI zx)]) ⟨hx, hb, hml, hown, hts⟩ (metX2_leftmost l dC dI d qm b1 b2 b3 b4 b5 b6 Lr n wd wi wt up dn ch H.size (sI xs (i + 1)) hok (jI_rng _)) (cwV 1 hts (lw_V q236 q237 q238 q21 q239) rfl rfl rfl (by decide +kernel) ⟨Nat.le_of_ble_eq_true rfl, Nat.le_of_ble_eq_true rfl⟩) ⟨zPw_bl, va_recv hK hPc (ci := 1) (q0 := 0) rfl rfl, fun U hU hW => ⟨rfl, by rw [hU], by rw [hU]; exact hPc, va_K.moved hW.alike hK, hDc.weaken (fun _ _ _ _ => trivial)⟩⟩ rfl rfl hl.1 rfl (lv_room (Nat.le_of_ble_eq_true rfl)) dL_law_296 ⟨Nat.le_of_ble_eq_true rfl, Nat.le_of_ble_eq_true rfl⟩) hS (fun q _ h => hFc q h) hFc (fun r_ u_ t_ H1 locs ht_ hvm_ hw_ hB_ hz_ hk_ hS => ?_)
        obtain ⟨zm, rfl, upm, dnm, chm, rfl, hzm⟩ := hw_
        obtain ⟨hP1_, -, hD1_⟩ := hB_
        rw [ht_] at hP1_
        obtain ⟨hP, hD⟩ := va_join (wr := (wX d qx a1 a2 a3 a4 a5 Lr n wd wi wt ptsx ptx plx)) (w1 := (wM d qm b1 b2 b3 b4 b5 b6 Lr n wd wi wt upm dnm chm)) hP hD [6, 7, 8, 9, 10, 11, 12] [0, 1, 2, 3, 4, 5] rfl rfl (by decide) (by decide) hk_ hFc hP1_ hD1_
        have hP : va_P (dC, dI) vwCl ((wX d qx a1 a2 a3 a4 a5 Lr n wd wi wt ptsx ptx plx) ++ (wM d qm b1 b2 b3 b4 b5 b6 Lr n wd wi wt upm dnm chm)) H1 := hP
        have hD : va_D (fun q : Nat => s.heap.size ≤ q) ((wX d qx a1 a2 a3 a4 a5 Lr n wd wi wt ptsx ptx plx) ++ (wM d qm b1 b2 b3 b4 b5 b6 Lr n wd wi wt upm dnm chm)) := hD
        clear hD1_ hP1_ hz_ hk_ hFc ht_ hvm_ hDc hPc
        generalize H1 = H at hP hS ⊢
        have ez : zx = zm := by
          rcases hzx with q1 | q1 <;> rcases hzm with q2 | q2
          · omega
          · omega
          · omega
          · exact Lmo_u ⟨q1.1, q1.2.1⟩ q1.2.2 q2.2.2
        refine lv_icmp_eq (tgt := 363) hx hb dL_law_299 (by decide) (fun _ => ?_) (fun c_9 => absurd (by rw [ez]) c_9)
        exact nxt n wd wi wt (hok) ptsx ptx plx upm dnm chm _ _ hP hD hS ls hl
      · refine lv_tableIn (off := 262) (tgt := 304) hx hb dL_law_42 (by decide) (by decide) (by decide) (by decide) ?_
        refine lv_aload_n hx hb dL_law_304 rfl (lv_at hl 1 rfl) ?_
        refine lv_aload_n hx hb dL_law_305 rfl (lv_at hl 0 rfl) ?_
        refine lv_iload_n hx hb dL_law_306 rfl (lv_at hl 3 rfl) ?_
        refine ji_const hx hb dL_law_307 ?_
        refine ji_add hx hb dL_law_308 ?_
        refine ji_sld hx hb hX hbl hbA hS (by omega) hL dL_law_309 ?_
        refine lv_aload_n hx hb dL_law_310 rfl (lv_at hl 0 rfl) ?_
        refine lv_iload_n hx hb dL_law_311 rfl (lv_at hl 3 rfl) ?_
        refine ji_const hx hb dL_law_312 ?_
        refine ji_add hx hb dL_law_313 ?_
        refine ji_sld hx hb hX hbl hbA hS (by omega) hL dL_law_314 ?_
        have hPc : va_P (dC, dI) vwCl (wX d qx a1 a2 a3 a4 a5 Lr n wd wi wt pts pt pl) H := hP.sub [0, 1, 2, 3, 4, 5] rfl
        have hDc : va_D (fun q : Nat => s.heap.size ≤ q) (wX d qx a1 a2 a3 a4 a5 Lr n wd wi wt pts pt pl) := hD.sub [0, 1, 2, 3, 4, 5] (by decide) rfl
        have hFc := va_free (wc := (wX d qx a1 a2 a3 a4 a5 Lr n wd wi wt pts pt pl)) hD hS hA [0, 1, 2, 3, 4, 5] rfl
        refine va_calli (va_runV (As := [.int (jI (sI xs (i + 1))), .int (jI (sI xs (i + 2)))]) (rest := []) ⟨hx, hb, hml, hown, hts⟩ (metX1_costAt l dC dI d qx a1 a2 a3 a4 a5 Lr n wd wi wt pts pt pl H.size (sI xs (i + 1)) (sI xs (i + 2)) hok (jI_rng _) (jI_rng _)) (cwV 2 hts (lw_V q124 q125 q126 q20 q127) rfl rfl rfl (by decide +kernel) ⟨Nat.le_of_ble_eq_true rfl, Nat.le_of_ble_eq_true rfl⟩) ⟨zPw_bl, va_recv hK hPc (ci := 0) (q0 := 0) rfl rfl, fun U hU hW => ⟨rfl, by rw [hU], by rw [hU]; exact hPc, va_K.moved hW.alike hK, hDc.weaken (fun _ _ _ _ => trivial)⟩⟩ rfl rfl hl.1 rfl (lv_room (Nat.le_of_ble_eq_true rfl)) dL_law_315 ⟨Nat.le_of_ble_eq_true rfl, Nat.le_of_ble_eq_true rfl⟩) hS (fun q _ h => hFc q h) hFc (fun r_ u_ t_ H1 locs ht_ hvm_ hw_ hB_ hz_ hk_ hS => ?_)
        obtain ⟨zx, rfl, ptsx, ptx, plx, rfl, hzx⟩ := hw_
        obtain ⟨hP1_, -, hD1_⟩ := hB_
        rw [ht_] at hP1_
        obtain ⟨hP, hD⟩ := va_join (wr := (wM d qm b1 b2 b3 b4 b5 b6 Lr n wd wi wt up dn ch)) (w1 := (wX d qx a1 a2 a3 a4 a5 Lr n wd wi wt ptsx ptx plx)) hP hD [0, 1, 2, 3, 4, 5] [6, 7, 8, 9, 10, 11, 12] rfl rfl (by decide) (by decide) hk_ hFc hP1_ hD1_
        have hP : va_P (dC, dI) vwCl ((wX d qx a1 a2 a3 a4 a5 Lr n wd wi wt ptsx ptx plx) ++ (wM d qm b1 b2 b3 b4 b5 b6 Lr n wd wi wt up dn ch)) H1 := hP.sub [7, 8, 9, 10, 11, 12, 0, 1, 2, 3, 4, 5, 6] rfl
        have hD : va_D (fun q : Nat => s.heap.size ≤ q) ((wX d qx a1 a2 a3 a4 a5 Lr n wd wi wt ptsx ptx plx) ++ (wM d qm b1 b2 b3 b4 b5 b6 Lr n wd wi wt up dn ch)) := hD.sub [7, 8, 9, 10, 11, 12, 0, 1, 2, 3, 4, 5, 6] (by decide) rfl
        clear hD1_ hP1_ hz_ hk_ hFc ht_ hvm_ hDc hPc
        generalize H1 = H at hP hS ⊢
        refine lv_aload_n hx hb dL_law_318 rfl (lv_at hl 2 rfl) ?_
        refine lv_aload_n hx hb dL_law_319 rfl (lv_at hl 0 rfl) ?_
        refine lv_iload_n hx hb dL_law_320 rfl (lv_at hl 3 rfl) ?_
        refine ji_const hx hb dL_law_321 ?_
        refine ji_add hx hb dL_law_322 ?_
        refine ji_sld hx hb hX hbl hbA hS (by omega) hL dL_law_323 ?_
        refine lv_aload_n hx hb dL_law_324 rfl (lv_at hl 0 rfl) ?_
        refine lv_iload_n hx hb dL_law_325 rfl (lv_at hl 3 rfl) ?_
        refine ji_const hx hb dL_law_326 ?_
        refine ji_add hx hb dL_law_327 ?_
        refine ji_sld hx hb hX hbl hbA hS (by omega) hL dL_law_328 ?_
        have hPc : va_P (dC, dI) vwCl (wM d qm b1 b2 b3 b4 b5 b6 Lr n wd wi wt up dn ch) H := hP.sub [6, 7, 8, 9, 10, 11, 12] rfl
        have hDc : va_D (fun q : Nat => s.heap.size ≤ q) (wM d qm b1 b2 b3 b4 b5 b6 Lr n wd wi wt up dn ch) := hD.sub [6, 7, 8, 9, 10, 11, 12] (by decide) rfl
        have hFc := va_free (wc := (wM d qm b1 b2 b3 b4 b5 b6 Lr n wd wi wt up dn ch)) hD hS hA [6, 7, 8, 9, 10, 11, 12] rfl
        refine va_calli (va_runV (As := [.int (jI (sI xs (i + 1))), .int (jI (sI xs (i + 2)))]) (rest := [.int (jI zx)]) ⟨hx, hb, hml, hown, hts⟩ (metX2_costAt l dC dI d qm b1 b2 b3 b4 b5 b6 Lr n wd wi wt up dn ch H.size (sI xs (i + 1)) (sI xs (i + 2)) hok (jI_rng _) (jI_rng _)) (cwV 2 hts (lw_V q240 q241 q242 q21 q243) rfl rfl rfl (by decide +kernel) ⟨Nat.le_of_ble_eq_true rfl, Nat.le_of_ble_eq_true rfl⟩) ⟨zPw_bl, va_recv hK hPc (ci := 1) (q0 := 0) rfl rfl, fun U hU hW => ⟨rfl, by rw [hU], by rw [hU]; exact hPc, va_K.moved hW.alike hK, hDc.weaken (fun _ _ _ _ => trivial)⟩⟩ rfl rfl hl.1 rfl (lv_room (Nat.le_of_ble_eq_true rfl)) dL_law_329 ⟨Nat.le_of_ble_eq_true rfl, Nat.le_of_ble_eq_true rfl⟩) hS (fun q _ h => hFc q h) hFc (fun r_ u_ t_ H1 locs ht_ hvm_ hw_ hB_ hz_ hk_ hS => ?_)
        obtain ⟨zm, rfl, upm, dnm, chm, rfl, hzm⟩ := hw_
        obtain ⟨hP1_, -, hD1_⟩ := hB_
        rw [ht_] at hP1_
        obtain ⟨hP, hD⟩ := va_join (wr := (wX d qx a1 a2 a3 a4 a5 Lr n wd wi wt ptsx ptx plx)) (w1 := (wM d qm b1 b2 b3 b4 b5 b6 Lr n wd wi wt upm dnm chm)) hP hD [6, 7, 8, 9, 10, 11, 12] [0, 1, 2, 3, 4, 5] rfl rfl (by decide) (by decide) hk_ hFc hP1_ hD1_
        have hP : va_P (dC, dI) vwCl ((wX d qx a1 a2 a3 a4 a5 Lr n wd wi wt ptsx ptx plx) ++ (wM d qm b1 b2 b3 b4 b5 b6 Lr n wd wi wt upm dnm chm)) H1 := hP
        have hD : va_D (fun q : Nat => s.heap.size ≤ q) ((wX d qx a1 a2 a3 a4 a5 Lr n wd wi wt ptsx ptx plx) ++ (wM d qm b1 b2 b3 b4 b5 b6 Lr n wd wi wt upm dnm chm)) := hD
        clear hD1_ hP1_ hz_ hk_ hFc ht_ hvm_ hDc hPc
        generalize H1 = H at hP hS ⊢
        have ez : zx = zm := two_u (fun a b => Res_u) (fun q1 q2 => by omega) (and3 hzx) (and3 hzm)
        refine lv_icmp_eq (tgt := 363) hx hb dL_law_332 (by decide) (fun _ => ?_) (fun c_9 => absurd (by rw [ez]) c_9)
        exact nxt n wd wi wt (hok) ptsx ptx plx upm dnm chm _ _ hP hD hS ls hl
      · refine lv_tableIn (off := 295) (tgt := 337) hx hb dL_law_42 (by decide) (by decide) (by decide) (by decide) ?_
        refine lv_aload_n hx hb dL_law_337 rfl (lv_at hl 1 rfl) ?_
        have hPc : va_P (dC, dI) vwCl (wX d qx a1 a2 a3 a4 a5 Lr n wd wi wt pts pt pl) H := hP.sub [0, 1, 2, 3, 4, 5] rfl
        refine vp_callSi (W.runV (As := []) (rest := []) ⟨hx, hb, hml, hown, hts⟩ (metX1_room l dC dI d qx a1 a2 a3 a4 a5 Lr n wd wi wt pts pt pl hok) (cwV 0 hts (lw_V q128 q129 q130 q20 q131) rfl rfl rfl (by decide +kernel) ⟨Nat.le_of_ble_eq_true rfl, Nat.le_of_ble_eq_true rfl⟩) ⟨zPp_bl, va_recv hK hPc (ci := 0) (q0 := 0) rfl rfl, fun U hU hW => ⟨rfl, by rw [hU]; exact hPc, va_K.moved hW.alike hK⟩⟩ rfl rfl hl.1 rfl (lv_room (Nat.le_of_ble_eq_true rfl)) dL_law_338 ⟨Nat.le_of_ble_eq_true rfl, Nat.le_of_ble_eq_true rfl⟩) (fun r_ hr_ => ?_)
        obtain ⟨zx, rfl, hzx⟩ := hr_
        refine lv_aload_n hx hb dL_law_341 rfl (lv_at hl 2 rfl) ?_
        have hPc : va_P (dC, dI) vwCl (wM d qm b1 b2 b3 b4 b5 b6 Lr n wd wi wt up dn ch) H := hP.sub [6, 7, 8, 9, 10, 11, 12] rfl
        refine vp_callSi (W.runV (As := []) (rest := [.int (jI zx)]) ⟨hx, hb, hml, hown, hts⟩ (metX2_room l dC dI d qm b1 b2 b3 b4 b5 b6 Lr n wd wi wt up dn ch hok) (cwV 0 hts (lw_V q248 q249 q250 q21 q251) rfl rfl rfl (by decide +kernel) ⟨Nat.le_of_ble_eq_true rfl, Nat.le_of_ble_eq_true rfl⟩) ⟨zPp_bl, va_recv hK hPc (ci := 1) (q0 := 0) rfl rfl, fun U hU hW => ⟨rfl, by rw [hU]; exact hPc, va_K.moved hW.alike hK⟩⟩ rfl rfl hl.1 rfl (lv_room (Nat.le_of_ble_eq_true rfl)) dL_law_342 ⟨Nat.le_of_ble_eq_true rfl, Nat.le_of_ble_eq_true rfl⟩) (fun r_ hr_ => ?_)
        obtain ⟨zm, rfl, hzm⟩ := hr_
        have ez : zx = zm := by omega
        refine lv_icmp_eq (tgt := 363) hx hb dL_law_345 (by decide) (fun _ => ?_) (fun c_9 => absurd (by rw [ez]) c_9)
        exact nxt n wd wi wt (hok) pts pt pl up dn ch _ _ hP hD hS ls hl
      · refine lv_tableIn (off := 308) (tgt := 350) hx hb dL_law_42 (by decide) (by decide) (by decide) (by decide) ?_
        refine lv_aload_n hx hb dL_law_350 rfl (lv_at hl 1 rfl) ?_
        have hPc : va_P (dC, dI) vwCl (wX d qx a1 a2 a3 a4 a5 Lr n wd wi wt pts pt pl) H := hP.sub [0, 1, 2, 3, 4, 5] rfl
        have hDc : va_D (fun q : Nat => s.heap.size ≤ q) (wX d qx a1 a2 a3 a4 a5 Lr n wd wi wt pts pt pl) := hD.sub [0, 1, 2, 3, 4, 5] (by decide) rfl
        have hFc := va_free (wc := (wX d qx a1 a2 a3 a4 a5 Lr n wd wi wt pts pt pl)) hD hS hA [0, 1, 2, 3, 4, 5] rfl
        refine va_calli (va_runV (As := []) (rest := []) ⟨hx, hb, hml, hown, hts⟩ (metX1_content l dC dI d qx a1 a2 a3 a4 a5 Lr n wd wi wt pts pt pl H.size hok) (cwV 0 hts (lw_V q132 q133 q134 q20 q135) rfl rfl rfl (by decide +kernel) ⟨Nat.le_of_ble_eq_true rfl, Nat.le_of_ble_eq_true rfl⟩) ⟨zPw_bl, va_recv hK hPc (ci := 0) (q0 := 0) rfl rfl, fun U hU hW => ⟨rfl, by rw [hU], by rw [hU]; exact hPc, va_K.moved hW.alike hK, hDc.weaken (fun _ _ _ _ => trivial)⟩⟩ rfl rfl hl.1 rfl (lv_room (Nat.le_of_ble_eq_true rfl)) dL_law_351 ⟨Nat.le_of_ble_eq_true rfl, Nat.le_of_ble_eq_true rfl⟩) hS (fun q _ h => hFc q h) hFc (fun r_ u_ t_ H1 locs ht_ hvm_ hw_ hB_ hz_ hk_ hS => ?_)
        obtain ⟨zx, rfl, ptsx, ptx, plx, rfl, hzx⟩ := hw_
        obtain ⟨hP1_, -, hD1_⟩ := hB_
        rw [ht_] at hP1_
        obtain ⟨hP, hD⟩ := va_join (wr := (wM d qm b1 b2 b3 b4 b5 b6 Lr n wd wi wt up dn ch)) (w1 := (wX d qx a1 a2 a3 a4 a5 Lr n wd wi wt ptsx ptx plx)) hP hD [0, 1, 2, 3, 4, 5] [6, 7, 8, 9, 10, 11, 12] rfl rfl (by decide) (by decide) hk_ hFc hP1_ hD1_
        have hP : va_P (dC, dI) vwCl ((wX d qx a1 a2 a3 a4 a5 Lr n wd wi wt ptsx ptx plx) ++ (wM d qm b1 b2 b3 b4 b5 b6 Lr n wd wi wt up dn ch)) H1 := hP.sub [7, 8, 9, 10, 11, 12, 0, 1, 2, 3, 4, 5, 6] rfl
        have hD : va_D (fun q : Nat => s.heap.size ≤ q) ((wX d qx a1 a2 a3 a4 a5 Lr n wd wi wt ptsx ptx plx) ++ (wM d qm b1 b2 b3 b4 b5 b6 Lr n wd wi wt up dn ch)) := hD.sub [7, 8, 9, 10, 11, 12, 0, 1, 2, 3, 4, 5, 6] (by decide) rfl
        clear hD1_ hP1_ hz_ hk_ hFc ht_ hvm_ hDc hPc
        generalize H1 = H at hP hS ⊢
        refine lv_aload_n hx hb dL_law_354 rfl (lv_at hl 2 rfl) ?_
        have hPc : va_P (dC, dI) vwCl (wM d qm b1 b2 b3 b4 b5 b6 Lr n wd wi wt up dn ch) H := hP.sub [6, 7, 8, 9, 10, 11, 12] rfl
        refine vp_callSi (W.runV (As := []) (rest := [.int (jI zx)]) ⟨hx, hb, hml, hown, hts⟩ (metX2_content l dC dI d qm b1 b2 b3 b4 b5 b6 Lr n wd wi wt up dn ch hok) (cwV 0 hts (lw_V q252 q253 q254 q21 q255) rfl rfl rfl (by decide +kernel) ⟨Nat.le_of_ble_eq_true rfl, Nat.le_of_ble_eq_true rfl⟩) ⟨zPp_bl, va_recv hK hPc (ci := 1) (q0 := 0) rfl rfl, fun U hU hW => ⟨rfl, by rw [hU]; exact hPc, va_K.moved hW.alike hK⟩⟩ rfl rfl hl.1 rfl (lv_room (Nat.le_of_ble_eq_true rfl)) dL_law_355 ⟨Nat.le_of_ble_eq_true rfl, Nat.le_of_ble_eq_true rfl⟩) (fun r_ hr_ => ?_)
        obtain ⟨zm, rfl, hzm⟩ := hr_
        have ez : zx = zm := Mx_u hzx hzm
        refine lv_icmp_eq (tgt := 363) hx hb dL_law_358 (by decide) (fun _ => ?_) (fun c_9 => absurd (by rw [ez]) c_9)
        exact nxt n wd wi wt (hok) ptsx ptx plx up dn ch _ _ hP hD hS ls hl
      · refine lv_tableOut (tgt := 363) hx hb dL_law_42 (by decide) (by decide) ?_
        exact nxt n wd wi wt hok pts pt pl up dn ch _ _ hP hD hS ls hl
      · refine lv_tableOut (tgt := 363) hx hb dL_law_42 (by decide) (by decide) ?_
        exact nxt n wd wi wt hok pts pt pl up dn ch _ _ hP hD hS ls hl
      · refine lv_tableOut (tgt := 363) hx hb dL_law_42 (by decide) (by decide) ?_
        exact nxt n wd wi wt hok pts pt pl up dn ch _ _ hP hD hS ls hl
      · refine lv_tableOut (tgt := 363) hx hb dL_law_42 (by decide) (by decide) ?_
        exact nxt n wd wi wt hok pts pt pl up dn ch _ _ hP hD hS ls hl
      · refine lv_tableOut (tgt := 363) hx hb dL_law_42 (by decide) (by decide) ?_
        exact nxt n wd wi wt hok pts pt pl up dn ch _ _ hP hD hS ls hl
end
section
set_option maxHeartbeats 16000000 in
set_option maxRecDepth 100000 in
/-- YOUR PART: from the entry, for every script of at most 257 ints, the law comes to its end with true -/
theorem whole_start {p : Program} {e : Env} {s : State} {m : MethodId} {below : List Frame} {meth : Method} {c : Code} (l : Launch) {b L : Nat} {xs : Nat → Int32} (hL : L ≤ 257) (C0 : lw_At p s m meth c b L xs) : W p l e room_1 s m #[Value.ref b] below meth c s.heap [] 0 0 (lw_Z below #[Value.ref b] s) (entryFrame m ([Value.ref b] : List Value).toArray 4) := by
  obtain ⟨hx, hb, hr, hml, hown, hts0, hX, hbl, hlocks, hgv⟩ := id C0
  have hts : ∀ w ∈ lw_all, w.before #[Value.ref b] s = true := fun w h => hts0 w (lw_all_tbl h)
  have hA : ∀ q : Nat, s.heap.size ≤ q → (fun q : Nat => s.heap.size ≤ q) q := fun _ h => h
  have hbA : ¬ (fun q : Nat => s.heap.size ≤ q) b := Nat.not_le.mpr hbl
  obtain ⟨c0_, iS0, hKn0⟩ := u_known (C := RX1) (T := TX1) (N := 8) (n := 8) hts in_X1 (hts _ q23)
  obtain ⟨c1_, iS1, hKn1⟩ := u_known (C := RX2) (T := TX2) (N := 8) (n := 8) hts in_X2 (hts _ q144)
  obtain ⟨dC, dI, hKc⟩ : ∃ (dC : Nat → ClassId) (dI : Nat → Nat → Nat), ∀ (k : Nat) (q : vw_C), vwCl[k]? = some q → u_Kn s q.1 q.2.1 q.2.2 (dC k) (dI k) := by
    refine ⟨fun k => if k = 0 then c0_ else c1_, fun k => if k = 0 then iS0 else iS1, ?_⟩
    intro k q hq
    match k, hq with
    | 0, hq => cases hq; exact hKn0
    | 1, hq => cases hq; exact hKn1
    | k + 2, hq => simp [vwCl] at hq
  have hS : va_S (fun q : Nat => s.heap.size ≤ q) s.heap s.heap [] := va_S.rf
  have hK : va_K (dC, dI) vwCl [] s := ⟨hKc, fun k q h => by simp at h⟩
  have hP : va_P (dC, dI) vwCl [] s.heap := fun k q h => by simp at h
  have hD : va_D (fun q : Nat => s.heap.size ≤ q) [] := ⟨fun i j p q h => by simp at h, fun k q h => by simp at h⟩
  have hl := lv_entry ([.ref b]) (n := 4) (Nat.le_of_ble_eq_true rfl)
  rw [lg_entry_eq]
  generalize (lg_sl ([.ref b]) ++ List.replicate (4 - (lg_sl ([.ref b])).length) Slot.unset).toArray = ls at hl ⊢
  have hl : lv_has ls 4 [(0, .ref b)] := hl
  have hXH : ∀ {H : Heap} {locs : List Loc}, va_S (fun q : Nat => s.heap.size ≤ q) s.heap H locs → va_X b L xs s H := fun h => hX.kept (h.2.1 b hbl hbA)
  refine va_new (ci := 0) (fs := [.int (jI 0), .int (jI 0), .null, .null, .null, .int (jI 0), .null, .null]) (C := RX1) (T := TX1) (N := 8) hx hb hts in_X1 tyX1 tyX1_ok hown (hts _ q22) (hts _ q23) (hts _ q20) hK hP hD hS hA rfl (fun j hj => by rcases (show j = 0 ∨ j = 1 ∨ j = 2 ∨ j = 3 ∨ j = 4 ∨ j = 5 ∨ j = 6 ∨ j = 7 by omega) with rfl | rfl | rfl | rfl | rfl | rfl | rfl | rfl <;> rfl) (Nat.le_of_ble_eq_true rfl) (Nat.le_of_ble_eq_true rfl) dL_law_0 (fun qx H hP hD hS => ?_)
  have hP : va_P (dC, dI) vwCl ([(qx, .inr (0, [.int (jI 0), .int (jI 0), .null, .null, .null, .int (jI 0), .null, .null]))]) H := hP
  have hD : va_D (fun q : Nat => s.heap.size ≤ q) ([(qx, .inr (0, [.int (jI 0), .int (jI 0), .null, .null, .null, .int (jI 0), .null, .null]))]) := hD
  refine W.widen (k := 1) (n := 8) (by omega) (by omega) ?_
  refine lv_dup hx hb dL_law_3 rfl ?_
  refine lv_aload_n hx hb dL_law_4 rfl (lv_at hl 0 rfl) ?_
  refine ji_const hx hb dL_law_5 ?_
  refine vp_callSi (W.runS (As := [.ref b, .int (jI 0)]) (rest := [.ref qx, .ref qx]) ⟨hx, hb, hml, hown, hts⟩ (metX0_cell l b L xs hL) (va_cwS 2 hts (lw_S q140 q141 q19 q142) rfl rfl rfl (by decide +kernel) ⟨Nat.le_of_ble_eq_true rfl, Nat.le_of_ble_eq_true rfl⟩) ⟨fun a U g mk q => ⟨q.1, va_X.moved (u := U) (U := U.calling g mk a) (Vm.Alike.refl U.vm) q.2⟩, fun U hU hW => ⟨rfl, by show va_X b L xs U U.heap; rw [hU]; exact va_X.moved hW.alike (hXH hS)⟩⟩ rfl rfl hl.1 rfl (lv_room (Nat.le_of_ble_eq_true rfl)) dL_law_6 ⟨Nat.le_of_ble_eq_true rfl, Nat.le_of_ble_eq_true rfl⟩) (fun r_ hr_ => ?_)
  rw [hr_]
  have hPc : va_P (dC, dI) vwCl [(qx, .inr (0, [.int (jI 0), .int (jI 0), .null, .null, .null, .int (jI 0), .null, .null]))] H := hP.sub [0] rfl
  have hDc : va_D (fun q : Nat => s.heap.size ≤ q) [(qx, .inr (0, [.int (jI 0), .int (jI 0), .null, .null, .null, .int (jI 0), .null, .null]))] := hD.sub [0] (by decide) rfl
  have hKc0 : va_K (dC, dI) vwCl [] s := hK.sub [] rfl
  have hFc := va_free (wc := [(qx, .inr (0, [.int (jI 0), .int (jI 0), .null, .null, .null, .int (jI 0), .null, .null]))]) hD hS hA [0] rfl
  refine va_callv (va_runI (As := [.int (jI (c0 L xs))]) (rest := [.ref qx]) ⟨hx, hb, hml, hown, hts⟩ (metX1_init l dC dI qx H.size (c0 L xs) (c0_rng L xs)) (cwI 1 hts (lw_meth q26) rfl rfl rfl (hts _ q20) (hts _ q24) (hts _ q25) rfl (by decide +kernel) ⟨Nat.le_of_ble_eq_true rfl, Nat.le_of_ble_eq_true rfl⟩) ⟨fun a U g mk q => by obtain ⟨q0, q1, qP, qK, qD⟩ := q; exact ⟨q0, q1, qP, va_K.moved (u := U) (U := U.calling g mk a) (Vm.Alike.refl U.vm) qK, qD⟩, fun U hU hW => ⟨rfl, by rw [hU], by rw [hU]; exact hPc, va_K.moved hW.alike hKc0, hDc.weaken (fun _ _ _ _ => trivial)⟩⟩ rfl rfl hl.1 rfl (lv_room (Nat.le_of_ble_eq_true rfl)) dL_law_9 ⟨Nat.le_of_ble_eq_true rfl, Nat.le_of_ble_eq_true rfl⟩) hS (fun q _ h => hFc q h) hFc (fun u_ t_ H1 locs ht_ hvm_ hw_ hB_ hz_ hk_ hS => ?_)
  obtain ⟨d, a1, a2, a3, a4, a5⟩ := u_
  obtain ⟨hP1_, hK1_, hD1_⟩ := hB_
  rw [ht_] at hP1_
  have hK1_ := va_K.moved hvm_.symm hK1_
  have hK : va_K (dC, dI) vwCl [(d, .int)] s := hK1_
  obtain ⟨hP, hD⟩ := va_join (wr := []) (w1 := (wX d qx a1 a2 a3 a4 a5 (cL (c0 L xs)) 0 (fun _ => 0) (fun _ => 0) (fun _ => 0) 0 (fun _ => 0) (fun _ => 0))) hP hD [0] [] rfl rfl (by decide) (by decide) hk_ hFc hP1_ hD1_
  generalize H1 = H at hP hS ⊢
  have hP : va_P (dC, dI) vwCl (wX d qx a1 a2 a3 a4 a5 (cL (c0 L xs)) 0 (fun _ => 0) (fun _ => 0) (fun _ => 0) 0 (fun _ => 0) (fun _ => 0)) H := hP
  have hD : va_D (fun q : Nat => s.heap.size ≤ q) (wX d qx a1 a2 a3 a4 a5 (cL (c0 L xs)) 0 (fun _ => 0) (fun _ => 0) (fun _ => 0) 0 (fun _ => 0) (fun _ => 0)) := hD
  refine W.widen (k := 6) (n := 112) (by omega) (by omega) ?_
  refine lv_astore_n (lv' := [(1, .ref qx), (0, .ref b)]) hx hb dL_law_12 rfl hl (by decide) rfl (fun ls hl => ?_)
  clear hD1_ hP1_ hK1_ hz_ hk_ hFc ht_ hvm_ hDc hPc hw_
  refine va_new (ci := 1) (fs := [.int (jI 0), .int (jI 0), .null, .null, .null, .null, .null, .null]) (C := RX2) (T := TX2) (N := 8) hx hb hts in_X2 tyX2 tyX2_ok hown (hts _ q143) (hts _ q144) (hts _ q21) hK hP hD hS hA rfl (fun j hj => by rcases (show j = 0 ∨ j = 1 ∨ j = 2 ∨ j = 3 ∨ j = 4 ∨ j = 5 ∨ j = 6 ∨ j = 7 by omega) with rfl | rfl | rfl | rfl | rfl | rfl | rfl | rfl <;> rfl) (Nat.le_of_ble_eq_true rfl) (Nat.le_of_ble_eq_true rfl) dL_law_13 (fun qm H hP hD hS => ?_)
  have hP : va_P (dC, dI) vwCl ((wX d qx a1 a2 a3 a4 a5 (cL (c0 L xs)) 0 (fun _ => 0) (fun _ => 0) (fun _ => 0) 0 (fun _ => 0) (fun _ => 0)) ++ [(qm, .inr (1, [.int (jI 0), .int (jI 0), .null, .null, .null, .null, .null, .null]))]) H := hP
  have hD : va_D (fun q : Nat => s.heap.size ≤ q) ((wX d qx a1 a2 a3 a4 a5 (cL (c0 L xs)) 0 (fun _ => 0) (fun _ => 0) (fun _ => 0) 0 (fun _ => 0) (fun _ => 0)) ++ [(qm, .inr (1, [.int (jI 0), .int (jI 0), .null, .null, .null, .null, .null, .null]))]) := hD
  refine W.widen (k := 7) (n := 120) (by omega) (by omega) ?_
  refine lv_dup hx hb dL_law_16 rfl ?_
  refine lv_aload_n hx hb dL_law_17 rfl (lv_at hl 1 rfl) ?_
  refine ji_const hx hb dL_law_18 ?_
  refine vp_callSi (W.runS (As := [.ref b, .int (jI 0)]) (rest := [.ref qm, .ref qm]) ⟨hx, hb, hml, hown, hts⟩ (metX0_cell l b L xs hL) (va_cwS 2 hts (lw_S q140 q141 q19 q142) rfl rfl rfl (by decide +kernel) ⟨Nat.le_of_ble_eq_true rfl, Nat.le_of_ble_eq_true rfl⟩) ⟨fun a U g mk q => ⟨q.1, va_X.moved (u := U) (U := U.calling g mk a) (Vm.Alike.refl U.vm) q.2⟩, fun U hU hW => ⟨rfl, by show va_X b L xs U U.heap; rw [hU]; exact va_X.moved hW.alike (hXH hS)⟩⟩ rfl rfl hl.1 rfl (lv_room (Nat.le_of_ble_eq_true rfl)) dL_law_19 ⟨Nat.le_of_ble_eq_true rfl, Nat.le_of_ble_eq_true rfl⟩) (fun r_ hr_ => ?_)
  rw [hr_]
  have hPc : va_P (dC, dI) vwCl [(qm, .inr (1, [.int (jI 0), .int (jI 0), .null, .null, .null, .null, .null, .null]))] H := hP.sub [6] rfl
  have hDc : va_D (fun q : Nat => s.heap.size ≤ q) [(qm, .inr (1, [.int (jI 0), .int (jI 0), .null, .null, .null, .null, .null, .null]))] := hD.sub [6] (by decide) rfl
  have hKc0 : va_K (dC, dI) vwCl [] s := hK.sub [] rfl
  have hFc := va_free (wc := [(qm, .inr (1, [.int (jI 0), .int (jI 0), .null, .null, .null, .null, .null, .null]))]) hD hS hA [6] rfl
  refine va_callv (va_runI (As := [.int (jI (c0 L xs))]) (rest := [.ref qm]) ⟨hx, hb, hml, hown, hts⟩ (metX2_init l dC dI qm H.size (c0 L xs) (c0_rng L xs)) (cwI 1 hts (lw_meth q147) rfl rfl rfl (hts _ q21) (hts _ q145) (hts _ q146) rfl (by decide +kernel) ⟨Nat.le_of_ble_eq_true rfl, Nat.le_of_ble_eq_true rfl⟩) ⟨fun a U g mk q => by obtain ⟨q0, q1, qP, qK, qD⟩ := q; exact ⟨q0, q1, qP, va_K.moved (u := U) (U := U.calling g mk a) (Vm.Alike.refl U.vm) qK, qD⟩, fun U hU hW => ⟨rfl, by rw [hU], by rw [hU]; exact hPc, va_K.moved hW.alike hKc0, hDc.weaken (fun _ _ _ _ => trivial)⟩⟩ rfl rfl hl.1 rfl (lv_room (Nat.le_of_ble_eq_true rfl)) dL_law_22 ⟨Nat.le_of_ble_eq_true rfl, Nat.le_of_ble_eq_true rfl⟩) hS (fun q _ h => hFc q h) hFc (fun u_ t_ H1 locs ht_ hvm_ hw_ hB_ hz_ hk_ hS => ?_)
  obtain ⟨d2, b1, b2, b3, b4, b5, b6⟩ := u_
  obtain ⟨hP1_, hK1_, hD1_⟩ := hB_
  rw [ht_] at hP1_
  have hK1_ := va_K.moved hvm_.symm hK1_
  have ed : d = d2 := va_one (i := 0) (j := 0) hK hK1_ rfl rfl
  subst ed
  obtain ⟨hP, hD⟩ := va_join (wr := (wX d qx a1 a2 a3 a4 a5 (cL (c0 L xs)) 0 (fun _ => 0) (fun _ => 0) (fun _ => 0) 0 (fun _ => 0) (fun _ => 0))) (w1 := (wM d qm b1 b2 b3 b4 b5 b6 (cL (c0 L xs)) 0 (fun _ => 0) (fun _ => 0) (fun _ => 0) (fun _ => 0) (fun _ => 0) (fun _ => 0))) hP hD [6] [0, 1, 2, 3, 4, 5] rfl rfl (by decide) (by decide) hk_ hFc hP1_ hD1_
  generalize H1 = H at hP hS ⊢
  have hP : va_P (dC, dI) vwCl ((wX d qx a1 a2 a3 a4 a5 (cL (c0 L xs)) 0 (fun _ => 0) (fun _ => 0) (fun _ => 0) 0 (fun _ => 0) (fun _ => 0)) ++ (wM d qm b1 b2 b3 b4 b5 b6 (cL (c0 L xs)) 0 (fun _ => 0) (fun _ => 0) (fun _ => 0) (fun _ => 0) (fun _ => 0) (fun _ => 0))) H := hP
  have hD : va_D (fun q : Nat => s.heap.size ≤ q) ((wX d qx a1 a2 a3 a4 a5 (cL (c0 L xs)) 0 (fun _ => 0) (fun _ => 0) (fun _ => 0) 0 (fun _ => 0) (fun _ => 0)) ++ (wM d qm b1 b2 b3 b4 b5 b6 (cL (c0 L xs)) 0 (fun _ => 0) (fun _ => 0) (fun _ => 0) (fun _ => 0) (fun _ => 0) (fun _ => 0))) := hD
  refine W.widen (k := 13) (n := 1380) (by omega) (by omega) ?_
  refine lv_astore_n (lv' := [(2, .ref qm), (1, .ref qx), (0, .ref b)]) hx hb dL_law_25 rfl hl (by decide) rfl (fun ls hl => ?_)
  clear hD1_ hP1_ hK1_ hz_ hk_ hFc ht_ hvm_ hDc hPc hw_
  refine ji_const hx hb dL_law_26 ?_
  refine lv_istore_n (lv' := [(3, .int (jI 1)), (2, .ref qm), (1, .ref qx), (0, .ref b)]) hx hb dL_law_27 rfl hl (by decide) rfl (fun ls hl => ?_)
  exact law_loop hL C0 hK _ 1 (by omega) (Nat.lt_succ_self _) 0 (fun _ => 0) (fun _ => 0) (fun _ => 0) Ok_new 0 (fun _ => 0) (fun _ => 0) (fun _ => 0) (fun _ => 0) (fun _ => 0) _ _ hP hD hS ls (lv_sub hl [3, 2, 1, 0] rfl)
end
section
set_option maxHeartbeats 4000000 in
theorem lw_walk (l : Launch) (b : Addr) (xs : List Int32) : MetFree l x (headSpec (Jvm.Cond.code x code maxLocals ret :: tables_1) room_1) (lw_P b xs) (fun _ _ _ _ _ => True) lw_Q := by
  refine MetFree.of_bodyS (code := code) (maxLocals := maxLocals) (ret := ret) (by decide) ?_ ?_
  · intro args s m h hn
    obtain ⟨meth, c, h1, h2, h3, h4, h5, h6, -, -⟩ := Cond.code_spec hn (atoms_spec (ws := Jvm.Cond.code x code maxLocals ret :: tables_1) h _ List.mem_cons_self)
    exact ⟨meth, c, h1, h2, h3, h4, h5, h6⟩
  · intro p e s m args below meth c s₁ B hml0 hP _
    obtain ⟨rfl, hx, hbd, hgv⟩ := hP
    obtain ⟨scr, harrAt, hlist, hof, hsmall⟩ := hx
    obtain ⟨hcb, hkn, -, -⟩ := State.arrayAt?_spec harrAt
    have hown : s.vm.findClass R_law = some m.cls := findClass_of_methodNamed B.named
    have hts0 : ∀ c ∈ (Jvm.Cond.code x code maxLocals ret :: tables_1), c.before #[Value.ref b] s = true := atoms_spec (ws := Jvm.Cond.code x code maxLocals ret :: tables_1) B.pre
    have hts : ∀ w ∈ lw_tbl, w.before #[Value.ref b] s = true := k2_hts_sels lw_privs (fun w hw => hts0 w (List.mem_cons_of_mem _ hw)) lw_privs_ok
    have hml : c.maxLocals = 4 := B.maxLocals_eq (hts0 _ List.mem_cons_self)
    have X₀ : Stand p l e room_1 s m #[Value.ref b] below meth c s₁ [] 0 0 := Stand.of_body B
    have hh0 : s₁.heap = s.heap := by rw [B.state]; rfl
    have hsz : scr.slots.size = xs.length := by rw [← Array.length_toList, hlist, List.length_map]
    have hval : ∀ j : Nat, j < xs.length → scr.slots[j]? = some (.int (xs.getD j 0)) := fun j hj => by
      rw [← Array.getElem?_toList, hlist]
      simp [hj]
    have hbl : b < s.heap.size := (Array.getElem?_eq_some_iff.mp hcb).1
    have hX : va_X b xs.length (fun j => xs.getD j 0) s s.heap := ⟨scr, hcb, hof, hkn, hsz, hval⟩
    have K : W p l e room_1 s m #[Value.ref b] below meth c s₁.heap [] 0 0 (lw_Z below #[Value.ref b] s) (entryFrame m ([Value.ref b] : List Value).toArray 4) := by
      rw [hh0]
      exact whole_start l hbd ⟨B.exec, B.bytes, B.returns, hml, hown, hts, hX, hbl, B.notSynchronized, hgv⟩
    obtain ⟨t, a1, o, b1, b2, b3⟩ := K s₁ rfl X₀
    exact ⟨t, o, a1, b1, b2, b3⟩
theorem lw_pre_spec {args : Array Value} {s : State} (h : (Jvm.Cond.and given_1 narrow_1).before args s = true) (hr : rest_1_c.before args s = true) : ∃ (b : Addr) (xs : List Int32), lw_P b xs args s := by
  have hs := flat_of_before _ h
  have hq := flat_of_before _ hr
  have hc : (Cond.count 1).before args s = true := hs _ (by decide +kernel)
  have harr : (Cond.arrayOf (.arg 0) .int).before args s = true := hs _ (by decide +kernel)
  have hle : (Cond.le (.length (.arg 0)) (.int 257)).before args s = true := hs _ (by decide +kernel)
  have hlen : (Cond.isInt (.length (.arg 0))).before args s = true := hq _ (by decide +kernel)
  have hall : (Cond.all (.arg 0) (.isInt (.elem (.arg 0) (.index 0)))).before args s = true := hq _ (by decide +kernel)
  obtain ⟨b, xs, hb, hx⟩ := State.ints_of_pre rfl harr hlen hall
  have hsm : xs.length < 2 ^ 31 := hx.choose_spec.2.2.2
  have hev : (Term.length (.arg 0)).eval args s none [] s = some (.int xs.length.toInt32) := hx.length_eval hb
  have hv := Cond.le_ints hev (show (Term.int 257).eval args s none [] s = some (.int 257) from rfl)
  have hd : xs.length.toInt32 ≤ 257 := by
    simpa [Cond.before, Cond.holds, hv] using hle
  have hN : xs.length ≤ 257 := (Int32.ofNat_le_ofNat hsm (by decide)).mp (show Int32.ofNat xs.length ≤ Int32.ofNat 257 from hd)
  exact ⟨b, xs, Cond.one_arg hc (show args[0]? = some (.ref b) from hb), hx, hN, h⟩
theorem lw_comes (l : Launch) : Comes l x (Jvm.Cond.code x code maxLocals ret :: tables_1) room_1 (fun tb e args s => Calls_1 tb e args s ∧ rest_1 tb e args s ∧ Pre_1 tb e args s)
    (fun _ _ args s o t => lw_Q args s o t) := by
  intro p e ha hc hk s m args below hf hfit hheap happ hpre
  obtain ⟨b, xs, hP⟩ := lw_pre_spec hpre.2.2 hpre.2.1
  obtain ⟨k, o, h1, h2, h3, hQ⟩ := lw_walk l b xs p e ha hc hk s m args below hf ((Spec.applies_iff_loose hf).mp happ).1 hP trivial
  exact ⟨k, o, h1, h2, h3, hQ⟩
theorem lw_frame {s t : State} {o : Outcome} {args : Array Value} (h : Framed s o t [] 600000 7290000) :
    Framed s o t (fieldLocs frame_1_writes args s ++ arrayLocs frame_1_arrays args s ++ staticLocs frame_1_statics s) 600000 7290000 := h
theorem lw_limb (L : Cond) (hL : ∀ (args : Array Value) (s t : State), L.after args s (.returned (some (.int 1))) t = true) :
    ArmFor flags0 classFile x code maxLocals ret World_1 tables_1 room_1 Calls_1 rest_1 Pre_1
      (fun tb e a s o t => postC L tb e a s o t ∧ Framed s o t (fieldLocs frame_1_writes a s ++ arrayLocs frame_1_arrays a s ++ staticLocs frame_1_statics s) 600000 7290000) := by
  intro l _ _ _ p e ha hc hk s m args below hf hfit hheap happ hpre
  obtain ⟨k, o, h1, h2, h3, rfl, hF⟩ := lw_comes l p e ha hc hk s m args below hf hfit hheap happ hpre
  exact ⟨k, _, h1, h2, h3, hL args s _, lw_frame hF⟩
theorem i_vc : Claimed_1_1 ∧ Claimed_1_2 := ⟨lw_limb limb_1_1 (fun args s t => by simp [limb_1_1, Cond.after, Cond.holds, Cond.value]), lw_limb limb_1_2 (fun args s t => Cond.after_iff.mpr (by
  first | (rw [show limb_1_2 = Cond.eq .result (.int 1) from rfl, Cond.eq_ints (x := 1) (y := 1) rfl rfl]; simp; done) | (simp [limb_1_2, Cond.value, Term.eval]; done)))⟩
end
